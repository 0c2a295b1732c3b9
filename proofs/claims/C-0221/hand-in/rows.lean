section
/-! rows of kit/rows, as they stand there -/
theorem pk_us {f : Nat → Int32} {k : Nat} {x : Int32} : upd f k x k = x := if_pos rfl
theorem pk_un {f : Nat → Int32} {k j : Nat} {x : Int32} (h : j ≠ k) : upd f k x j = f j := if_neg h
theorem pk_sub {a b : Nat} (h : b ≤ a) : nI a - nI b = nI (a - b) := by
  obtain ⟨c, rfl⟩ : ∃ c, a = c + b := ⟨a - b, by omega⟩
  rw [← nI_add, Int32.add_sub_cancel, Nat.add_sub_cancel]
theorem pk_m1 (n : Nat) : nI (n + 1) + (-1) = nI n := by
  rw [← nI_1, Int32.add_assoc, show (1 : Int32) + (-1) = 0 from rfl, Int32.add_zero]
theorem pk_mul (a b : Nat) : nI a * nI b = nI (a * b) := (Int32.ofNat_mul a b).symm
theorem pk_div {a d : Nat} (ha : a < 2 ^ 31) (h0 : 0 < d) (hd : d < 2 ^ 31) : nI a / nI d = nI (a / d) := by
  apply Int32.toInt_inj.mp
  rw [lg_idiv_nonneg (by rw [nI_toInt ha]; omega) (by rw [nI_toInt hd]; omega), nI_toInt ha, nI_toInt hd, nI_toInt (Nat.lt_of_le_of_lt (Nat.div_le_self a d) ha)]
  first | rfl | exact (Int.natCast_ediv _ _).symm
theorem pk_rem {a d : Nat} (ha : a < 2 ^ 31) (h0 : 0 < d) (hd : d < 2 ^ 31) : nI a - nI a / nI d * nI d = nI (a % d) := by
  rw [pk_div ha h0 hd, pk_mul, pk_sub (Nat.div_mul_le_self a d)]
  exact congrArg nI (by have := Nat.div_add_mod' a d; omega)
theorem pk_ix (x : Int32) {n : Nat} (hn : n < 2 ^ 31) : x < 0 ∨ nI n ≤ x ∨ ∃ j : Nat, j < n ∧ x = nI j := by
  by_cases h : x < 0
  · exact Or.inl h
  · obtain ⟨j, hj, rfl⟩ := nI_of h
    by_cases h2 : j < n
    · exact Or.inr (Or.inr ⟨j, h2, rfl⟩)
    · exact Or.inr (Or.inl (nI_le (by omega) hj))
theorem pk_le {x y : Int32} {A B : Prop} (a b : Nat) (f : a ≤ b → A) (g : b < a → B) (hx : x = nI a := by rfl) (hy : y = nI b := by rfl) (ha : a < 2 ^ 31 := by omega) (hb : b < 2 ^ 31 := by omega) : (x ≤ y → A) ∧ (¬ x ≤ y → B) := by
  subst hx hy
  rw [nI_leI ha hb]
  exact ⟨f, fun z => g (by omega)⟩
theorem pk_lt {x y : Int32} {A B : Prop} (a b : Nat) (f : a < b → A) (g : b ≤ a → B) (hx : x = nI a := by rfl) (hy : y = nI b := by rfl) (ha : a < 2 ^ 31 := by omega) (hb : b < 2 ^ 31 := by omega) : (x < y → A) ∧ (¬ x < y → B) := by
  subst hx hy
  rw [nI_ltI ha hb]
  exact ⟨f, fun z => g (by omega)⟩
theorem pk_eq {x y : Int32} {A B : Prop} (a b : Nat) (f : a = b → A) (g : a ≠ b → B) (hx : x = nI a := by rfl) (hy : y = nI b := by rfl) (ha : a < 2 ^ 31 := by omega) (hb : b < 2 ^ 31 := by omega) : (x = y → A) ∧ (¬ x = y → B) := by
  subst hx hy
  rw [nI_eq ha hb]
  exact ⟨f, g⟩
theorem pk_in {x : Int32} (n N : Nat) (h : n < N) (hx : x = nI n := by rfl) (hN : N < 2 ^ 31 := by omega) : vp_in x N := by
  subst hx
  exact vp_in_nI h hN
theorem pk_cl {x : Int32} (n : Nat) (hx : x = nI n := by rfl) (h : n < 2 ^ 31 := by omega) : x.toNatClampNeg = n := by
  subst hx
  exact nI_clamp h
theorem pk_tn {n : Nat} (h : n < 2 ^ 32) : (nI n).toBitVec.toNat = n := Nat.mod_eq_of_lt h
theorem pk_and (x : Int32) {m : Int32} (k : Nat) (hm : m.toBitVec.toNat = 2 ^ k - 1) : x &&& m = nI (x.toBitVec.toNat % 2 ^ k) := by
  apply Int32.toBitVec_inj.mp
  apply BitVec.eq_of_toNat_eq
  rw [Int32.toBitVec_and, BitVec.toNat_and, hm, Nat.and_two_pow_sub_one_eq_mod]
  show _ = (BitVec.ofNat 32 _).toNat
  rw [BitVec.toNat_ofNat]
  exact (Nat.mod_eq_of_lt (Nat.lt_of_le_of_lt (Nat.mod_le _ _) x.toBitVec.isLt)).symm
theorem pk_andN {n : Nat} (h : n < 2 ^ 32) {m : Int32} (k : Nat) (hm : m.toBitVec.toNat = 2 ^ k - 1) : nI n &&& m = nI (n % 2 ^ k) := by
  rw [pk_and _ k hm, pk_tn h]
theorem pk_shl (a s : Int32) (k : Nat) (hs : (s.toBitVec.smod 32).toNat = k) : (a <<< s).toBitVec.toNat = a.toBitVec.toNat * 2 ^ k % 2 ^ 32 := by
  show (a.toBitVec <<< (s.toBitVec.smod 32).toNat).toNat = _
  rw [hs, BitVec.toNat_shiftLeft, Nat.shiftLeft_eq]
theorem pk_shlN {n : Nat} (s : Int32) (k : Nat) (hs : (s.toBitVec.smod 32).toNat = k) (h : n * 2 ^ k < 2 ^ 32) : nI n <<< s = nI (n * 2 ^ k) := by
  apply Int32.toBitVec_inj.mp
  apply BitVec.eq_of_toNat_eq
  have hn : n < 2 ^ 32 := Nat.lt_of_le_of_lt (Nat.le_mul_of_pos_right n (Nat.two_pow_pos k)) h
  rw [pk_shl _ _ k hs, pk_tn hn, pk_tn h, Nat.mod_eq_of_lt h]
theorem pk_shr (a s : Int32) (k : Nat) (hs : (s.toBitVec.smod 32).toNat = k) : (a >>> s).toInt = a.toInt >>> k := by
  show (a.toBitVec.sshiftRight (s.toBitVec.smod 32).toNat).toInt = _
  rw [hs, BitVec.toInt_sshiftRight]
  rfl
theorem pk_shrN {n : Nat} (h : n < 2 ^ 31) (s : Int32) (k : Nat) (hs : (s.toBitVec.smod 32).toNat = k) : nI n >>> s = nI (n / 2 ^ k) := by
  apply Int32.toInt_inj.mp
  have h2 : n / 2 ^ k ≤ n := Nat.div_le_self _ _
  rw [pk_shr _ _ k hs, nI_toInt h, nI_toInt (by omega), Int.shiftRight_eq_div_pow]
  rfl
theorem s_l : ∀ n, n < 32 → ((nI n &&& 31).toBitVec.smod 32).toNat = n := by decide +kernel
theorem nx_and (a b : Nat) : nI a &&& nI b = nI (a &&& b) := by
  apply Int32.toBitVec_inj.1
  show BitVec.ofNat 32 a &&& BitVec.ofNat 32 b = BitVec.ofNat 32 (a &&& b)
  apply BitVec.eq_of_getLsbD_eq
  intro i hi
  simp [hi]
theorem nx_xor (a b : Nat) : nI a ^^^ nI b = nI (a ^^^ b) := by
  apply Int32.toBitVec_inj.1
  show BitVec.ofNat 32 a ^^^ BitVec.ofNat 32 b = BitVec.ofNat 32 (a ^^^ b)
  apply BitVec.eq_of_getLsbD_eq
  intro i hi
  simp [hi]
end
section
/-! masks: sets of small numbers as naturals, by testBit -/
noncomputable def ar_b (P : Prop) : Bool := @decide P (Classical.propDecidable P)
theorem ar_b_t {P : Prop} : ar_b P = true ↔ P := ⟨fun h => @of_decide_eq_true P (Classical.propDecidable P) h, fun h => @decide_eq_true P (Classical.propDecidable P) h⟩
theorem ar_b_f {P : Prop} : ¬ (ar_b P = true) ↔ ¬ P := not_congr ar_b_t
noncomputable def ar_mk (P : Nat → Prop) : Nat → Nat
  | 0 => 0
  | k + 1 => if ar_b (P k) = true then ar_mk P k ||| 2 ^ k else ar_mk P k
theorem ar_mk_tb (P : Nat → Prop) (k i : Nat) : (ar_mk P k).testBit i = true ↔ i < k ∧ P i := by
  induction k with
  | zero => simp [ar_mk]
  | succ k ih =>
    by_cases h : P k
    · rw [ar_mk, if_pos (ar_b_t.mpr h), Nat.testBit_or, Bool.or_eq_true, ih, Nat.testBit_two_pow, decide_eq_true_eq]
      constructor
      · rintro (⟨a, b⟩ | rfl)
        · exact ⟨by omega, b⟩
        · exact ⟨by omega, h⟩
      · rintro ⟨a, b⟩
        by_cases e : k = i
        · exact Or.inr e
        · exact Or.inl ⟨by omega, b⟩
    · rw [ar_mk, if_neg (ar_b_f.mpr h), ih]
      constructor
      · rintro ⟨a, b⟩
        exact ⟨by omega, b⟩
      · rintro ⟨a, b⟩
        refine ⟨?_, b⟩
        rcases Nat.lt_or_ge i k with z | z
        · exact z
        · exact absurd ((show i = k by omega) ▸ b) h
theorem ar_mk_lt (P : Nat → Prop) (k : Nat) : ar_mk P k < 2 ^ k := by
  apply Nat.lt_pow_two_of_testBit
  intro i hi
  cases h : (ar_mk P k).testBit i
  · rfl
  · have := ((ar_mk_tb P k i).mp h).1
    omega
theorem ar_ext {a b : Nat} (h : ∀ i, a.testBit i = true ↔ b.testBit i = true) : a = b := Nat.eq_of_testBit_eq (fun i => Bool.eq_iff_iff.mpr (h i))
theorem ar_hi {m k i : Nat} (h : m < 2 ^ k) (hb : m.testBit i = true) : i < k := by
  rcases Nat.lt_or_ge i k with z | z
  · exact z
  · rw [Nat.testBit_lt_two_pow (Nat.lt_of_lt_of_le h (Nat.pow_le_pow_right (by decide) z))] at hb
    cases hb
def ar_sb (a b : Nat) : Prop := ∀ i, a.testBit i = true → b.testBit i = true
def ar_dj (a b : Nat) : Prop := ∀ i, a.testBit i = true → b.testBit i = true → False
theorem ar_sb_rf (a : Nat) : ar_sb a a := fun _ h => h
theorem ar_sb_tr {a b c : Nat} (h : ar_sb a b) (g : ar_sb b c) : ar_sb a c := fun i z => g i (h i z)
theorem ar_sb_an {a b : Nat} (h : ar_sb a b) (g : ar_sb b a) : a = b := ar_ext fun i => ⟨h i, g i⟩
theorem ar_sb_le {a b : Nat} (h : ar_sb a b) : a ≤ b := Nat.le_of_testBit h
theorem ar_sb_0 (a : Nat) : ar_sb 0 a := by
  intro i h
  rw [Nat.zero_testBit] at h
  cases h
theorem ar_or_tb (a b i : Nat) : (a ||| b).testBit i = true ↔ a.testBit i = true ∨ b.testBit i = true := by
  rw [Nat.testBit_or, Bool.or_eq_true]
theorem ar_and_tb (a b i : Nat) : (a &&& b).testBit i = true ↔ a.testBit i = true ∧ b.testBit i = true := by
  rw [Nat.testBit_and, Bool.and_eq_true]
theorem ar_pow_tb (c i : Nat) : (2 ^ c).testBit i = true ↔ c = i := by
  rw [Nat.testBit_two_pow, decide_eq_true_eq]
theorem ar_ob_tb (a c i : Nat) : (a ||| 2 ^ c).testBit i = true ↔ a.testBit i = true ∨ c = i := by
  rw [ar_or_tb, ar_pow_tb]
theorem ar_0_tb {i : Nat} : ¬ Nat.testBit 0 i = true := by
  rw [Nat.zero_testBit]
  exact Bool.false_ne_true
theorem ar_nt {a i : Nat} (h : a.testBit i = false) : ¬ a.testBit i = true := by rw [h]; exact Bool.false_ne_true
/-- a without b -/
def ar_dif (a b : Nat) : Nat := a ^^^ (a &&& b)
theorem ar_dif_tb (a b i : Nat) : (ar_dif a b).testBit i = true ↔ a.testBit i = true ∧ ¬ b.testBit i = true := by
  unfold ar_dif
  rw [Nat.testBit_xor, Nat.testBit_and]
  cases a.testBit i <;> cases b.testBit i <;> simp
theorem ar_dif_lt {a b k : Nat} (h : a < 2 ^ k) : ar_dif a b < 2 ^ k := Nat.xor_lt_two_pow h (Nat.lt_of_le_of_lt Nat.and_le_left h)
theorem ar_dif_0 {a b : Nat} : ar_dif a b = 0 ↔ ar_sb a b := by
  constructor
  · intro h i hi
    cases hb : b.testBit i
    · have : (ar_dif a b).testBit i = true := (ar_dif_tb a b i).mpr ⟨hi, ar_nt hb⟩
      rw [h] at this
      exact absurd this ar_0_tb
    · rfl
  · intro h
    apply ar_ext
    intro i
    rw [ar_dif_tb]
    exact ⟨fun z => absurd (h i z.1) z.2, fun z => absurd z ar_0_tb⟩
theorem ar_and_0 {a b : Nat} : a &&& b = 0 ↔ ar_dj a b := by
  constructor
  · intro h i ha hb
    have : (a &&& b).testBit i = true := (ar_and_tb a b i).mpr ⟨ha, hb⟩
    rw [h] at this
    exact ar_0_tb this
  · intro h
    apply ar_ext
    intro i
    rw [ar_and_tb]
    exact ⟨fun z => (h i z.1 z.2).elim, fun z => absurd z ar_0_tb⟩
theorem ar_and_a {a b : Nat} : a &&& b = a ↔ ar_sb a b := by
  constructor
  · intro h i ha
    rw [← h] at ha
    exact ((ar_and_tb a b i).mp ha).2
  · intro h
    apply ar_ext
    intro i
    rw [ar_and_tb]
    exact ⟨fun z => z.1, fun z => ⟨z, h i z⟩⟩
theorem ar_ndj {a b : Nat} (h : ¬ ar_dj a b) : ∃ i, a.testBit i = true ∧ b.testBit i = true :=
  Classical.byContradiction fun z => h fun i ha hb => z ⟨i, ha, hb⟩
theorem ar_nsb {a b : Nat} (h : ¬ ar_sb a b) : ∃ i, a.testBit i = true ∧ ¬ b.testBit i = true :=
  Classical.byContradiction fun z => h fun i ha => Classical.byContradiction fun hb => z ⟨i, ha, hb⟩
theorem ar_dj_sy {a b : Nat} (h : ar_dj a b) : ar_dj b a := fun i x y => h i y x
theorem ar_p8 {n : Nat} (h : n ≤ 8) : 2 ^ n ≤ 256 := Nat.pow_le_pow_right (by decide) h
theorem ar_sb_lt {a b k : Nat} (h : ar_sb a b) (hb : b < 2 ^ k) : a < 2 ^ k := Nat.lt_of_le_of_lt (ar_sb_le h) hb
theorem ar_full_tb (n i : Nat) : (2 ^ n - 1).testBit i = true ↔ i < n := by
  rw [Nat.testBit_two_pow_sub_one, decide_eq_true_eq]
/-! the ints -/
theorem ar_or (a b : Nat) : nI a ||| nI b = nI (a ||| b) := by
  apply Int32.toBitVec_inj.1
  show BitVec.ofNat 32 a ||| BitVec.ofNat 32 b = BitVec.ofNat 32 (a ||| b)
  apply BitVec.eq_of_getLsbD_eq
  intro i hi
  simp [hi]
theorem ar_m1 : (-1 : Int32) = nI 4294967295 := by decide +kernel
theorem ar_andn {a : Nat} (b : Nat) (h : a < 2 ^ 31) : nI a &&& (nI b ^^^ (-1)) = nI (ar_dif a b) := by
  rw [ar_m1, nx_xor, nx_and]
  apply congrArg nI
  apply ar_ext
  intro i
  rw [ar_dif_tb, ar_and_tb, Nat.testBit_xor, show (4294967295 : Nat) = 2 ^ 32 - 1 from rfl, Nat.testBit_two_pow_sub_one]
  constructor
  · rintro ⟨x, y⟩
    refine ⟨x, ?_⟩
    have hi : i < 31 := ar_hi h x
    rw [decide_eq_true (show i < 32 by omega)] at y
    intro z
    rw [z] at y
    cases y
  · rintro ⟨x, y⟩
    have hi : i < 31 := ar_hi h x
    rw [decide_eq_true (show i < 32 by omega)]
    refine ⟨x, ?_⟩
    cases z : b.testBit i
    · rfl
    · exact absurd z y
theorem ar_z {m : Nat} (h : m < 2 ^ 31) : nI m = 0 ↔ m = 0 := by
  rw [← nI_0, nI_eq h (by decide)]
theorem ar_andn_z {a : Nat} (b : Nat) (h : a < 2 ^ 31) : nI a &&& (nI b ^^^ (-1)) = 0 ↔ ar_sb a b := by
  rw [ar_andn b h, ar_z (ar_dif_lt h), ar_dif_0]
theorem ar_and_z {a : Nat} (b : Nat) (h : a < 2 ^ 31) : nI a &&& nI b = 0 ↔ ar_dj a b := by
  rw [nx_and, ar_z (Nat.lt_of_le_of_lt Nat.and_le_left h), ar_and_0]
theorem ar_and_e {a : Nat} (b : Nat) (h : a < 2 ^ 31) : nI a &&& nI b = nI a ↔ ar_sb a b := by
  rw [nx_and, nI_eq (Nat.lt_of_le_of_lt Nat.and_le_left h) h, ar_and_a]
theorem ar_shl {c : Nat} (h : c < 31) : (1 : Int32) <<< (nI c &&& 31) = nI (2 ^ c) := by
  have h2 : 2 ^ c < 2 ^ 31 := Nat.pow_lt_pow_right (by decide) h
  have e := pk_shlN (n := 1) (nI c &&& 31) c (s_l c (by omega)) (by omega)
  rw [Nat.one_mul] at e
  exact e
theorem ar_shl2 {c : Nat} (h : c < 30) : (2 : Int32) <<< (nI c &&& 31) = nI (2 ^ (c + 1)) := by
  have h2 : 2 ^ c < 2 ^ 30 := Nat.pow_lt_pow_right (by decide) h
  have e := pk_shlN (n := 2) (nI c &&& 31) c (s_l c (by omega)) (by omega)
  rw [Nat.mul_comm 2, ← Nat.pow_succ] at e
  exact e
theorem ar_all {n : Nat} (h : n ≤ 8) : ((1 : Int32) <<< (nI n &&& 31)) - 1 = nI (2 ^ n - 1) := by
  rw [ar_shl (by omega)]
  exact pk_sub (b := 1) (Nat.two_pow_pos n)
theorem ar_bit {s c : Nat} (hs : s < 2 ^ 31) (hc : c < 32) : (nI s >>> (nI c &&& 31)) &&& 1 = nI (s.testBit c).toNat := by
  rw [pk_shrN hs (nI c &&& 31) c (s_l c hc)]
  show nI (s / 2 ^ c) &&& nI 1 = _
  rw [nx_and, Nat.and_one_is_mod, Nat.toNat_testBit]
theorem ar_bit1 {s c : Nat} (hs : s < 2 ^ 31) (hc : c < 32) : (nI s >>> (nI c &&& 31)) &&& 1 = 1 ↔ s.testBit c = true := by
  rw [ar_bit hs hc]
  cases s.testBit c
  · exact ⟨fun h => absurd h (by decide), fun h => absurd h (by decide)⟩
  · exact ⟨fun _ => rfl, fun _ => rfl⟩
theorem ar_one0 : ((List.range 256).all fun c => ((c &&& (c - 1)) != 0) || (List.range 8).all fun i => (List.range 8).all fun j => (!c.testBit i) || (!c.testBit j) || i == j) = true := by decide +kernel
theorem ar_one (c : Nat) (hc : c < 256) (h : c &&& (c - 1) = 0) (i : Nat) (hi : i < 8) (j : Nat) (hj : j < 8) (h1 : c.testBit i = true) (h2 : c.testBit j = true) : i = j := by
  have a := List.all_eq_true.mp ar_one0 c (List.mem_range.mpr hc)
  rw [h] at a
  have b := List.all_eq_true.mp (List.all_eq_true.mp (show ((List.range 8).all fun i => (List.range 8).all fun j => (!c.testBit i) || (!c.testBit j) || i == j) = true from a) i (List.mem_range.mpr hi)) j (List.mem_range.mpr hj)
  rw [h1, h2] at b
  exact eq_of_beq b
theorem ar_single {c : Nat} (hc : c < 256) (h : nI c &&& (nI c - 1) = 0) {i j : Nat} (hi : c.testBit i = true) (hj : c.testBit j = true) : i = j := by
  have a : i < 8 := ar_hi (k := 8) hc hi
  have b : j < 8 := ar_hi (k := 8) hc hj
  rcases Nat.eq_zero_or_pos c with z | z
  · rw [z] at hi
    exact absurd hi ar_0_tb
  · rw [show nI c - 1 = nI (c - 1) from pk_sub (b := 1) z, nx_and, ar_z (Nat.lt_of_le_of_lt Nat.and_le_left (by omega))] at h
    exact ar_one c hc h i a j b hi hj
/-! counting -/
noncomputable def ar_ct (S : Nat → Prop) : Nat → Nat
  | 0 => 0
  | k + 1 => ar_ct S k + (if ar_b (S k) = true then 1 else 0)
theorem ar_ct_t {S : Nat → Prop} {k : Nat} (h : S k) : ar_ct S (k + 1) = ar_ct S k + 1 := by
  rw [ar_ct, if_pos (ar_b_t.mpr h)]
theorem ar_ct_f {S : Nat → Prop} {k : Nat} (h : ¬ S k) : ar_ct S (k + 1) = ar_ct S k := by
  rw [ar_ct, if_neg (ar_b_f.mpr h), Nat.add_zero]
theorem ar_ct_s (S : Nat → Prop) (k : Nat) : ar_ct S k ≤ ar_ct S (k + 1) ∧ ar_ct S (k + 1) ≤ ar_ct S k + 1 := by
  by_cases h : S k
  · rw [ar_ct_t h]; omega
  · rw [ar_ct_f h]; omega
theorem ar_ct_mo (S : Nat → Prop) {a b : Nat} (h : a ≤ b) : ar_ct S a ≤ ar_ct S b := by
  induction b with
  | zero => rw [Nat.le_zero.mp h]; exact Nat.le_refl _
  | succ b ih =>
    rcases Nat.lt_or_ge b a with z | z
    · rw [show a = b + 1 by omega]; exact Nat.le_refl _
    · exact Nat.le_trans (ih z) (ar_ct_s S b).1
theorem ar_ct_lt {S : Nat → Prop} {a b : Nat} (h : S a) (hb : a < b) : ar_ct S a < ar_ct S b := by
  have := ar_ct_mo S (show a + 1 ≤ b by omega)
  rw [ar_ct_t h] at this
  omega
theorem ar_ct_le (S : Nat → Prop) (k : Nat) : ar_ct S k ≤ k := by
  induction k with
  | zero => exact Nat.le_refl _
  | succ k ih => have := (ar_ct_s S k).2; omega
theorem ar_ct_inj {S : Nat → Prop} {a b : Nat} (ha : S a) (hb : S b) (h : ar_ct S a = ar_ct S b) : a = b := by
  rcases Nat.lt_trichotomy a b with z | z | z
  · have := ar_ct_lt ha z; omega
  · exact z
  · have := ar_ct_lt hb z; omega
theorem ar_ct_iff {S : Nat → Prop} {a b : Nat} (ha : S a) (hb : S b) : ar_ct S a < ar_ct S b ↔ a < b := by
  constructor
  · intro h
    rcases Nat.lt_or_ge a b with z | z
    · exact z
    · have := ar_ct_mo S z; omega
  · exact ar_ct_lt ha
theorem ar_ct_inv {S : Nat → Prop} {m j : Nat} (h : j < ar_ct S m) : ∃ s, s < m ∧ S s ∧ ar_ct S s = j := by
  induction m with
  | zero => exact absurd h (Nat.not_lt_zero _)
  | succ m ih =>
    rcases Nat.lt_or_ge j (ar_ct S m) with z | z
    · obtain ⟨s, a, b, c⟩ := ih z
      exact ⟨s, by omega, b, c⟩
    · by_cases g : S m
      · rw [ar_ct_t g] at h
        exact ⟨m, by omega, g, by omega⟩
      · rw [ar_ct_f g] at h
        omega
theorem ar_ct_ins {S : Nat → Prop} {t : Nat} (ht : ¬ S t) (m : Nat) : ar_ct (fun s => S s ∨ s = t) m = ar_ct S m + (if t < m then 1 else 0) := by
  induction m with
  | zero => rfl
  | succ m ih =>
    by_cases e : m = t
    · rw [ar_ct_t (S := fun s => S s ∨ s = t) (Or.inr e), ih, ar_ct_f (e ▸ ht), if_neg (by omega), if_pos (by omega)]
    · by_cases g : S m
      · rw [ar_ct_t (S := fun s => S s ∨ s = t) (Or.inl g), ih, ar_ct_t g]
        by_cases l : t < m
        · rw [if_pos l, if_pos (by omega)]
        · rw [if_neg l, if_neg (by omega)]
      · rw [ar_ct_f (S := fun s => S s ∨ s = t) (fun z => z.elim g e), ih, ar_ct_f g]
        by_cases l : t < m
        · rw [if_pos l, if_pos (by omega)]
        · rw [if_neg l, if_neg (by omega)]
theorem ar_ct_sub {S T : Nat → Prop} {m : Nat} (h : ∀ i, i < m → S i → T i) : ar_ct S m ≤ ar_ct T m := by
  induction m with
  | zero => exact Nat.le_refl _
  | succ m ih =>
    have i1 := ih (fun i hi => h i (by omega))
    by_cases g : S m
    · rw [ar_ct_t g, ar_ct_t (h m (by omega) g)]; omega
    · rw [ar_ct_f g]
      exact Nat.le_trans i1 (ar_ct_s T m).1
theorem ar_ct_str {S T : Nat → Prop} {m c : Nat} (h : ∀ i, i < m → S i → T i) (hc : c < m) (h1 : T c) (h2 : ¬ S c) : ar_ct S m < ar_ct T m := by
  have a := ar_ct_ins h2 m
  rw [if_pos hc] at a
  have b : ar_ct (fun s => S s ∨ s = c) m ≤ ar_ct T m := ar_ct_sub (fun i hi z => z.elim (h i hi) (fun e => e ▸ h1))
  omega
theorem ar_ct_0 {S : Nat → Prop} {m : Nat} (h : ∀ i, i < m → ¬ S i) : ar_ct S m = 0 := by
  induction m with
  | zero => rfl
  | succ m ih => rw [ar_ct_f (h m (by omega)), ih (fun i hi => h i (by omega))]
theorem ar_ct_eq {S T : Nat → Prop} (h : ∀ i, S i ↔ T i) : S = T := funext fun i => propext (h i)
/-- the number of members of a mask, of those below n -/
noncomputable def ar_pc (n m : Nat) : Nat := ar_ct (fun i => m.testBit i = true) n
theorem ar_pc_le (n m : Nat) : ar_pc n m ≤ n := ar_ct_le _ _
theorem ar_pc_sb {n a b : Nat} (h : ar_sb a b) : ar_pc n a ≤ ar_pc n b := ar_ct_sub fun i _ => h i
theorem ar_pc_lt {n a b : Nat} (h : ar_sb a b) (hb : b < 2 ^ n) (ne : a ≠ b) : ar_pc n a < ar_pc n b := by
  have : ¬ ar_sb b a := fun z => ne (ar_sb_an h z)
  obtain ⟨i, x, y⟩ := ar_nsb this
  exact ar_ct_str (c := i) (fun j _ => h j) (ar_hi hb x) x y
theorem ar_pc_z {n a : Nat} (ha : a < 2 ^ n) (h : ar_pc n a = 0) : a = 0 := by
  apply Classical.byContradiction
  intro z
  have := ar_pc_lt (ar_sb_0 a) ha (Ne.symm z)
  omega
end
section
/-! the sets of claims: definitions (as the reference has them) and what holds of them -/
noncomputable def ar_at (n : Nat) (R : Nat → Nat → Prop) (s : Nat) : Nat := ar_mk (fun b => ∃ a, s.testBit a = true ∧ R a b) n
noncomputable def ar_df (n p : Nat) (R : Nat → Nat → Prop) (s : Nat) : Nat := ar_mk (fun b => p.testBit b = true ∧ ∀ a, R a b → (ar_at n R s).testBit a = true) n
noncomputable def ar_H (n : Nat) (R : Nat → Nat → Prop) (a : Nat) : Nat := ar_mk (fun b => R a b) n
noncomputable def ar_B (n : Nat) (R : Nat → Nat → Prop) (b : Nat) : Nat := ar_mk (fun a => R a b) n
def ar_OK (n p : Nat) (R : Nat → Nat → Prop) : Prop := 2 ≤ n ∧ n ≤ 8 ∧ p < 2 ^ n ∧ ∀ a b, R a b → p.testBit a = true ∧ p.testBit b = true
def ar_pf (p : Nat) (R : Nat → Nat → Prop) (s : Nat) : Prop := ar_sb s p ∧ ∀ a b, s.testBit a = true → s.testBit b = true → R a b → False
def ar_ad (n p : Nat) (R : Nat → Nat → Prop) (s : Nat) : Prop := ar_pf p R s ∧ ar_sb s (ar_df n p R s)
def ar_cp (n p : Nat) (R : Nat → Nat → Prop) (s : Nat) : Prop := ar_ad n p R s ∧ ar_sb (ar_df n p R s) s
noncomputable def ar_rc (n : Nat) (R : Nat → Nat → Prop) (s : Nat) : Nat := s ||| ar_at n R s
def ar_pp (a b : Nat) : Prop := a ≠ b ∧ ar_sb a b
def ar_K (n p : Nat) (R : Nat → Nat → Prop) (k s : Nat) : Prop :=
  match k with
  | 0 => ar_ad n p R s
  | 1 => ar_cp n p R s
  | 2 => ar_ad n p R s ∧ ∀ t, ar_ad n p R t → ¬ ar_pp s t
  | 3 => ar_pf p R s ∧ ar_rc n R s = p
  | 4 => ar_pf p R s ∧ ∀ t, ar_pf p R t → ¬ ar_pp (ar_rc n R s) (ar_rc n R t)
  | 5 => ar_cp n p R s ∧ ∀ t, ar_cp n p R t → ¬ ar_pp (ar_rc n R s) (ar_rc n R t)
  | _ => False
section
variable {n p : Nat} {R : Nat → Nat → Prop}
theorem ar_RL (O : ar_OK n p R) {a b : Nat} (h : R a b) : a < n ∧ b < n := ⟨ar_hi O.2.2.1 (O.2.2.2 a b h).1, ar_hi O.2.2.1 (O.2.2.2 a b h).2⟩
theorem ar_H_tb (O : ar_OK n p R) (a b : Nat) : (ar_H n R a).testBit b = true ↔ R a b := by
  unfold ar_H
  rw [ar_mk_tb]
  exact ⟨fun h => h.2, fun h => ⟨(ar_RL O h).2, h⟩⟩
theorem ar_B_tb (O : ar_OK n p R) (b a : Nat) : (ar_B n R b).testBit a = true ↔ R a b := by
  unfold ar_B
  rw [ar_mk_tb]
  exact ⟨fun h => h.2, fun h => ⟨(ar_RL O h).1, h⟩⟩
theorem ar_at_tb (O : ar_OK n p R) (s b : Nat) : (ar_at n R s).testBit b = true ↔ ∃ a, s.testBit a = true ∧ R a b := by
  unfold ar_at
  rw [ar_mk_tb]
  exact ⟨fun h => h.2, fun h => ⟨h.elim fun a z => (ar_RL O z.2).2, h⟩⟩
theorem ar_df_tb (O : ar_OK n p R) (s b : Nat) : (ar_df n p R s).testBit b = true ↔ p.testBit b = true ∧ ∀ a, R a b → (ar_at n R s).testBit a = true := by
  unfold ar_df
  rw [ar_mk_tb]
  exact ⟨fun h => h.2, fun h => ⟨ar_hi O.2.2.1 h.1, h⟩⟩
theorem ar_at_lt (s : Nat) : ar_at n R s < 2 ^ n := ar_mk_lt _ _
theorem ar_df_lt (s : Nat) : ar_df n p R s < 2 ^ n := ar_mk_lt _ _
theorem ar_H_lt (s : Nat) : ar_H n R s < 2 ^ n := ar_mk_lt _ _
theorem ar_B_lt (s : Nat) : ar_B n R s < 2 ^ n := ar_mk_lt _ _
theorem ar_at_p (O : ar_OK n p R) (s : Nat) : ar_sb (ar_at n R s) p := by
  intro b hb
  obtain ⟨a, _, h⟩ := (ar_at_tb O s b).mp hb
  exact (O.2.2.2 a b h).2
theorem ar_df_p (O : ar_OK n p R) (s : Nat) : ar_sb (ar_df n p R s) p := fun b hb => ((ar_df_tb O s b).mp hb).1
theorem ar_H_p (O : ar_OK n p R) (s : Nat) : ar_sb (ar_H n R s) p := fun b hb => (O.2.2.2 _ _ ((ar_H_tb O s b).mp hb)).2
theorem ar_B_p (O : ar_OK n p R) (s : Nat) : ar_sb (ar_B n R s) p := fun b hb => (O.2.2.2 _ _ ((ar_B_tb O s b).mp hb)).1
theorem ar_at_mo (O : ar_OK n p R) {s t : Nat} (h : ar_sb s t) : ar_sb (ar_at n R s) (ar_at n R t) := by
  intro b hb
  obtain ⟨a, x, y⟩ := (ar_at_tb O s b).mp hb
  exact (ar_at_tb O t b).mpr ⟨a, h a x, y⟩
theorem ar_df_mo (O : ar_OK n p R) {s t : Nat} (h : ar_sb s t) : ar_sb (ar_df n p R s) (ar_df n p R t) := by
  intro b hb
  obtain ⟨x, y⟩ := (ar_df_tb O s b).mp hb
  exact (ar_df_tb O t b).mpr ⟨x, fun a r => ar_at_mo O h a (y a r)⟩
theorem ar_ad_0 : ar_ad n p R 0 := ⟨⟨ar_sb_0 p, fun a _ h _ _ => ar_0_tb h⟩, ar_sb_0 _⟩
theorem ar_pf_lt (O : ar_OK n p R) {s : Nat} (h : ar_pf p R s) : s < 2 ^ n := ar_sb_lt h.1 O.2.2.1
theorem ar_256 (O : ar_OK n p R) {s : Nat} (h : s < 2 ^ n) : s < 256 := Nat.lt_of_lt_of_le h (ar_p8 O.2.1)
theorem ar_31 (O : ar_OK n p R) {s : Nat} (h : s < 2 ^ n) : s < 2 ^ 31 := Nat.lt_trans (ar_256 O h) (by decide)
theorem ar_p31 (O : ar_OK n p R) : p < 2 ^ 31 := ar_31 O O.2.2.1
theorem ar_pf_sub {s t : Nat} (h : ar_pf p R t) (g : ar_sb s t) : ar_pf p R s := ⟨ar_sb_tr g h.1, fun a b x y => h.2 a b (g a x) (g b y)⟩
/-- what an admissible set defends is admissible -/
theorem ar_ad_df (O : ar_OK n p R) {s : Nat} (h : ar_ad n p R s) : ar_ad n p R (ar_df n p R s) := by
  refine ⟨⟨ar_df_p O s, ?_⟩, ar_df_mo O h.2⟩
  intro a b ha hb r
  obtain ⟨c, hc, rc⟩ := (ar_at_tb O s a).mp (((ar_df_tb O s b).mp hb).2 a r)
  obtain ⟨d, hd, rd⟩ := (ar_at_tb O s c).mp (((ar_df_tb O s a).mp ha).2 c rc)
  exact h.1.2 d c hd hc rd
/-- a set of a property is within a greatest one -/
theorem ar_greatest (P : Nat → Prop) (hP : ∀ s, P s → s < 256) : ∀ k s, 256 - s ≤ k → P s → ∃ t, P t ∧ ar_sb s t ∧ ∀ u, P u → ¬ ar_pp t u := by
  intro k
  induction k with
  | zero => intro s hs h; have := hP s h; omega
  | succ k ih =>
    intro s hs h
    by_cases g : ∃ u, P u ∧ ar_pp s u
    · obtain ⟨u, hu, ne, sb⟩ := g
      have l : s ≤ u := ar_sb_le sb
      have l2 : s ≠ u := ne
      obtain ⟨t, a, b, c⟩ := ih u (by omega) hu
      exact ⟨t, a, ar_sb_tr sb b, c⟩
    · exact ⟨s, h, ar_sb_rf s, fun u hu z => g ⟨u, hu, z⟩⟩
theorem ar_ad_256 (O : ar_OK n p R) (s : Nat) (h : ar_ad n p R s) : s < 256 := ar_256 O (ar_pf_lt O h.1)
theorem ar_cp_256 (O : ar_OK n p R) (s : Nat) (h : ar_cp n p R s) : s < 256 := ar_ad_256 O s h.1
/-- a greatest admissible set is complete -/
theorem ar_gr_cp (O : ar_OK n p R) {s : Nat} (h : ar_ad n p R s) (g : ∀ t, ar_ad n p R t → ¬ ar_pp s t) : ar_cp n p R s := by
  refine ⟨h, ?_⟩
  by_cases e : s = ar_df n p R s
  · rw [← e]; exact ar_sb_rf s
  · exact absurd ⟨e, h.2⟩ (g _ (ar_ad_df O h))
theorem ar_npp {s t : Nat} : ¬ ar_pp s t ↔ t = s ∨ ¬ ar_sb s t := by
  constructor
  · intro h
    by_cases e : t = s
    · exact Or.inl e
    · exact Or.inr fun z => h ⟨Ne.symm e, z⟩
  · rintro (rfl | h) z
    · exact z.1 rfl
    · exact h z.2
theorem ar_K2 (O : ar_OK n p R) (s : Nat) : ar_K n p R 2 s ↔ ar_cp n p R s ∧ ∀ t, ar_cp n p R t → ¬ ar_pp s t := by
  constructor
  · rintro ⟨a, b⟩
    exact ⟨ar_gr_cp O a b, fun t ht => b t ht.1⟩
  · rintro ⟨a, b⟩
    refine ⟨a.1, ?_⟩
    rintro t ht ⟨ne, sb⟩
    obtain ⟨u, hu, su, gu⟩ := ar_greatest (ar_ad n p R) (ar_ad_256 O) _ t (Nat.le_refl _) ht
    refine b u (ar_gr_cp O hu gu) ⟨?_, ar_sb_tr sb su⟩
    intro e
    exact ne (ar_sb_an sb (e ▸ su))
theorem ar_K3 (O : ar_OK n p R) (s : Nat) : ar_K n p R 3 s ↔ ar_cp n p R s ∧ ar_rc n R s = p := by
  constructor
  · rintro ⟨a, e⟩
    have hp : ∀ c, p.testBit c = true → s.testBit c = true ∨ ∃ d, s.testBit d = true ∧ R d c := by
      intro c hc
      rw [← e] at hc
      unfold ar_rc at hc
      rw [ar_or_tb, ar_at_tb O] at hc
      exact hc
    refine ⟨⟨⟨a, ?_⟩, ?_⟩, e⟩
    · intro c hc
      refine (ar_df_tb O s c).mpr ⟨a.1 c hc, fun d r => (ar_at_tb O s d).mpr ?_⟩
      rcases hp d (O.2.2.2 d c r).1 with z | z
      · exact (a.2 d c z hc r).elim
      · exact z
    · intro c hc
      obtain ⟨x, y⟩ := (ar_df_tb O s c).mp hc
      rcases hp c x with z | ⟨d, hd, r⟩
      · exact z
      · obtain ⟨f, hf, r2⟩ := (ar_at_tb O s d).mp (y d r)
        exact (a.2 f d hf hd r2).elim
  · rintro ⟨a, e⟩
    exact ⟨a.1.1, e⟩
/-- a claim can be added -/
def ar_ag (p : Nat) (R : Nat → Nat → Prop) (s c : Nat) : Prop := p.testBit c = true ∧ ∀ i, (s.testBit i = true ∨ c = i) → ¬ R c i ∧ ¬ R i c
def ar_fl (n p : Nat) (R : Nat → Nat → Prop) (s : Nat) : Prop := ar_pf p R s ∧ ∀ c, c < n → ¬ s.testBit c = true → ¬ ar_ag p R s c
theorem ar_ag_pf {s c : Nat} (h : ar_pf p R s) (g : ar_ag p R s c) : ar_pf p R (s ||| 2 ^ c) := by
  constructor
  · intro i hi
    rcases (ar_ob_tb s c i).mp hi with z | z
    · exact h.1 i z
    · exact z ▸ g.1
  · intro a b ha hb r
    rcases (ar_ob_tb s c a).mp ha with za | za
    · rcases (ar_ob_tb s c b).mp hb with zb | zb
      · exact h.2 a b za zb r
      · exact (g.2 a (Or.inl za)).2 (zb ▸ r)
    · exact (g.2 b ((ar_ob_tb s c b).mp hb)).1 (za ▸ r)
theorem ar_pf_ag {s c E : Nat} (h : ar_pf p R E) (hs : ar_sb s E) (hc : E.testBit c = true) : ar_ag p R s c := by
  refine ⟨h.1 c hc, ?_⟩
  intro i hi
  have : E.testBit i = true := hi.elim (hs i) (fun e => e ▸ hc)
  exact ⟨h.2 c i hc this, h.2 i c this hc⟩
theorem ar_rc_mo (O : ar_OK n p R) {s t : Nat} (h : ar_sb s t) : ar_sb (ar_rc n R s) (ar_rc n R t) := by
  intro i hi
  unfold ar_rc at hi ⊢
  rw [ar_or_tb] at hi ⊢
  exact hi.elim (fun z => Or.inl (h i z)) (fun z => Or.inr (ar_at_mo O h i z))
theorem ar_rc_lt {s : Nat} (h : s < 2 ^ n) : ar_rc n R s < 2 ^ n := Nat.or_lt_two_pow h (ar_at_lt s)
theorem ar_fl_of (O : ar_OK n p R) {s : Nat} (h : ar_pf p R s) (g : ∀ t, ar_pf p R t → ¬ ar_pp s t) : ar_fl n p R s := by
  refine ⟨h, fun c hc nc ag => ?_⟩
  refine g _ (ar_ag_pf h ag) ⟨?_, fun i hi => (ar_ob_tb s c i).mpr (Or.inl hi)⟩
  intro e
  apply nc
  rw [e]
  exact (ar_ob_tb s c c).mpr (Or.inr rfl)
theorem ar_K4 (O : ar_OK n p R) (s : Nat) : ar_K n p R 4 s ↔ ar_fl n p R s ∧ ∀ t, ar_fl n p R t → ¬ ar_pp (ar_rc n R s) (ar_rc n R t) := by
  constructor
  · rintro ⟨a, b⟩
    refine ⟨⟨a, fun c hc nc ag => ?_⟩, fun t ht => b t ht.1⟩
    have sb : ar_sb s (s ||| 2 ^ c) := fun i hi => (ar_ob_tb s c i).mpr (Or.inl hi)
    rcases ar_npp.mp (b _ (ar_ag_pf a ag)) with e | e
    · have : (ar_rc n R s).testBit c = true := by
        rw [← e]
        exact (ar_or_tb _ _ c).mpr (Or.inl ((ar_ob_tb s c c).mpr (Or.inr rfl)))
      rcases (ar_or_tb _ _ c).mp this with z | z
      · exact nc z
      · obtain ⟨d, hd, r⟩ := (ar_at_tb O s c).mp z
        exact (ag.2 d (Or.inl hd)).2 r
    · exact e (ar_rc_mo O sb)
  · rintro ⟨a, b⟩
    refine ⟨a.1, ?_⟩
    rintro t ht ⟨ne, sb⟩
    obtain ⟨u, hu, su, gu⟩ := ar_greatest (ar_pf p R) (fun s h => ar_256 O (ar_pf_lt O h)) _ t (Nat.le_refl _) ht
    refine b u (ar_fl_of O hu gu) ⟨?_, ar_sb_tr sb (ar_rc_mo O su)⟩
    intro e
    exact ne (ar_sb_an sb (by rw [e]; exact ar_rc_mo O su))
theorem ar_K_pf {k s : Nat} (h : ar_K n p R k s) : ar_pf p R s := by
  match k, h with
  | 0, h => exact h.1
  | 1, h => exact h.1.1
  | 2, h => exact h.1.1
  | 3, h => exact h.1
  | 4, h => exact h.1
  | 5, h => exact h.1.1.1
theorem ar_K_lt (O : ar_OK n p R) {k s : Nat} (h : ar_K n p R k s) : s < 2 ^ n := ar_pf_lt O (ar_K_pf h)
/-! grounded -/
def ar_G (n p : Nat) (R : Nat → Nat → Prop) (s : Nat) : Prop := ar_cp n p R s ∧ ∀ t, ar_cp n p R t → ar_sb s t
theorem ar_G_un {s t : Nat} (h : ar_G n p R s) (g : ar_G n p R t) : s = t := ar_sb_an (h.2 t g.1) (g.2 s h.1)
/-- after k rounds: admissible, within every complete set, and closed or of k members at least -/
def ar_Gk (n p : Nat) (R : Nat → Nat → Prop) (k s : Nat) : Prop := ar_ad n p R s ∧ (∀ t, ar_cp n p R t → ar_sb s t) ∧ (ar_sb (ar_df n p R s) s ∨ k ≤ ar_pc n s)
theorem ar_Gk_0 : ar_Gk n p R 0 0 := ⟨ar_ad_0, fun _ _ => ar_sb_0 _, Or.inr (Nat.zero_le _)⟩
theorem ar_Gk_s (O : ar_OK n p R) {k s : Nat} (h : ar_Gk n p R k s) : ar_Gk n p R (k + 1) (ar_df n p R s) := by
  refine ⟨ar_ad_df O h.1, fun t ht => ar_sb_tr (ar_df_mo O (h.2.1 t ht)) ht.2, ?_⟩
  by_cases e : s = ar_df n p R s
  · left
    rw [← e, ← e]
    exact ar_sb_rf s
  · rcases h.2.2 with z | z
    · exact absurd (ar_sb_an h.1.2 z) e
    · right
      have := ar_pc_lt h.1.2 (ar_df_lt (R := R) (p := p) s) e
      omega
theorem ar_Gk_e {s : Nat} (h : ar_Gk n p R (n + 1) s) : ar_G n p R s := by
  refine ⟨⟨h.1, ?_⟩, h.2.1⟩
  rcases h.2.2 with z | z
  · exact z
  · have := ar_pc_le n s
    omega
/-! the ideal set -/
def ar_I (n p : Nat) (R : Nat → Nat → Prop) (w s : Nat) : Prop := ar_ad n p R s ∧ ar_sb s w ∧ ∀ t, ar_ad n p R t → ar_sb t w → ar_sb t s
theorem ar_I_un {w s t : Nat} (h : ar_I n p R w s) (g : ar_I n p R w t) : s = t := ar_sb_an (g.2.2 s h.1 h.2.1) (h.2.2 t g.1 g.2.1)
def ar_Ik (n p : Nat) (R : Nat → Nat → Prop) (w k s : Nat) : Prop := ar_sb s w ∧ (∀ t, ar_ad n p R t → ar_sb t w → ar_sb t s) ∧ (ar_sb s (ar_df n p R s) ∨ ar_pc n s + k ≤ n)
theorem ar_Ik_0 (w : Nat) : ar_Ik n p R w 0 w := ⟨ar_sb_rf w, fun _ _ h => h, Or.inr (ar_pc_le n w)⟩
theorem ar_Ik_s (O : ar_OK n p R) {w k s : Nat} (hw : w < 2 ^ n) (h : ar_Ik n p R w k s) : ar_Ik n p R w (k + 1) (s &&& ar_df n p R s) := by
  have sb : ar_sb (s &&& ar_df n p R s) s := fun i hi => ((ar_and_tb _ _ i).mp hi).1
  refine ⟨ar_sb_tr sb h.1, fun t ht tw i hi => (ar_and_tb _ _ i).mpr ⟨h.2.1 t ht tw i hi, ar_df_mo O (h.2.1 t ht tw) i (ht.2 i hi)⟩, ?_⟩
  by_cases e : s &&& ar_df n p R s = s
  · left
    rw [e]
    exact ar_and_a.mp e
  · rcases h.2.2 with z | z
    · exact absurd (ar_and_a.mpr z) e
    · right
      have := ar_pc_lt (n := n) sb (ar_sb_lt h.1 hw) e
      omega
theorem ar_Ik_e (O : ar_OK n p R) {w s : Nat} (hw : ar_pf p R w) (h : ar_Ik n p R w 8 s) : ar_I n p R w s := by
  refine ⟨⟨ar_pf_sub hw h.1, ?_⟩, h.1, h.2.1⟩
  rcases h.2.2 with z | z
  · exact z
  · have := O.2.1
    rw [ar_pc_z (n := n) (a := s) (ar_sb_lt h.1 (ar_pf_lt O hw)) (by omega)]
    exact ar_sb_0 _
/-- there is a preferred set -/
theorem ar_K2_ex (O : ar_OK n p R) : ∃ s, ar_K n p R 2 s := by
  obtain ⟨t, a, _, c⟩ := ar_greatest (ar_ad n p R) (ar_ad_256 O) _ 0 (Nat.le_refl _) ar_ad_0
  exact ⟨t, a, c⟩
end
end
section
/-! labels: in (I), out (O), undecided (U), against the complete sets -/
def ar_xt (n : Nat) (R : Nat → Nat → Prop) (I O U E : Nat) : Prop := ar_sb I E ∧ ar_sb O (ar_at n R E) ∧ ∀ i, U.testBit i = true → ¬ E.testBit i = true ∧ ¬ (ar_at n R E).testBit i = true
def ar_XL (n p : Nat) (R : Nat → Nat → Prop) (I O U E : Nat) : Prop := ar_cp n p R E ∧ ar_xt n R I O U E
def ar_okc (n : Nat) (R : Nat → Nat → Prop) (I O U c : Nat) : Prop :=
  (I.testBit c = true → ar_sb (ar_B n R c) O ∧ ar_sb (ar_H n R c) O) ∧
  (O.testBit c = true → ¬ I.testBit c = true → ∃ a, R a c ∧ ¬ O.testBit a = true ∧ ¬ U.testBit a = true) ∧
  (U.testBit c = true → ¬ I.testBit c = true → ¬ O.testBit c = true → ∃ a, R a c ∧ ¬ O.testBit a = true)
def ar_FA (n p : Nat) (R : Nat → Nat → Prop) (c I O U I' O' : Nat) : Prop :=
  ar_sb I I' ∧ ar_sb O O' ∧ ar_sb I' p ∧ ar_sb O' p ∧ (I' = I → O' = O → ar_okc n R I O U c) ∧ ∀ E, ar_XL n p R I O U E → ar_xt n R I' O' U E
def ar_NE (n p : Nat) (R : Nat → Nat → Prop) (I O U : Nat) : Prop := ∀ E, ar_XL n p R I O U E → False
def ar_GL (n p : Nat) (R : Nat → Nat → Prop) (I O U : Nat) : Prop :=
  ar_sb I p ∧ ar_sb O p ∧ ar_dj I O ∧ ar_dj I U ∧ ar_dj O U ∧ ∀ c, p.testBit c = true → ar_okc n R I O U c
def ar_FS (n p : Nat) (R : Nat → Nat → Prop) (I O U I' O' : Nat) : Prop :=
  ar_sb I I' ∧ ar_sb O O' ∧ ar_GL n p R I' O' U ∧ ∀ E, ar_XL n p R I O U E → ar_xt n R I' O' U E
def ar_fr (p I O U i : Nat) : Prop := p.testBit i = true ∧ ¬ I.testBit i = true ∧ ¬ O.testBit i = true ∧ ¬ U.testBit i = true
section
variable {n p : Nat} {R : Nat → Nat → Prop} {I O U E c : Nat}
theorem ar_cp_dj (K : ar_OK n p R) (h : ar_cp n p R E) : ar_dj E (ar_at n R E) := by
  intro i a b
  obtain ⟨d, hd, r⟩ := (ar_at_tb K E i).mp b
  exact h.1.1.2 d i hd a r
theorem ar_f_in (K : ar_OK n p R) (h : ar_XL n p R I O U E) (hc : I.testBit c = true) : ar_sb (ar_B n R c) (ar_at n R E) ∧ ar_sb (ar_H n R c) (ar_at n R E) := by
  have hE := h.2.1 c hc
  constructor
  · intro a ha
    exact ((ar_df_tb K E c).mp (h.1.1.2 c hE)).2 a ((ar_B_tb K c a).mp ha)
  · intro b hb
    exact (ar_at_tb K E b).mpr ⟨c, hE, (ar_H_tb K c b).mp hb⟩
theorem ar_f_in2 (K : ar_OK n p R) (h : ar_XL n p R I O U E) (hc : I.testBit c = true) : ar_dj (ar_B n R c) U := by
  intro i a b
  exact (h.2.2.2 i b).2 ((ar_f_in K h hc).1 i a)
theorem ar_f_out (K : ar_OK n p R) (h : ar_XL n p R I O U E) (hc : O.testBit c = true) : ∃ a, E.testBit a = true ∧ (ar_dif (ar_B n R c) (O ||| U)).testBit a = true := by
  obtain ⟨a, ha, r⟩ := (ar_at_tb K E c).mp (h.2.2.1 c hc)
  refine ⟨a, ha, (ar_dif_tb _ _ a).mpr ⟨(ar_B_tb K c a).mpr r, fun z => ?_⟩⟩
  rcases (ar_or_tb _ _ a).mp z with z | z
  · exact ar_cp_dj K h.1 a ha (h.2.2.1 a z)
  · exact (h.2.2.2 a z).1 ha
theorem ar_f_open (K : ar_OK n p R) (h : ar_XL n p R I O U E) (hc : U.testBit c = true) (hp : p.testBit c = true) : ar_dj (ar_B n R c) I ∧ ¬ ar_sb (ar_B n R c) O := by
  constructor
  · intro a ha hb
    exact (h.2.2.2 c hc).2 ((ar_at_tb K E c).mpr ⟨a, h.2.1 a hb, (ar_B_tb K c a).mp ha⟩)
  · intro z
    refine (h.2.2.2 c hc).1 (h.1.2 c ((ar_df_tb K E c).mpr ⟨hp, fun a r => h.2.2.1 a (z a ((ar_B_tb K c a).mpr r))⟩))
theorem ar_f_o (K : ar_OK n p R) (h : ar_XL n p R I O U E) (z : ¬ ar_dj (ar_B n R c) I) : ar_xt n R I (O ||| 2 ^ c) U E := by
  obtain ⟨a, ha, hb⟩ := ar_ndj z
  refine ⟨h.2.1, fun i hi => ?_, h.2.2.2⟩
  rcases (ar_ob_tb _ _ i).mp hi with y | y
  · exact h.2.2.1 i y
  · exact y ▸ (ar_at_tb K E c).mpr ⟨a, h.2.1 a hb, (ar_B_tb K c a).mp ha⟩
theorem ar_f_i (K : ar_OK n p R) (h : ar_XL n p R I O U E) (hp : p.testBit c = true) (z : ar_sb (ar_B n R c) O) : ar_xt n R (I ||| 2 ^ c) O U E := by
  refine ⟨fun i hi => ?_, h.2.2⟩
  rcases (ar_ob_tb _ _ i).mp hi with y | y
  · exact h.2.1 i y
  · exact y ▸ h.1.2 c ((ar_df_tb K E c).mpr ⟨hp, fun a r => h.2.2.1 a (z a ((ar_B_tb K c a).mpr r))⟩)
/-! the five cases of a forced step -/
theorem ar_or_sb {a b d : Nat} (h : ar_sb a d) (g : ar_sb b d) : ar_sb (a ||| b) d := fun i hi => ((ar_or_tb _ _ i).mp hi).elim (h i) (g i)
theorem ar_sb_ol (a b : Nat) : ar_sb a (a ||| b) := fun i hi => (ar_or_tb _ _ i).mpr (Or.inl hi)
theorem ar_sb_or (a b : Nat) : ar_sb b (a ||| b) := fun i hi => (ar_or_tb _ _ i).mpr (Or.inr hi)
theorem ar_pw_sb {c d : Nat} (h : d.testBit c = true) : ar_sb (2 ^ c) d := fun i hi => (ar_pow_tb c i).mp hi ▸ h
theorem ar_c1 (K : ar_OK n p R) (hI : ar_sb I p) (hO : ar_sb O p) (hc : I.testBit c = true) : ar_FA n p R c I O U I ((O ||| ar_B n R c) ||| ar_H n R c) := by
  refine ⟨ar_sb_rf I, ar_sb_tr (ar_sb_ol _ _) (ar_sb_ol _ _), hI, ar_or_sb (ar_or_sb hO (ar_B_p K c)) (ar_H_p K c), ?_, ?_⟩
  · intro _ e
    refine ⟨fun _ => ⟨?_, ?_⟩, fun _ z => absurd hc z, fun _ z => absurd hc z⟩
    · exact e ▸ ar_sb_tr (ar_sb_or O (ar_B n R c)) (ar_sb_ol _ _)
    · exact e ▸ ar_sb_or (O ||| ar_B n R c) (ar_H n R c)
  · intro E h
    have f := ar_f_in K h hc
    exact ⟨h.2.1, ar_or_sb (ar_or_sb h.2.2.1 f.1) f.2, h.2.2.2⟩
theorem ar_c2 (K : ar_OK n p R) (hI : ar_sb I p) (hO : ar_sb O p) (hn : ¬ I.testBit c = true) (h0 : ¬ ar_dif (ar_B n R c) (O ||| U) = 0) : ar_FA n p R c I O U I O := by
  refine ⟨ar_sb_rf I, ar_sb_rf O, hI, hO, fun _ _ => ⟨fun z => absurd z hn, fun _ _ => ?_, fun _ _ z => ?_⟩, fun E h => h.2⟩
  · obtain ⟨a, ha⟩ := Nat.exists_testBit_of_ne_zero h0
    obtain ⟨x, y⟩ := (ar_dif_tb _ _ a).mp ha
    exact ⟨a, (ar_B_tb K c a).mp x, fun z => y ((ar_or_tb _ _ a).mpr (Or.inl z)), fun z => y ((ar_or_tb _ _ a).mpr (Or.inr z))⟩
  · obtain ⟨a, ha⟩ := Nat.exists_testBit_of_ne_zero h0
    obtain ⟨x, y⟩ := (ar_dif_tb _ _ a).mp ha
    exact ⟨a, (ar_B_tb K c a).mp x, fun z => y ((ar_or_tb _ _ a).mpr (Or.inl z))⟩
theorem ar_c3 (K : ar_OK n p R) (hI : ar_sb I p) (hO : ar_sb O p) (hn : ¬ I.testBit c = true) (hc : O.testBit c = true) (h0 : ¬ ar_dif (ar_B n R c) (O ||| U) = 0) (h1 : nI (ar_dif (ar_B n R c) (O ||| U)) &&& (nI (ar_dif (ar_B n R c) (O ||| U)) - 1) = 0) : ar_FA n p R c I O U (I ||| ar_dif (ar_B n R c) (O ||| U)) O := by
  have f := ar_c2 (U := U) K hI hO hn h0
  refine ⟨ar_sb_ol _ _, ar_sb_rf O, ar_or_sb hI (fun i hi => ar_B_p K c i ((ar_dif_tb _ _ i).mp hi).1), hO, fun _ _ => f.2.2.2.2.1 rfl rfl, fun E h => ⟨ar_or_sb h.2.1 fun i hi => ?_, h.2.2⟩⟩
  obtain ⟨a, x, y⟩ := ar_f_out K h hc
  exact ar_single (ar_256 K (ar_dif_lt (ar_B_lt c))) h1 y hi ▸ x
theorem ar_c2n (K : ar_OK n p R) (hc : O.testBit c = true) (h0 : ar_dif (ar_B n R c) (O ||| U) = 0) : ar_NE n p R I O U := by
  intro E h
  obtain ⟨a, x, y⟩ := ar_f_out K h hc
  rw [h0] at y
  exact ar_0_tb y
theorem ar_c4 (K : ar_OK n p R) (hI : ar_sb I p) (hO : ar_sb O p) (h1 : ¬ I.testBit c = true) (h2 : ¬ O.testBit c = true) (h : ¬ ar_sb (ar_B n R c) O) : ar_FA n p R c I O U I O := by
  refine ⟨ar_sb_rf I, ar_sb_rf O, hI, hO, fun _ _ => ⟨fun z => absurd z h1, fun z => absurd z h2, fun _ _ _ => ?_⟩, fun E h => h.2⟩
  obtain ⟨a, x, y⟩ := ar_nsb h
  exact ⟨a, (ar_B_tb K c a).mp x, y⟩
theorem ar_c5 (K : ar_OK n p R) (hI : ar_sb I p) (hO : ar_sb O p) (hp : p.testBit c = true) (h2 : ¬ O.testBit c = true) (z : ¬ ar_dj (ar_B n R c) I) : ar_FA n p R c I O U I (O ||| 2 ^ c) := by
  refine ⟨ar_sb_rf I, ar_sb_ol _ _, hI, ar_or_sb hO (ar_pw_sb hp), fun _ e => ?_, fun E h => ar_f_o K h z⟩
  exact absurd (e ▸ (ar_ob_tb O c c).mpr (Or.inr rfl)) h2
theorem ar_c6 (K : ar_OK n p R) (hI : ar_sb I p) (hO : ar_sb O p) (hp : p.testBit c = true) (h1 : ¬ I.testBit c = true) (z : ar_sb (ar_B n R c) O) : ar_FA n p R c I O U (I ||| 2 ^ c) O := by
  refine ⟨ar_sb_ol _ _, ar_sb_rf O, ar_or_sb hI (ar_pw_sb hp), hO, fun e _ => ?_, fun E h => ar_f_i K h hp z⟩
  exact absurd (e ▸ (ar_ob_tb I c c).mpr (Or.inr rfl)) h1
/-! the leaf, the branches -/
theorem ar_lf (K : ar_OK n p R) (h : ar_GL n p R I O U) (hf : ∀ i, i < n → ¬ ar_fr p I O U i) : ar_XL n p R I O U I := by
  have cov : ∀ i, p.testBit i = true → I.testBit i = true ∨ O.testBit i = true ∨ U.testBit i = true := by
    intro i hi
    apply Classical.byContradiction
    intro z
    exact hf i (ar_hi K.2.2.1 hi) ⟨hi, fun y => z (Or.inl y), fun y => z (Or.inr (Or.inl y)), fun y => z (Or.inr (Or.inr y))⟩
  obtain ⟨hI, hO, d1, d2, d3, ok⟩ := h
  have o1 : ∀ i, O.testBit i = true → (ar_at n R I).testBit i = true := by
    intro i hi
    obtain ⟨a, r, x, y⟩ := (ok i (hO i hi)).2.1 hi (fun z => d1 i z hi)
    refine (ar_at_tb K I i).mpr ⟨a, ?_, r⟩
    rcases cov a (K.2.2.2 a i r).1 with z | z | z
    · exact z
    · exact absurd z x
    · exact absurd z y
  have o2 : ∀ i, (ar_at n R I).testBit i = true → O.testBit i = true := by
    intro i hi
    obtain ⟨a, ha, r⟩ := (ar_at_tb K I i).mp hi
    exact ((ok a (hI a ha)).1 ha).2 i ((ar_H_tb K a i).mpr r)
  refine ⟨⟨⟨⟨hI, fun a b ha hb r => d1 b hb (o2 b ((ar_at_tb K I b).mpr ⟨a, ha, r⟩))⟩, fun i hi => ?_⟩, fun i hi => ?_⟩, ar_sb_rf I, o1, fun i hi => ⟨fun z => d2 i z hi, fun z => d3 i (o2 i z) hi⟩⟩
  · exact (ar_df_tb K I i).mpr ⟨hI i hi, fun a r => o1 a (((ok i (hI i hi)).1 hi).1 a ((ar_B_tb K i a).mpr r))⟩
  · obtain ⟨x, y⟩ := (ar_df_tb K I i).mp hi
    rcases cov i x with z | z | z
    · exact z
    · obtain ⟨a, r, u, v⟩ := (ok i x).2.1 z (fun q => d1 i q z)
      exact absurd (o2 a (y a r)) u
    · obtain ⟨a, r, u⟩ := (ok i x).2.2 z (fun q => d2 i q z) (fun q => d3 i q z)
      exact absurd (o2 a (y a r)) u
theorem ar_lf_un (K : ar_OK n p R) (h : ar_GL n p R I O U) (hf : ∀ i, i < n → ¬ ar_fr p I O U i) : ar_XL n p R I O U E ↔ E = I := by
  constructor
  · intro z
    refine ar_sb_an (fun i hi => ?_) z.2.1
    have hp := z.1.1.1.1 i hi
    apply Classical.byContradiction
    intro y
    refine hf i (ar_hi K.2.2.1 hp) ⟨hp, y, fun q => ?_, fun q => (z.2.2.2 i q).1 hi⟩
    exact ar_cp_dj K z.1 i hi (z.2.2.1 i q)
  · rintro rfl
    exact ar_lf K h hf
theorem ar_bi : ar_XL n p R (I ||| 2 ^ c) O U E ↔ ar_XL n p R I O U E ∧ E.testBit c = true := by
  constructor
  · rintro ⟨a, b, d⟩
    exact ⟨⟨a, ar_sb_tr (ar_sb_ol _ _) b, d⟩, b c ((ar_ob_tb I c c).mpr (Or.inr rfl))⟩
  · rintro ⟨⟨a, b, d⟩, e⟩
    exact ⟨a, ar_or_sb b (ar_pw_sb e), d⟩
theorem ar_bo : ar_XL n p R I (O ||| 2 ^ c) U E ↔ ar_XL n p R I O U E ∧ (ar_at n R E).testBit c = true := by
  constructor
  · rintro ⟨a, b, d, e⟩
    exact ⟨⟨a, b, ar_sb_tr (ar_sb_ol _ _) d, e⟩, d c ((ar_ob_tb O c c).mpr (Or.inr rfl))⟩
  · rintro ⟨⟨a, b, d, f⟩, e⟩
    exact ⟨a, b, ar_or_sb d (ar_pw_sb e), f⟩
theorem ar_bu : ar_XL n p R I O (U ||| 2 ^ c) E ↔ ar_XL n p R I O U E ∧ ¬ E.testBit c = true ∧ ¬ (ar_at n R E).testBit c = true := by
  constructor
  · rintro ⟨a, b, d, e⟩
    exact ⟨⟨a, b, d, fun i hi => e i ((ar_ob_tb _ _ i).mpr (Or.inl hi))⟩, e c ((ar_ob_tb _ _ c).mpr (Or.inr rfl))⟩
  · rintro ⟨⟨a, b, d, f⟩, e⟩
    refine ⟨a, b, d, fun i hi => ?_⟩
    rcases (ar_ob_tb _ _ i).mp hi with z | z
    · exact f i z
    · exact z ▸ e
theorem ar_FS_XL {I' O' : Nat} (h : ar_FS n p R I O U I' O') : ar_XL n p R I' O' U = ar_XL n p R I O U := by
  apply ar_ct_eq
  intro E
  exact ⟨fun z => ⟨z.1, ar_sb_tr h.1 z.2.1, ar_sb_tr h.2.1 z.2.2.1, z.2.2.2⟩, fun z => ⟨z.1, h.2.2.2 E z⟩⟩
theorem ar_XL_0 : ar_XL n p R 0 0 0 = ar_cp n p R := by
  apply ar_ct_eq
  intro E
  exact ⟨fun z => z.1, fun z => ⟨z, ar_sb_0 _, ar_sb_0 _, fun i h => absurd h ar_0_tb⟩⟩
end
end
section
/-! the component's small methods -/
theorem ar_if {c d A B : Prop} (e : c ↔ d) (f : d → A) (g : ¬ d → B) : (c → A) ∧ (¬ c → B) := ⟨fun h => f (e.mp h), fun h => g (fun z => h (e.mpr z))⟩
theorem ar_cl (i : Nat) (h : i < 2 ^ 31) : (nI i).toNatClampNeg = i := nI_clamp h
theorem ar_n10 : ¬ (1 : Int32) = 0 := by decide
def ar_D (n : Nat) (R : Nat → Nat → Prop) (hi hb : Nat → Int32) : Prop := ∀ c, c < n → hi c = nI (ar_H n R c) ∧ hb c = nI (ar_B n R c)
/-- the list of kind k holds the members of S in order -/
def ar_LS (ls sz : Nat → Int32) (k : Nat) (S : Nat → Prop) : Prop := sz k = nI (ar_ct S 256) ∧ ∀ s, s < 256 → S s → ls (256 * k + ar_ct S s) = nI s
theorem ar_ix (k j : Nat) : (256 * nI k) + nI j = nI (256 * k + j) := by
  show (nI 256 * nI k) + nI j = _
  rw [pk_mul, nI_add]
section
variable {n p : Nat} {R : Nat → Nat → Prop} {cu fi fo fu gs pc : Int32} {gv xh xb ls sz pe hI hO hU pk tn : Nat → Int32}
theorem xa_has {post : Int32 → Prop} {s c : Nat} (hs : s < 2 ^ 31) (hc : c < 32) (h1 : s.testBit c = true → post 1) (h0 : ¬ s.testBit c = true → post 0) : wpX_has post (nI s) (nI c) := ar_if (ar_bit1 hs hc) h1 h0
theorem xa_hitsOf_l (K : ar_OK n p R) (D : ar_D n R xh xb) {s : Nat} (hs : s < 2 ^ 31) {post : Int32 → Prop} (hp : post (nI (ar_at n R s))) : ∀ d i t, i + d = n → (∀ b, t.testBit b = true ↔ ∃ a, a < i ∧ s.testBit a = true ∧ R a b) → wX_hitsOf_4 post (nI s) (nI n) (nI p) cu fi fo fu gs pc gv xh xb ls sz pe hI hO hU pk tn (d + 1) (nI t) (nI i) := by
  have n8 := K.2.1
  intro d
  induction d with
  | zero =>
    intro i t hi ht
    have e : t = ar_at n R s := by
      apply ar_ext
      intro b
      rw [ht, ar_at_tb K]
      exact ⟨fun ⟨a, _, y⟩ => ⟨a, y⟩, fun ⟨a, x, y⟩ => ⟨a, by have := (ar_RL K y).1; omega, x, y⟩⟩
    exact br_t (nI_le (by omega) (by omega)) (e ▸ hp)
  | succ d ih =>
    intro i t hi ht
    refine br_f (nI_ge (by omega) (by omega)) (xa_has hs (by omega) (fun hb => br_f ar_n10 (And.intro (vp_in_nI (by omega) (by omega)) (nm_r (e' := nI (t ||| ar_H n R i)) (by rw [ar_cl i (by omega), (D i (by omega)).1, ar_or]) (nm_r (nI_1 i) (ih (i + 1) _ (by omega) ?_))))) (fun hb => br_t rfl (nm_r (nI_1 i) (ih (i + 1) t (by omega) ?_))))
    · intro b
      rw [ar_or_tb, ht, ar_H_tb K]
      constructor
      · rintro (⟨a, x, y⟩ | z)
        · exact ⟨a, by omega, y⟩
        · exact ⟨i, by omega, hb, z⟩
      · rintro ⟨a, x, y, z⟩
        by_cases e : a = i
        · exact Or.inr (e ▸ z)
        · exact Or.inl ⟨a, by omega, y, z⟩
    · intro b
      rw [ht]
      constructor
      · rintro ⟨a, x, y⟩
        exact ⟨a, by omega, y⟩
      · rintro ⟨a, x, y, z⟩
        have e : a ≠ i := fun e => hb (e ▸ y)
        exact ⟨a, by omega, y, z⟩
theorem xa_hitsOf (K : ar_OK n p R) (D : ar_D n R xh xb) {s : Nat} (hs : s < 2 ^ 31) {post : Int32 → Prop} (hp : post (nI (ar_at n R s))) : wpX_hitsOf post (nI n, nI p, cu, fi, fo, fu, gs, pc, gv, xh, xb, ls, sz, pe, hI, hO, hU, pk, tn) (nI s) :=
  Exists.intro (n + 1) (xa_hitsOf_l K D hs hp n 0 0 (by omega) (fun b => ⟨fun h => absurd h ar_0_tb, fun ⟨a, x, _⟩ => absurd x (Nat.not_lt_zero a)⟩))
theorem xa_df_l (K : ar_OK n p R) (D : ar_D n R xh xb) {s : Nat} {post : Int32 → Prop} (hp : post (nI (ar_df n p R s))) : ∀ d i t, i + d = n → (∀ b, t.testBit b = true ↔ b < i ∧ (ar_df n p R s).testBit b = true) → wX_defendedBy_11 post (nI (ar_at n R s)) (nI n) (nI p) cu fi fo fu gs pc gv xh xb ls sz pe hI hO hU pk tn (d + 1) (nI t) (nI i) := by
  have n8 := K.2.1
  intro d
  induction d with
  | zero =>
    intro i t hi ht
    have e : t = ar_df n p R s := by
      apply ar_ext
      intro b
      rw [ht]
      exact ⟨fun z => z.2, fun z => ⟨by have := ar_hi (ar_df_lt s) z; omega, z⟩⟩
    exact br_t (nI_le (by omega) (by omega)) (e ▸ hp)
  | succ d ih =>
    intro i t hi ht
    have hk : ∀ z : ¬ (ar_df n p R s).testBit i = true, wX_defendedBy_11 post (nI (ar_at n R s)) (nI n) (nI p) cu fi fo fu gs pc gv xh xb ls sz pe hI hO hU pk tn (d + 1) (nI t) (nI (i + 1)) := by
      intro z
      refine ih (i + 1) t (by omega) (fun b => ?_)
      rw [ht]
      constructor
      · rintro ⟨x, y⟩
        exact ⟨by omega, y⟩
      · rintro ⟨x, y⟩
        have : b ≠ i := fun e => z (e ▸ y)
        exact ⟨by omega, y⟩
    refine br_f (nI_ge (by omega) (by omega)) (xa_has (ar_p31 K) (by omega) (fun hb => br_f ar_n10 (And.intro (vp_in_nI (by omega) (by omega)) (ar_if (d := ar_sb (ar_B n R i) (ar_at n R s)) ?_ (fun z => nm_r (e' := nI (t ||| 2 ^ i)) (by rw [ar_shl (by omega), ar_or]) (nm_r (nI_1 i) (ih (i + 1) _ (by omega) ?_))) (fun z => nm_r (nI_1 i) (hk ?_))))) (fun hb => br_t rfl (nm_r (nI_1 i) (hk (fun z => hb (ar_df_p K s i z))))))
    · rw [ar_cl i (by omega), (D i (by omega)).2, ar_andn_z _ (ar_31 K (ar_B_lt i))]
    · have h1 : (ar_df n p R s).testBit i = true := (ar_df_tb K s i).mpr ⟨hb, fun a r => z a ((ar_B_tb K i a).mpr r)⟩
      intro b
      rw [ar_ob_tb, ht]
      constructor
      · rintro (⟨x, y⟩ | rfl)
        · exact ⟨by omega, y⟩
        · exact ⟨by omega, h1⟩
      · rintro ⟨x, y⟩
        by_cases e : i = b
        · exact Or.inr e
        · exact Or.inl ⟨by omega, y⟩
    · intro h
      exact z fun a ha => ((ar_df_tb K s i).mp h).2 a ((ar_B_tb K i a).mp ha)
theorem xa_defendedBy (K : ar_OK n p R) (D : ar_D n R xh xb) {s : Nat} (hs : s < 2 ^ 31) {post : Int32 → Prop} (hp : post (nI (ar_df n p R s))) : wpX_defendedBy post (nI n, nI p, cu, fi, fo, fu, gs, pc, gv, xh, xb, ls, sz, pe, hI, hO, hU, pk, tn) (nI s) :=
  xa_hitsOf K D hs (Exists.intro (n + 1) (xa_df_l K D hp n 0 0 (by omega) (fun b => ⟨fun h => absurd h ar_0_tb, fun z => absurd z.1 (Nat.not_lt_zero b)⟩)))
theorem ar_ag_iff (K : ar_OK n p R) {s c : Nat} : ar_ag p R s c ↔ p.testBit c = true ∧ ar_dj (ar_H n R c) (s ||| 2 ^ c) ∧ ar_dj (ar_B n R c) (s ||| 2 ^ c) := by
  constructor
  · rintro ⟨a, b⟩
    exact ⟨a, fun i x y => (b i ((ar_ob_tb _ _ i).mp y)).1 ((ar_H_tb K c i).mp x), fun i x y => (b i ((ar_ob_tb _ _ i).mp y)).2 ((ar_B_tb K c i).mp x)⟩
  · rintro ⟨a, b, d⟩
    exact ⟨a, fun i y => ⟨fun x => b i ((ar_H_tb K c i).mpr x) ((ar_ob_tb _ _ i).mpr y), fun x => d i ((ar_B_tb K c i).mpr x) ((ar_ob_tb _ _ i).mpr y)⟩⟩
theorem xa_agrees (K : ar_OK n p R) (D : ar_D n R xh xb) {s c : Nat} (hc : c < n) {post : Int32 → Prop} (h1 : ar_ag p R s c → post 1) (h0 : ¬ ar_ag p R s c → post 0) : wpX_agrees post (nI n, nI p, cu, fi, fo, fu, gs, pc, gv, xh, xb, ls, sz, pe, hI, hO, hU, pk, tn) (nI s) (nI c) := by
  have n8 := K.2.1
  refine nm_r (e' := nI (s ||| 2 ^ c)) (by rw [ar_shl (by omega), ar_or]) (xa_has (ar_p31 K) (by omega) (fun hb => br_f ar_n10 (And.intro (vp_in_nI (by omega) (by omega)) (ar_if (d := ar_dj (ar_H n R c) (s ||| 2 ^ c)) ?_ (fun z1 => And.intro (vp_in_nI (by omega) (by omega)) (ar_if (d := ar_dj (ar_B n R c) (s ||| 2 ^ c)) ?_ (fun z2 => h1 ((ar_ag_iff K).mpr ⟨hb, z1, z2⟩)) (fun z2 => h0 (fun z => z2 ((ar_ag_iff K).mp z).2.2)))) (fun z1 => h0 (fun z => z1 ((ar_ag_iff K).mp z).2.1))))) (fun hb => br_t rfl (h0 (fun z => hb z.1))))
  · rw [ar_cl c (by omega), (D c (by omega)).1, ar_and_z _ (ar_31 K (ar_H_lt c))]
  · rw [ar_cl c (by omega), (D c (by omega)).2, ar_and_z _ (ar_31 K (ar_B_lt c))]
theorem xa_canJoin (K : ar_OK n p R) (D : ar_D n R xh xb) {s c : Nat} (hc : c < n) (hs : s < 2 ^ c) {post : Int32 → Prop} (h1 : ar_ag p R s c → post 1) (h0 : (∀ E, ar_ad n p R E → (∀ i, i ≤ c → (E.testBit i = true ↔ (s ||| 2 ^ c).testBit i = true)) → False) → post 0) : wpX_canJoin post (nI n, nI p, cu, fi, fo, fu, gs, pc, gv, xh, xb, ls, sz, pe, hI, hO, hU, pk, tn) (nI s) (nI c) := by
  have n8 := K.2.1
  have hag : ¬ ar_ag p R s c → post 0 := by
    intro z
    refine h0 fun E hE h => z ?_
    exact ar_pf_ag hE.1 (fun i hi => (h i (Nat.le_of_lt (ar_hi hs hi))).mpr ((ar_ob_tb _ _ i).mpr (Or.inl hi))) ((h c (Nat.le_refl c)).mpr ((ar_ob_tb _ _ c).mpr (Or.inr rfl)))
  have b2 : 2 ^ c < 2 ^ n := Nat.pow_lt_pow_right (by decide) hc
  have bw : s ||| 2 ^ c < 2 ^ n := Nat.or_lt_two_pow (by omega) b2
  have bn : 2 ^ n - 1 < 2 ^ n := Nat.sub_lt (Nat.two_pow_pos n) (by decide)
  have bh : (s ||| 2 ^ c) ||| ar_dif (2 ^ n - 1) (2 ^ (c + 1) - 1) < 2 ^ n := Nat.or_lt_two_pow bw (ar_dif_lt bn)
  have eh : nI (s ||| 2 ^ c) ||| ((((1 : Int32) <<< (nI n &&& 31)) - 1) &&& ((((2 : Int32) <<< (nI c &&& 31)) - 1) ^^^ (-1))) = nI ((s ||| 2 ^ c) ||| ar_dif (2 ^ n - 1) (2 ^ (c + 1) - 1)) := by
    rw [ar_all n8, ar_shl2 (by omega), show nI (2 ^ (c + 1)) - 1 = nI (2 ^ (c + 1) - 1) from pk_sub (b := 1) (Nat.two_pow_pos _), ar_andn _ (ar_31 K bn), ar_or]
  refine nm_r (e' := nI (s ||| 2 ^ c)) (by rw [ar_shl (by omega), ar_or]) (xa_has (ar_p31 K) (by omega) (fun hb => br_f ar_n10 (And.intro (vp_in_nI (by omega) (by omega)) (ar_if (d := ar_dj (ar_H n R c) (s ||| 2 ^ c)) ?_ (fun z1 => And.intro (vp_in_nI (by omega) (by omega)) (ar_if (d := ar_dj (ar_B n R c) (s ||| 2 ^ c)) ?_ (fun z2 => nm_r eh (And.intro (vp_in_nI (by omega) (by omega)) (xa_hitsOf K D (ar_31 K bh) (ar_if (d := ar_sb (ar_B n R c) (ar_at n R ((s ||| 2 ^ c) ||| ar_dif (2 ^ n - 1) (2 ^ (c + 1) - 1)))) ?_ (fun z3 => h1 ((ar_ag_iff K).mpr ⟨hb, z1, z2⟩)) (fun z3 => h0 (fun E hE h => z3 ?_)))))) (fun z2 => hag (fun z => z2 ((ar_ag_iff K).mp z).2.2)))) (fun z1 => hag (fun z => z1 ((ar_ag_iff K).mp z).2.1))))) (fun hb => br_t rfl (hag (fun z => hb z.1))))
  · rw [ar_cl c (by omega), (D c (by omega)).1, ar_and_z _ (ar_31 K (ar_H_lt c))]
  · rw [ar_cl c (by omega), (D c (by omega)).2, ar_and_z _ (ar_31 K (ar_B_lt c))]
  · rw [ar_cl c (by omega), (D c (by omega)).2, ar_andn_z _ (ar_31 K (ar_B_lt c))]
  · intro a ha
    have hE2 : E.testBit c = true := (h c (Nat.le_refl c)).mpr ((ar_ob_tb _ _ c).mpr (Or.inr rfl))
    have x := ((ar_df_tb K E c).mp (hE.2 c hE2)).2 a ((ar_B_tb K c a).mp ha)
    refine ar_at_mo K (fun i hi => ?_) a x
    rw [ar_or_tb]
    rcases Nat.lt_or_ge c i with y | y
    · right
      rw [ar_dif_tb, ar_full_tb, ar_full_tb]
      exact ⟨ar_hi (ar_pf_lt K hE.1) hi, by omega⟩
    · exact Or.inl ((h i y).mp hi)
theorem xa_isFull_l (K : ar_OK n p R) (D : ar_D n R xh xb) {s : Nat} (hs : s < 2 ^ 31) {post : Int32 → Prop} (h1 : (∀ c, c < n → ¬ s.testBit c = true → ¬ ar_ag p R s c) → post 1) (h0 : (¬ ∀ c, c < n → ¬ s.testBit c = true → ¬ ar_ag p R s c) → post 0) : ∀ d i, i + d = n → (∀ c, c < i → ¬ s.testBit c = true → ¬ ar_ag p R s c) → wX_isFull_2 post (nI s) (nI n) (nI p) cu fi fo fu gs pc gv xh xb ls sz pe hI hO hU pk tn (d + 1) (nI i) := by
  have n8 := K.2.1
  intro d
  induction d with
  | zero =>
    intro i hi ht
    exact br_t (nI_le (by omega) (by omega)) (h1 (fun c hc => ht c (by omega)))
  | succ d ih =>
    intro i hi ht
    refine br_f (nI_ge (by omega) (by omega)) (xa_has hs (by omega) (fun hb => br_f ar_n10 (nm_r (nI_1 i) (ih (i + 1) (by omega) ?_))) (fun hb => br_t rfl (xa_agrees K D (by omega) (fun ag => br_f ar_n10 (h0 (fun z => z i (by omega) hb ag))) (fun ag => br_t rfl (nm_r (nI_1 i) (ih (i + 1) (by omega) ?_))))))
    · intro c hc nc
      by_cases e : c = i
      · exact absurd (e ▸ hb) nc
      · exact ht c (by omega) nc
    · intro c hc nc
      by_cases e : c = i
      · exact e ▸ ag
      · exact ht c (by omega) nc
theorem xa_isFull (K : ar_OK n p R) (D : ar_D n R xh xb) {s : Nat} (hs : s < 2 ^ 31) {post : Int32 → Prop} (h1 : (∀ c, c < n → ¬ s.testBit c = true → ¬ ar_ag p R s c) → post 1) (h0 : (¬ ∀ c, c < n → ¬ s.testBit c = true → ¬ ar_ag p R s c) → post 0) : wpX_isFull post (nI n, nI p, cu, fi, fo, fu, gs, pc, gv, xh, xb, ls, sz, pe, hI, hO, hU, pk, tn) (nI s) :=
  Exists.intro (n + 1) (xa_isFull_l K D hs h1 h0 n 0 (by omega) (fun c hc => absurd hc (Nat.not_lt_zero c)))
theorem xa_isClaim_t {c : Nat} (h8 : n ≤ 8) (h : c < n) {post : Int32 → Prop} (hp : post 1) : wpX_isClaim post (nI n, nI p, cu, fi, fo, fu, gs, pc, gv, xh, xb, ls, sz, pe, hI, hO, hU, pk, tn) (nI c) := br_f (nI_pos (by omega)) (br_f (nI_ge h (by omega)) hp)
theorem xa_isClaim_f {v : Int32} (h : v < 0 ∨ nI n ≤ v) {post : Int32 → Prop} (hp : post 0) : wpX_isClaim post (nI n, nI p, cu, fi, fo, fu, gs, pc, gv, xh, xb, ls, sz, pe, hI, hO, hU, pk, tn) v := by
  by_cases z : v < 0
  · exact br_t z hp
  · exact br_f z (br_t (h.resolve_left z) hp)
theorem xa_isKind_t {k : Nat} (h : k < 6) {post : Int32 → Prop} (hp : post 1) : wpX_isKind post (nI k) := br_f (nI_pos (by omega)) (br_f (nI_nlt (a := 5) (b := k) (by omega) (by decide)) hp)
theorem ar_56 {v : Int32} (h : nI 6 ≤ v) : 5 < v := by
  rw [Int32.le_iff_toInt_le, nI_toInt (by decide)] at h
  rw [Int32.lt_iff_toInt_lt, show (5 : Int32).toInt = 5 from by decide]
  omega
theorem xa_isKind_f {v : Int32} (h : v < 0 ∨ nI 6 ≤ v) {post : Int32 → Prop} (hp : post 0) : wpX_isKind post v := by
  by_cases z : v < 0
  · exact br_t z hp
  · exact br_f z (br_t (ar_56 (h.resolve_left z)) hp)
theorem xa_refused_ok (K : ar_OK n p R) {s : Nat} (hs : s < 2 ^ n) (h : ar_sb s p) {post : Int32 → Prop} (hp : post 0) : wpX_refused post (nI n, nI p, cu, fi, fo, fu, gs, pc, gv, xh, xb, ls, sz, pe, hI, hO, hU, pk, tn) (nI s) := by
  have n8 := K.2.1
  refine br_f (nI_pos (ar_31 K hs)) (br_t ?_ (br_t ?_ hp))
  · rw [ar_shl (by omega)]
    exact nI_lt hs (Nat.pow_lt_pow_right (by decide) (by omega))
  · exact (ar_andn_z p (ar_31 K hs)).mpr h
theorem xa_refused_3 (K : ar_OK n p R) {s : Nat} (hs : s < 2 ^ n) (h : ¬ ar_sb s p) {post : Int32 → Prop} (hp : post (-3)) : wpX_refused post (nI n, nI p, cu, fi, fo, fu, gs, pc, gv, xh, xb, ls, sz, pe, hI, hO, hU, pk, tn) (nI s) := by
  have n8 := K.2.1
  refine br_f (nI_pos (ar_31 K hs)) (br_t ?_ (br_f ?_ hp))
  · rw [ar_shl (by omega)]
    exact nI_lt hs (Nat.pow_lt_pow_right (by decide) (by omega))
  · exact fun z => h ((ar_andn_z p (ar_31 K hs)).mp z)
theorem xa_refused_2 (K : ar_OK n p R) {v : Int32} (h : v < 0 ∨ nI (2 ^ n) ≤ v) {post : Int32 → Prop} (hp : post (-2)) : wpX_refused post (nI n, nI p, cu, fi, fo, fu, gs, pc, gv, xh, xb, ls, sz, pe, hI, hO, hU, pk, tn) v := by
  have n8 := K.2.1
  by_cases z : v < 0
  · exact br_t z hp
  · refine br_f z (br_f ?_ hp)
    rw [ar_shl (by omega)]
    exact Int32.not_lt.mpr (h.resolve_left z)
/-! the common part of a list -/
noncomputable def ar_cm (n : Nat) (S : Nat → Prop) : Nat := ar_mk (fun i => ∀ s, s < 256 → S s → s.testBit i = true) n
theorem xa_common_l (n8 : n ≤ 8) {k : Nat} (hk : k < 6) {S : Nat → Prop} (L : ar_LS ls sz k S) {post : Int32 → Prop} (hp : post (nI (ar_cm n S))) : ∀ d j t, j + d = ar_ct S 256 → (∀ i, t.testBit i = true ↔ i < n ∧ ∀ s, s < 256 → S s → ar_ct S s < j → s.testBit i = true) → wX_common_11 post (nI k) (nI n) (nI p) cu fi fo fu gs pc gv xh xb ls sz pe hI hO hU pk tn (d + 1) (nI t) (nI j) := by
  have c256 := ar_ct_le S 256
  intro d
  induction d with
  | zero =>
    intro j t hj ht
    refine And.intro (vp_in_nI hk (by decide)) (br_t ?_ ?_)
    · rw [ar_cl k (by omega), L.1]
      exact nI_le (by omega) (by omega)
    · have e : t = ar_cm n S := by
        apply ar_ext
        intro i
        unfold ar_cm
        rw [ht, ar_mk_tb]
        exact ⟨fun z => ⟨z.1, fun s hs h => z.2 s hs h (by have := ar_ct_lt h hs; omega)⟩, fun z => ⟨z.1, fun s hs h _ => z.2 s hs h⟩⟩
      exact e ▸ hp
  | succ d ih =>
    intro j t hj ht
    obtain ⟨s, hs, hS, hc⟩ := ar_ct_inv (S := S) (m := 256) (j := j) (by omega)
    have e1 : ls (256 * k + j) = nI s := hc ▸ L.2 s hs hS
    refine And.intro (vp_in_nI hk (by decide)) (br_f ?_ (And.intro ?_ (nm_r (e' := nI (t &&& s)) ?_ (nm_r (nI_1 j) (ih (j + 1) _ (by omega) ?_)))))
    · rw [ar_cl k (by omega), L.1]
      exact nI_ge (by omega) (by omega)
    · rw [ar_ix]
      exact vp_in_nI (by omega) (by decide)
    · rw [ar_ix, ar_cl _ (show 256 * k + j < 2 ^ 31 by omega), e1, nx_and]
    · intro i
      rw [ar_and_tb, ht]
      constructor
      · rintro ⟨⟨x, y⟩, z⟩
        refine ⟨x, fun s' hs' h' hc' => ?_⟩
        rcases Nat.lt_or_ge (ar_ct S s') j with q | q
        · exact y s' hs' h' q
        · exact (ar_ct_inj hS h' (by omega)) ▸ z
      · rintro ⟨x, y⟩
        exact ⟨⟨x, fun s' hs' h' hc' => y s' hs' h' (by omega)⟩, y s hs hS (by omega)⟩
theorem xa_common (n8 : n ≤ 8) {k : Nat} (hk : k < 6) {S : Nat → Prop} (L : ar_LS ls sz k S) {post : Int32 → Prop} (hp : post (nI (ar_cm n S))) : wpX_common post (nI n, nI p, cu, fi, fo, fu, gs, pc, gv, xh, xb, ls, sz, pe, hI, hO, hU, pk, tn) (nI k) :=
  nm_r (ar_all n8) (Exists.intro (ar_ct S 256 + 1) (xa_common_l n8 hk L hp _ 0 _ (by omega) (fun i => by
    rw [ar_full_tb]
    exact ⟨fun z => ⟨z, fun s _ _ h => absurd h (Nat.not_lt_zero _)⟩, fun z => z.1⟩)))
end
end
section
/-! a set goes into the sorted list of a kind -/
/-- the lists of the other kinds are as they were -/
def ar_Oth (k : Nat) (ls ls' sz sz' : Nat → Int32) : Prop := (∀ j, (j < 256 * k ∨ 256 * k + 256 ≤ j) → ls' j = ls j) ∧ ∀ j, j ≠ k → sz' j = sz j
theorem ar_Oth_rf (k : Nat) (ls sz : Nat → Int32) : ar_Oth k ls ls sz sz := ⟨fun _ _ => rfl, fun _ _ => rfl⟩
theorem ar_Oth_tr {k : Nat} {l0 l1 l2 z0 z1 z2 : Nat → Int32} (h : ar_Oth k l0 l1 z0 z1) (g : ar_Oth k l1 l2 z1 z2) : ar_Oth k l0 l2 z0 z2 :=
  ⟨fun j hj => (g.1 j hj).trans (h.1 j hj), fun j hj => (g.2 j hj).trans (h.2 j hj)⟩
theorem ar_Oth_LS {k k2 : Nat} {ls ls' sz sz' : Nat → Int32} {S : Nat → Prop} (h : ar_Oth k ls ls' sz sz') (ne : k2 ≠ k) (L : ar_LS ls sz k2 S) : ar_LS ls' sz' k2 S := by
  refine ⟨(h.2 k2 ne).trans L.1, fun s hs hS => (h.1 _ ?_).trans (L.2 s hs hS)⟩
  have a := ar_ct_lt hS hs
  have b := ar_ct_le S 256
  omega
theorem ar_ct_255 {S : Nat → Prop} {t : Nat} (ht : ¬ S t) (h : t < 256) : ar_ct S 256 < 256 := by
  have a := ar_ct_ins ht 256
  rw [if_pos h] at a
  have b := ar_ct_le (fun s => S s ∨ s = t) 256
  omega
section
variable {n p : Nat} {R : Nat → Nat → Prop} {cu fi fo fu gs pc : Int32} {gv xh xb ls sz pe hI hO hU pk tn : Nat → Int32}
theorem xa_ins_69 {k t m : Nat} (hk : k < 6) (h256 : t < 256) {S : Nat → Prop} (ht : ¬ S t) {ls0 sz0 : Nat → Int32} (hsz : sz k = nI (ar_ct S 256)) (hm : m = ar_ct S t)
    (u1 : ∀ s, s < 256 → S s → ar_ct S s < m → ls (256 * k + ar_ct S s) = nI s) (u2 : ∀ s, s < 256 → S s → m ≤ ar_ct S s → ls (256 * k + ar_ct S s + 1) = nI s)
    (u3 : ∀ j, (j < 256 * k ∨ 256 * k + 256 ≤ j) → ls j = ls0 j) (u4 : ∀ j, j ≠ k → sz j = sz0 j) {post : SX → Prop}
    (h : ∀ ls' sz', ar_LS ls' sz' k (fun s => S s ∨ s = t) → ar_Oth k ls0 ls' sz0 sz' → post (nI n, nI p, cu, fi, fo, fu, gs, pc, gv, xh, xb, ls', sz', pe, hI, hO, hU, pk, tn)) :
    wX_insert_69 post (nI k) (nI t) (nI (256 * k)) (nI m) (nI n) (nI p) cu fi fo fu gs pc gv xh xb ls sz pe hI hO hU pk tn := by
  have l255 := ar_ct_255 ht h256
  have lm := ar_ct_mo S (Nat.le_of_lt h256)
  unfold wX_insert_69
  refine ⟨?_, nm_r (e' := upd ls (256 * k + m) (nI t)) ?_ ⟨vp_in_nI hk (by decide), vp_in_nI hk (by decide), nm_r (e' := upd sz k (nI (ar_ct S 256 + 1))) ?_ (h _ _ ⟨?_, ?_⟩ ⟨?_, ?_⟩)⟩⟩
  · rw [nI_add]
    exact vp_in_nI (by omega) (by decide)
  · rw [nI_add, ar_cl (256 * k + m) (by omega)]
  · rw [ar_cl k (by omega), hsz, nI_1]
  · rw [pk_us, ar_ct_ins ht, if_pos h256]
  · intro s hs hS
    rw [ar_ct_ins ht]
    rcases hS with hS | rfl
    · rcases Nat.lt_trichotomy s t with z | z | z
      · rw [if_neg (by omega)]
        have := ar_ct_lt hS z
        rw [pk_un (by omega)]
        exact u1 s hs hS (by omega)
      · exact absurd (z ▸ hS) ht
      · rw [if_pos z]
        have := ar_ct_mo S (Nat.le_of_lt z)
        rw [pk_un (by omega)]
        exact u2 s hs hS (by omega)
    · rw [if_neg (by omega), hm]
      exact pk_us
  · intro j hj
    rw [pk_un (by omega)]
    exact u3 j hj
  · intro j hj
    rw [pk_un hj]
    exact u4 j hj
theorem xa_ins_l {k t : Nat} (hk : k < 6) (h256 : t < 256) {S : Nat → Prop} (ht : ¬ S t) {ls0 sz0 : Nat → Int32} (hsz : sz k = nI (ar_ct S 256)) (u4 : ∀ j, j ≠ k → sz j = sz0 j) {post : SX → Prop}
    (h : ∀ ls' sz', ar_LS ls' sz' k (fun s => S s ∨ s = t) → ar_Oth k ls0 ls' sz0 sz' → post (nI n, nI p, cu, fi, fo, fu, gs, pc, gv, xh, xb, ls', sz', pe, hI, hO, hU, pk, tn)) :
    ∀ m ls, ar_ct S t ≤ m → m ≤ ar_ct S 256 → (∀ s, s < 256 → S s → ar_ct S s < m → ls (256 * k + ar_ct S s) = nI s) → (∀ s, s < 256 → S s → m ≤ ar_ct S s → ls (256 * k + ar_ct S s + 1) = nI s) →
      (∀ j, (j < 256 * k ∨ 256 * k + 256 ≤ j) → ls j = ls0 j) → wX_insert_23 post (nI k) (nI t) (nI (256 * k)) (nI n) (nI p) cu fi fo fu gs pc (m + 1) (nI m) gv xh xb ls sz pe hI hO hU pk tn := by
  have l255 := ar_ct_255 ht h256
  intro m
  induction m with
  | zero =>
    intro ls c1 c2 u1 u2 u3
    exact br_t (nI_le (a := 0) (b := 0) (by omega) (by omega)) (xa_ins_69 hk h256 ht hsz (by omega) u1 u2 u3 u4 h)
  | succ m ih =>
    intro ls c1 c2 u1 u2 u3
    obtain ⟨s, hs, hS, hc⟩ := ar_ct_inv (S := S) (m := 256) (j := m) (by omega)
    have ev : ls (256 * k + m) = nI s := hc ▸ u1 s hs hS (by omega)
    have ei : nI (256 * k) + nI (m + 1) - 1 = nI (256 * k + m) := by
      rw [nI_add]
      exact pk_sub (b := 1) (by omega)
    have eg : ls (nI (256 * k) + nI (m + 1) - 1).toNatClampNeg = nI s := by rw [ei, ar_cl (256 * k + m) (by omega), ev]
    have ein : vp_in (nI (256 * k) + nI (m + 1) - 1) 1536 := by
      rw [ei]
      exact vp_in_nI (by omega) (by decide)
    refine br_f (nI_nle (by omega) (by omega)) (And.intro ein (ar_if (d := s ≤ t) ?_ (fun z => ?_) (fun z => And.intro ein (And.intro ?_ (nm_r (e' := upd ls (256 * k + (m + 1)) (nI s)) ?_ (nm_r (pk_m1 m) (ih _ ?_ (by omega) ?_ ?_ ?_)))))))
    · rw [eg]
      exact nI_leI (by omega) (by omega)
    · have : s ≠ t := fun e => ht (e ▸ hS)
      have := ar_ct_lt hS (show s < t by omega)
      exact xa_ins_69 hk h256 ht hsz (by omega) u1 u2 u3 u4 h
    · rw [nI_add]
      exact vp_in_nI (by omega) (by decide)
    · rw [eg, nI_add, ar_cl (256 * k + (m + 1)) (by omega)]
    · have := ar_ct_mo S (show t ≤ s by omega)
      omega
    · intro s' hs' hS' hc'
      rw [pk_un (by omega)]
      exact u1 s' hs' hS' (by omega)
    · intro s' hs' hS' hc'
      by_cases e : ar_ct S s' = m
      · rw [ar_ct_inj hS' hS (by omega), hc]
        exact pk_us
      · rw [pk_un (by omega)]
        exact u2 s' hs' hS' (by omega)
    · intro j hj
      rw [pk_un (by omega)]
      exact u3 j hj
theorem xa_insert {k t : Nat} (hk : k < 6) (h256 : t < 256) {S : Nat → Prop} (L : ar_LS ls sz k S) (ht : ¬ S t) {post : SX → Prop}
    (h : ∀ ls' sz', ar_LS ls' sz' k (fun s => S s ∨ s = t) → ar_Oth k ls ls' sz sz' → post (nI n, nI p, cu, fi, fo, fu, gs, pc, gv, xh, xb, ls', sz', pe, hI, hO, hU, pk, tn)) : wpX_insert post (nI n, nI p, cu, fi, fo, fu, gs, pc, gv, xh, xb, ls, sz, pe, hI, hO, hU, pk, tn) (nI k) (nI t) := by
  have l255 := ar_ct_255 ht h256
  have lm := ar_ct_mo S (Nat.le_of_lt h256)
  refine nm_r (e' := nI (256 * k)) (pk_mul 256 k) (And.intro (vp_in_nI hk (by decide)) (nm_r (e' := nI (ar_ct S 256)) ?_ (br_f ?_ (Exists.intro (ar_ct S 256 + 1) (xa_ins_l hk h256 ht L.1 (fun _ _ => rfl) h _ ls lm (Nat.le_refl _) ?_ ?_ (fun _ _ => rfl))))))
  · rw [ar_cl k (by omega), L.1]
  · intro z
    have := (nI_eq (b := 256) (by omega) (by decide)).mp z
    omega
  · intro s hs hS _
    exact L.2 s hs hS
  · intro s hs hS hc
    have := ar_ct_lt hS hs
    omega
end
end
section
/-! the forced labels -/
section
variable {n p : Nat} {R : Nat → Nat → Prop} {cu fi fo fu gs pc : Int32} {gv xh xb ls sz pe hI hO hU pk tn : Nat → Int32}
theorem xa_forceAt (K : ar_OK n p R) (D : ar_D n R xh xb) {c I O U : Nat} (hc : c < n) (hp : p.testBit c = true) (sI : ar_sb I p) (sO : ar_sb O p) (sU : ar_sb U p) {post : Int32 → SX → Prop}
    (h1 : ∀ I' O', ar_FA n p R c I O U I' O' → post 1 (nI n, nI p, cu, nI I', nI O', nI U, gs, pc, gv, xh, xb, ls, sz, pe, hI, hO, hU, pk, tn)) (h0 : ∀ I' O', ar_NE n p R I O U → post 0 (nI n, nI p, cu, nI I', nI O', nI U, gs, pc, gv, xh, xb, ls, sz, pe, hI, hO, hU, pk, tn)) :
    wpX_forceAt post (nI n, nI p, cu, nI I, nI O, nI U, gs, pc, gv, xh, xb, ls, sz, pe, hI, hO, hU, pk, tn) (nI c) := by
  have n8 := K.2.1
  have bp := K.2.2.1
  have bB := ar_31 K (ar_B_lt (n := n) (R := R) c)
  have i8 : vp_in (nI c) 8 := vp_in_nI (by omega) (by decide)
  have ec : nI (ar_B n R c) &&& ((nI O ||| nI U) ^^^ (-1)) = nI (ar_dif (ar_B n R c) (O ||| U)) := by rw [ar_or, ar_andn _ bB]
  refine And.intro i8 (nm_r (e' := nI (ar_B n R c)) (by rw [ar_cl c (by omega), (D c hc).2]) (xa_has (ar_31 K (ar_sb_lt sI bp)) (by omega) (fun zI => br_f ar_n10 ?_) (fun zI => br_t rfl (xa_has (ar_31 K (ar_sb_lt sO bp)) (by omega) (fun zO => br_f ar_n10 ?_) (fun zO => br_t rfl (xa_has (ar_31 K (ar_sb_lt sU bp)) (by omega) (fun zU => br_f ar_n10 ?_) (fun zU => br_t rfl ?_)))))))
  · exact And.intro i8 (nm_r (e' := nI ((O ||| ar_B n R c) ||| ar_H n R c)) (by rw [ar_cl c (by omega), (D c hc).1, ar_or, ar_or]) (ar_if (ar_and_z U bB) (fun z => h1 _ _ (ar_c1 K sI sO zI)) (fun z => h0 _ _ (fun E h => z (ar_f_in2 K h zI)))))
  · have w1 : wX_forceAt_102 post (nI (ar_dif (ar_B n R c) (O ||| U))) (nI n) (nI p) cu (nI I) (nI O) (nI U) gs pc gv xh xb ls sz pe hI hO hU pk tn := ar_if (ar_z (ar_dif_lt bB)) (fun z => h0 _ _ (ar_c2n K zO z)) (fun z => h1 _ _ (ar_c2 K sI sO zI z))
    exact nm_r ec (br_c (fun _ => br_c (fun w => nm_r (ar_or I _) (ar_if (ar_z (ar_dif_lt bB)) (fun z => h0 _ _ (ar_c2n K zO z)) (fun z => h1 _ _ (ar_c3 K sI sO zI zO z w)))) (fun _ => w1)) (fun _ => w1))
  · exact ar_if (ar_and_z I bB) (fun z1 => ar_if (ar_andn_z O bB) (fun z2 => h0 _ _ (fun E h => (ar_f_open K h zU hp).2 z2)) (fun z2 => h1 _ _ (ar_c4 K sI sO zI zO z2))) (fun z1 => h0 _ _ (fun E h => z1 (ar_f_open K h zU hp).1))
  · exact ar_if (ar_and_z I bB) (fun z1 => ar_if (ar_andn_z O bB) (fun z2 => nm_r (e' := nI (I ||| 2 ^ c)) (by rw [ar_shl (by omega), ar_or]) (h1 _ _ (ar_c6 K sI sO hp zI z2))) (fun z2 => h1 _ _ (ar_c4 K sI sO zI zO z2))) (fun z1 => nm_r (e' := nI (O ||| 2 ^ c)) (by rw [ar_shl (by omega), ar_or]) (h1 _ _ (ar_c5 K sI sO hp zO z1)))
theorem xa_force_24 (K : ar_OK n p R) (D : ar_D n R xh xb) {I0 O0 U r : Nat} (bI0 : I0 < 256) (bO0 : O0 < 256) (sU : ar_sb U p) {post : Int32 → SX → Prop} {J : Int32 → Int32 → Int32 → Int32 → Int32 → Int32 → Int32 → Int32 → Int32 → (Nat → Int32) → (Nat → Int32) → (Nat → Int32) → (Nat → Int32) → (Nat → Int32) → (Nat → Int32) → (Nat → Int32) → (Nat → Int32) → (Nat → Int32) → (Nat → Int32) → (Nat → Int32) → Prop}
    (h1 : ar_GL n p R I0 O0 U → post 1 (nI n, nI p, cu, nI I0, nI O0, nI U, gs, pc, gv, xh, xb, ls, sz, pe, hI, hO, hU, pk, tn)) (h0 : ∀ I' O', ar_NE n p R I0 O0 U → post 0 (nI n, nI p, cu, nI I', nI O', nI U, gs, pc, gv, xh, xb, ls, sz, pe, hI, hO, hU, pk, tn))
    (hJ : ∀ I' O', ar_sb I0 I' → ar_sb O0 O' → ar_sb I' p → ar_sb O' p → (I0 ≠ I' ∨ O0 ≠ O') → (∀ E, ar_XL n p R I0 O0 U E → ar_xt n R I' O' U E) → J (nI (r + 1)) (nI n) (nI p) cu (nI I') (nI O') (nI U) gs pc gv xh xb ls sz pe hI hO hU pk tn) :
    ∀ d c I O, c + d = n → ar_sb I0 I → ar_sb O0 O → ar_sb I p → ar_sb O p → (I = I0 → O = O0 → ∀ c', c' < c → p.testBit c' = true → ar_okc n R I O U c') → (∀ E, ar_XL n p R I0 O0 U E → ar_xt n R I O U E) →
      wX_force_24 post J (nI r) (nI (I0 + 256 * O0)) (d + 1) (nI c) (nI n) (nI p) cu (nI I) (nI O) (nI U) gs pc gv xh xb ls sz pe hI hO hU pk tn := by
  have n8 := K.2.1
  have bp := K.2.2.1
  intro d
  induction d with
  | zero =>
    intro c I O hc a1 a2 a3 a4 a5 a6
    have bI := ar_256 K (ar_sb_lt a3 bp)
    have bO := ar_256 K (ar_sb_lt a4 bp)
    have ev : nI I + (256 * nI O) = nI (I + 256 * O) := by
      show nI I + (nI 256 * nI O) = _
      rw [pk_mul, nI_add]
    refine br_t (nI_le (by omega) (by omega)) (ar_if (ar_and_z O (by omega)) (fun d1 => ar_if (ar_and_z U (by omega)) (fun d2 => ar_if (ar_and_z U (by omega)) (fun d3 => ar_if (d := I0 + 256 * O0 = I + 256 * O) ?_ (fun e => ?_) (fun e => nm_r (nI_1 r) (hJ I O a1 a2 a3 a4 (by omega) a6))) (fun d3 => h0 _ _ (fun E h => d3 fun i x y => ((a6 E h).2.2 i y).2 ((a6 E h).2.1 i x)))) (fun d2 => h0 _ _ (fun E h => d2 fun i x y => ((a6 E h).2.2 i y).1 ((a6 E h).1 i x)))) (fun d1 => h0 _ _ (fun E h => d1 fun i x y => ar_cp_dj K h.1 i ((a6 E h).1 i x) ((a6 E h).2.1 i y))))
    · rw [ev]
      exact nI_eq (by omega) (by omega)
    · have e1 : I = I0 := by omega
      have e2 : O = O0 := by omega
      subst e1 e2
      exact h1 ⟨a3, a4, d1, d2, d3, fun c' h' => a5 rfl rfl c' (by have := ar_hi bp h'; omega) h'⟩
  | succ d ih =>
    intro c I O hc a1 a2 a3 a4 a5 a6
    refine br_f (nI_ge (by omega) (by omega)) (xa_has (ar_p31 K) (by omega) (fun hp => br_f ar_n10 (xa_forceAt K D (by omega) hp a3 a4 sU (fun I' O' F => br_f ar_n10 (nm_r (nI_1 c) (ih (c + 1) I' O' (by omega) (ar_sb_tr a1 F.1) (ar_sb_tr a2 F.2.1) F.2.2.1 F.2.2.2.1 ?_ (fun E h => F.2.2.2.2.2 E ⟨h.1, a6 E h⟩)))) (fun I' O' F => br_t rfl (h0 _ _ (fun E h => F E ⟨h.1, a6 E h⟩))))) (fun hp => br_t rfl (nm_r (nI_1 c) (ih (c + 1) I O (by omega) a1 a2 a3 a4 (fun e1 e2 c' h' hp' => ?_) a6))))
    · intro e1 e2 c' h' hp'
      have f1 : I = I0 := ar_sb_an (e1 ▸ F.1) a1
      have f2 : O = O0 := ar_sb_an (e2 ▸ F.2.1) a2
      have g1 : I' = I := e1.trans f1.symm
      have g2 : O' = O := e2.trans f2.symm
      rw [g1, g2]
      by_cases e : c' = c
      · exact e ▸ F.2.2.2.2.1 g1 g2
      · exact a5 f1 f2 c' (by omega) hp'
    · have : c' ≠ c := fun e => hp (e ▸ hp')
      exact a5 e1 e2 c' (by omega) hp'
theorem xa_force_2 (K : ar_OK n p R) (D : ar_D n R xh xb) {U I0 O0 : Nat} (sU : ar_sb U p) {post : Int32 → SX → Prop}
    (h1 : ∀ I' O', ar_FS n p R I0 O0 U I' O' → post 1 (nI n, nI p, cu, nI I', nI O', nI U, gs, pc, gv, xh, xb, ls, sz, pe, hI, hO, hU, pk, tn)) (h0 : ∀ I' O', ar_NE n p R I0 O0 U → post 0 (nI n, nI p, cu, nI I', nI O', nI U, gs, pc, gv, xh, xb, ls, sz, pe, hI, hO, hU, pk, tn)) :
    ∀ f r I O, r ≤ ar_pc n I + ar_pc n O → 2 * n < f + (ar_pc n I + ar_pc n O) → ar_sb I0 I → ar_sb O0 O → ar_sb I p → ar_sb O p → (∀ E, ar_XL n p R I0 O0 U E → ar_xt n R I O U E) →
      wX_force_2 post f (nI r) (nI n) (nI p) cu (nI I) (nI O) (nI U) gs pc gv xh xb ls sz pe hI hO hU pk tn := by
  have n8 := K.2.1
  have bp := K.2.2.1
  intro f
  induction f with
  | zero =>
    intro r I O hr hf
    have := ar_pc_le n I
    have := ar_pc_le n O
    omega
  | succ f ih =>
    intro r I O hr hf a1 a2 a3 a4 a6
    have q1 := ar_pc_le n I
    have q2 := ar_pc_le n O
    have bI := ar_256 K (ar_sb_lt a3 bp)
    have bO := ar_256 K (ar_sb_lt a4 bp)
    have ev : nI I + (256 * nI O) = nI (I + 256 * O) := by
      show nI I + (nI 256 * nI O) = _
      rw [pk_mul, nI_add]
    refine br_f (nI_ge (b := 25) (by omega) (by decide)) (nm_r ev (Exists.intro (n + 1) (xa_force_24 K D bI bO sU (fun G => h1 I O ⟨a1, a2, G, a6⟩) (fun I' O' N => h0 I' O' (fun E h => N E ⟨h.1, a6 E h⟩)) (fun I' O' b1 b2 b3 b4 b5 b6 => ih (r + 1) I' O' ?_ ?_ (ar_sb_tr a1 b1) (ar_sb_tr a2 b2) b3 b4 (fun E h => b6 E ⟨h.1, a6 E h⟩)) n 0 I O (by omega) (ar_sb_rf I) (ar_sb_rf O) a3 a4 (fun _ _ c' h' => absurd h' (Nat.not_lt_zero _)) (fun E h => h.2))))
    all_goals
      have m1 := ar_pc_sb (n := n) b1
      have m2 := ar_pc_sb (n := n) b2
      have m3 : I ≠ I' → ar_pc n I < ar_pc n I' := ar_pc_lt b1 (ar_sb_lt b3 bp)
      have m4 : O ≠ O' → ar_pc n O < ar_pc n O' := ar_pc_lt b2 (ar_sb_lt b4 bp)
      rcases b5 with z | z
      · have := m3 z
        omega
      · have := m4 z
        omega
theorem xa_force (K : ar_OK n p R) (D : ar_D n R xh xb) {U I O : Nat} (sI : ar_sb I p) (sO : ar_sb O p) (sU : ar_sb U p) {post : Int32 → SX → Prop}
    (h1 : ∀ I' O', ar_FS n p R I O U I' O' → post 1 (nI n, nI p, cu, nI I', nI O', nI U, gs, pc, gv, xh, xb, ls, sz, pe, hI, hO, hU, pk, tn)) (h0 : ∀ I' O', ar_NE n p R I O U → post 0 (nI n, nI p, cu, nI I', nI O', nI U, gs, pc, gv, xh, xb, ls, sz, pe, hI, hO, hU, pk, tn)) :
    wpX_force post (nI n, nI p, cu, nI I, nI O, nI U, gs, pc, gv, xh, xb, ls, sz, pe, hI, hO, hU, pk, tn) :=
  Exists.intro (2 * n + 1) (xa_force_2 K D sU h1 h0 (2 * n + 1) 0 I O (Nat.zero_le _) (by omega) (ar_sb_rf I) (ar_sb_rf O) sI sO (fun E h => h.2))
theorem xa_store_l (n8 : n ≤ 8) {d m : Nat} (hd : d < 9) (hm : m < 2 ^ 31) {post : SX → Prop} (h : ∀ c, ((c = n ∧ ∀ i, i < n → ¬ m.testBit i = true) ∨ (c < n ∧ m.testBit c = true)) → post (nI n, nI p, cu, fi, fo, fu, gs, pc, gv, xh, xb, ls, sz, pe, hI, hO, hU, upd pk d (nI c), tn)) :
    ∀ e c, c + e = n → (∀ i, i < c → ¬ m.testBit i = true) → wX_store_61 post (nI d) (nI m) (nI n) (nI p) cu fi fo fu gs pc gv xh xb ls sz pe hI hO hU pk tn (e + 1) (nI c) := by
  have i9 : vp_in (nI d) 9 := vp_in_nI hd (by decide)
  intro e
  induction e with
  | zero =>
    intro c hc hz
    exact br_t (nI_le (by omega) (by omega)) (And.intro i9 (nm_r (e' := upd pk d (nI c)) (by rw [ar_cl d (by omega)]) (h c (Or.inl ⟨by omega, fun i hi => hz i (by omega)⟩))))
  | succ e ih =>
    intro c hc hz
    refine br_f (nI_ge (by omega) (by omega)) (xa_has hm (by omega) (fun hb => br_f ar_n10 (And.intro i9 (nm_r (e' := upd pk d (nI c)) (by rw [ar_cl d (by omega)]) (h c (Or.inr ⟨by omega, hb⟩))))) (fun hb => br_t rfl (nm_r (nI_1 c) (ih (c + 1) (by omega) (fun i hi => ?_)))))
    by_cases z : i = c
    · exact z ▸ hb
    · exact hz i (by omega)
theorem ar_fr_tb (p I O U i : Nat) : (ar_dif p ((I ||| O) ||| U)).testBit i = true ↔ ar_fr p I O U i := by
  rw [ar_dif_tb, ar_or_tb, ar_or_tb]
  unfold ar_fr
  constructor
  · rintro ⟨a, b⟩
    exact ⟨a, fun z => b (Or.inl (Or.inl z)), fun z => b (Or.inl (Or.inr z)), fun z => b (Or.inr z)⟩
  · rintro ⟨a, b, c, d⟩
    refine ⟨a, ?_⟩
    rintro ((z | z) | z)
    · exact b z
    · exact c z
    · exact d z
def ar_pick (n p I O U c : Nat) : Prop := (c = n ∧ ∀ i, i < n → ¬ ar_fr p I O U i) ∨ (c < n ∧ ar_fr p I O U c)
theorem xa_store (K : ar_OK n p R) {d I O U : Nat} (hd : d < 9) {post : SX → Prop} (h : ∀ c, ar_pick n p I O U c → post (nI n, nI p, cu, nI I, nI O, nI U, gs, pc, gv, xh, xb, ls, sz, pe, upd hI d (nI I), upd hO d (nI O), upd hU d (nI U), upd pk d (nI c), upd tn d 0)) :
    wpX_store post (nI n, nI p, cu, nI I, nI O, nI U, gs, pc, gv, xh, xb, ls, sz, pe, hI, hO, hU, pk, tn) (nI d) := by
  have i9 : vp_in (nI d) 9 := vp_in_nI hd (by decide)
  have ed : (nI d).toNatClampNeg = d := nI_clamp (by omega)
  refine And.intro i9 (nm_r (e' := upd hI d (nI I)) (by rw [ed]) (And.intro i9 (nm_r (e' := upd hO d (nI O)) (by rw [ed]) (And.intro i9 (nm_r (e' := upd hU d (nI U)) (by rw [ed]) (And.intro i9 (nm_r (e' := upd tn d 0) (by rw [ed]) (nm_r (e' := nI (ar_dif p ((I ||| O) ||| U))) (by rw [ar_or, ar_or, ar_andn _ (ar_p31 K)]) (Exists.intro (n + 1) (xa_store_l K.2.1 hd (ar_dif_lt (ar_p31 K)) (fun c hc => h c ?_) n 0 (by omega) (fun i hi => absurd hi (Nat.not_lt_zero i))))))))))))
  rcases hc with ⟨a, b⟩ | ⟨a, b⟩
  · exact Or.inl ⟨a, fun i hi z => b i hi ((ar_fr_tb p I O U i).mpr z)⟩
  · exact Or.inr ⟨a, (ar_fr_tb p I O U c).mp b⟩
end
end
section
/-! the search over the labels -/
def ar_KF (d : Nat) (hI hO hU pk tn hI' hO' hU' pk' tn' : Nat → Int32) : Prop := ∀ j, j < d → hI' j = hI j ∧ hO' j = hO j ∧ hU' j = hU j ∧ pk' j = pk j ∧ tn' j = tn j
def ar_Fr (hI hO hU pk tn : Nat → Int32) (d I O U c t : Nat) : Prop := hI d = nI I ∧ hO d = nI O ∧ hU d = nI U ∧ pk d = nI c ∧ tn d = nI t
def xl_c : Nat → Nat
  | 0 => 1
  | k + 1 => 4 + 3 * xl_c k
theorem xl_c_1 (k : Nat) : 1 ≤ xl_c k := by
  cases k with
  | zero => exact Nat.le_refl _
  | succ k => rw [xl_c]; omega
theorem xl_c_mo {a b : Nat} (h : a ≤ b) : xl_c a ≤ xl_c b := by
  induction b with
  | zero => rw [Nat.le_zero.mp h]; exact Nat.le_refl _
  | succ b ih =>
    rcases Nat.lt_or_ge b a with z | z
    · rw [show a = b + 1 by omega]; exact Nat.le_refl _
    · have := ih z
      rw [xl_c]
      omega
theorem xl_c_8 : xl_c 8 = 19681 := by decide
/-- what is asked of the loop at depth D once the frames from d on are done -/
def xl_K (post : SX → Prop) (n p : Nat) (cu gs pc : Int32) (gv xh xb pe : Nat → Int32) (D : Int32) (d X : Nat) (S : Nat → Prop) (ls sz hI hO hU pk tn : Nat → Int32) : Prop :=
  ∀ (f x : Nat) (fi fo fu : Int32) (ls' sz' hI' hO' hU' pk' tn' : Nat → Int32), x ≤ X → 20000 < f + x → ar_KF d hI hO hU pk tn hI' hO' hU' pk' tn' → ar_LS ls' sz' 1 S → ar_Oth 1 ls ls' sz sz' →
    wX_labelAll_32 post f D (nI x) (nI n) (nI p) cu fi fo fu gs pc gv xh xb ls' sz' pe hI' hO' hU' pk' tn'
section
variable {n p : Nat} {R : Nat → Nat → Prop} {cu fi fo fu gs pc : Int32} {gv xh xb ls sz pe hI hO hU pk tn : Nat → Int32} {post : SX → Prop}
theorem xl_K_ch {D : Int32} {d X X1 : Nat} {S S1 : Nat → Prop} {ls1 sz1 hI1 hO1 hU1 pk1 tn1 : Nat → Int32} (h : xl_K post n p cu gs pc gv xh xb pe D d X S ls sz hI hO hU pk tn) (hX : X1 ≤ X) (hS : S1 = S) (hF : ar_KF d hI hO hU pk tn hI1 hO1 hU1 pk1 tn1) (hO : ar_Oth 1 ls ls1 sz sz1) :
    xl_K post n p cu gs pc gv xh xb pe D d X1 S1 ls1 sz1 hI1 hO1 hU1 pk1 tn1 := by
  intro f x fi fo fu ls' sz' hI' hO' hU' pk' tn' a b c d e
  refine h f x fi fo fu ls' sz' hI' hO' hU' pk' tn' (by omega) b ?_ (hS ▸ d) (ar_Oth_tr hO e)
  intro j hj
  have x1 := hF j hj
  have x2 := c j hj
  exact ⟨x2.1.trans x1.1, x2.2.1.trans x1.2.1, x2.2.2.1.trans x1.2.2.1, x2.2.2.2.1.trans x1.2.2.2.1, x2.2.2.2.2.trans x1.2.2.2.2⟩
/-- the head of the loop at a frame that has no free claim -/
theorem xl_leaf {d I O U t x f : Nat} {S : Nat → Prop} (n8 : n ≤ 8) (hd : d ≤ 8) (F : ar_Fr hI hO hU pk tn d I O U n t) (hx : x < 20000) (hf : 20000 < f + x) (bI : I < 256) (L : ar_LS ls sz 1 S) (hS : ¬ S I)
    (k : xl_K post n p cu gs pc gv xh xb pe (nI d + (-1)) d (x + 1) (fun E => S E ∨ E = I) ls sz hI hO hU pk tn) : wX_labelAll_32 post f (nI d) (nI x) (nI n) (nI p) cu fi fo fu gs pc gv xh xb ls sz pe hI hO hU pk tn := by
  obtain ⟨f, rfl⟩ : ∃ g, f = g + 1 := ⟨f - 1, by omega⟩
  have i9 : vp_in (nI d) 9 := vp_in_nI (by omega) (by decide)
  have ed : (nI d).toNatClampNeg = d := nI_clamp (by omega)
  refine br_f (nI_ge (b := 20000) hx (by decide)) (br_f (nI_pos (by omega)) (And.intro i9 (nm_r (e' := nI I) (by rw [ed, F.1]) (And.intro i9 (nm_r (e' := nI O) (by rw [ed, F.2.1]) (And.intro i9 (nm_r (e' := nI U) (by rw [ed, F.2.2.1]) (And.intro i9 (br_t (by rw [ed, F.2.2.2.1]) (xa_insert (k := 1) (by decide) bI L hS (fun ls' sz' L' O' => nm_e (nm_r (nI_1 x) (k f (x + 1) _ _ _ _ _ _ _ _ _ _ (Nat.le_refl _) (by omega) (fun j _ => ⟨rfl, rfl, rfl, rfl, rfl⟩) L' O')))))))))))))
theorem xl_pop {d I O U c x f : Nat} {S : Nat → Prop} (n8 : n ≤ 8) (hd : d ≤ 8) (hc : c < n) (F : ar_Fr hI hO hU pk tn d I O U c 3) (hx : x < 20000) (hf : 20000 < f + x) (L : ar_LS ls sz 1 S)
    (k : xl_K post n p cu gs pc gv xh xb pe (nI d + (-1)) d (x + 1) S ls sz hI hO hU pk tn) : wX_labelAll_32 post f (nI d) (nI x) (nI n) (nI p) cu fi fo fu gs pc gv xh xb ls sz pe hI hO hU pk tn := by
  obtain ⟨f, rfl⟩ : ∃ g, f = g + 1 := ⟨f - 1, by omega⟩
  have i9 : vp_in (nI d) 9 := vp_in_nI (by omega) (by decide)
  have ed : (nI d).toNatClampNeg = d := nI_clamp (by omega)
  have np : ¬ pk (nI d).toNatClampNeg = nI n := by
    rw [ed, F.2.2.2.1, nI_eq (by omega) (by omega)]
    omega
  refine br_f (nI_ge (b := 20000) hx (by decide)) (br_f (nI_pos (by omega)) (And.intro i9 (nm_r (e' := nI I) (by rw [ed, F.1]) (And.intro i9 (nm_r (e' := nI O) (by rw [ed, F.2.1]) (And.intro i9 (nm_r (e' := nI U) (by rw [ed, F.2.2.1]) (And.intro i9 (br_f np (And.intro i9 (br_t (by rw [ed, F.2.2.2.2]; rfl) (nm_e (nm_r (nI_1 x) (k f (x + 1) _ _ _ _ _ _ _ _ _ _ (Nat.le_refl _) (by omega) (fun j _ => ⟨rfl, rfl, rfl, rfl, rfl⟩) L (ar_Oth_rf _ _ _)))))))))))))))
theorem ar_t3 {t : Nat} (h : t < 3) : ¬ nI t = 3 := fun z => by
  have := (nI_eq (b := 3) (by omega) (by decide)).mp z
  omega
/-- the head of the loop at a frame with a turn left: what is asked at the join behind it -/
theorem xl_turn {d I O U c t x f : Nat} (n8 : n ≤ 8) (hd : d ≤ 8) (hc : c < n) (ht : t < 3) (F : ar_Fr hI hO hU pk tn d I O U c t) (hx : x < 20000)
    (k : wX_labelAll_181 post (wX_labelAll_32 post f) (nI d) (nI x) (nI n) (nI p) cu (nI (if t = 0 then I ||| 2 ^ c else I)) (nI (if t = 1 then O ||| 2 ^ c else O)) (nI (if t = 2 then U ||| 2 ^ c else U)) gs pc gv xh xb ls sz pe hI hO hU pk tn) : wX_labelAll_32 post (f + 1) (nI d) (nI x) (nI n) (nI p) cu fi fo fu gs pc gv xh xb ls sz pe hI hO hU pk tn := by
  have i9 : vp_in (nI d) 9 := vp_in_nI (by omega) (by decide)
  have ed : (nI d).toNatClampNeg = d := nI_clamp (by omega)
  have np : ¬ pk (nI d).toNatClampNeg = nI n := by
    rw [ed, F.2.2.2.1, nI_eq (by omega) (by omega)]
    omega
  have et : tn (nI d).toNatClampNeg = nI t := by rw [ed, F.2.2.2.2]
  have n3 : ¬ tn (nI d).toNatClampNeg = 3 := by rw [et]; exact ar_t3 ht
  have eb : (1 : Int32) <<< (pk (nI d).toNatClampNeg &&& 31) = nI (2 ^ c) := by rw [ed, F.2.2.2.1, ar_shl (by omega)]
  refine br_f (nI_ge (b := 20000) hx (by decide)) (br_f (nI_pos (by omega)) (And.intro i9 (nm_r (e' := nI I) (by rw [ed, F.1]) (And.intro i9 (nm_r (e' := nI O) (by rw [ed, F.2.1]) (And.intro i9 (nm_r (e' := nI U) (by rw [ed, F.2.2.1]) (And.intro i9 (br_f np (And.intro i9 (br_f n3 (And.intro i9 (nm_r eb (And.intro i9 ?_))))))))))))))
  match t, ht, et, k with
  | 0, _, et, k => exact br_t et (nm_r (ar_or I _) k)
  | 1, _, et, k => exact br_f (by rw [et]; decide) (And.intro i9 (br_t et (nm_r (ar_or O _) k)))
  | 2, _, et, k => exact br_f (by rw [et]; decide) (And.intro i9 (br_f (by rw [et]; decide) (nm_r (ar_or U _) k)))
def xl_P (post : SX → Prop) (n p : Nat) (R : Nat → Nat → Prop) (cu gs pc : Int32) (gv xh xb pe : Nat → Int32) (k : Nat) : Prop :=
  ∀ (d I O U c x : Nat) (S : Nat → Prop) (fi fo fu : Int32) (ls sz hI hO hU pk tn : Nat → Int32), d + k ≤ 8 → ar_GL n p R I O U → ar_sb U p → ar_pick n p I O U c → ar_ct (ar_fr p I O U) n ≤ k → ar_Fr hI hO hU pk tn d I O U c 0 →
    ar_LS ls sz 1 S → (∀ E, S E → ar_XL n p R I O U E → False) → x + xl_c k ≤ 20000 → xl_K post n p cu gs pc gv xh xb pe (nI d + (-1)) d (x + xl_c k) (fun E => S E ∨ ar_XL n p R I O U E) ls sz hI hO hU pk tn →
    ∀ f, 20000 < f + x → wX_labelAll_32 post f (nI d) (nI x) (nI n) (nI p) cu fi fo fu gs pc gv xh xb ls sz pe hI hO hU pk tn
/-- one branch -/
theorem xl_br (K : ar_OK n p R) (D : ar_D n R xh xb) {k d I O U t x f : Nat} {S : Nat → Prop} (ih : xl_P post n p R cu gs pc gv xh xb pe k) (hd : d + 1 + k ≤ 8) (sI : ar_sb I p) (sO : ar_sb O p) (sU : ar_sb U p)
    (hfr : ar_ct (ar_fr p I O U) n ≤ k) (et : tn d = nI t) (L : ar_LS ls sz 1 S) (dj : ∀ E, S E → ar_XL n p R I O U E → False) (hx : x + 1 + xl_c k ≤ 20000) (hf : 20000 < f + (x + 1))
    (kn : xl_K post n p cu gs pc gv xh xb pe (nI d) (d + 1) (x + 1 + xl_c k) (fun E => S E ∨ ar_XL n p R I O U E) ls sz hI hO hU pk (upd tn d (nI (t + 1)))) :
    wX_labelAll_181 post (wX_labelAll_32 post f) (nI d) (nI x) (nI n) (nI p) cu (nI I) (nI O) (nI U) gs pc gv xh xb ls sz pe hI hO hU pk tn := by
  have i9 : vp_in (nI d) 9 := vp_in_nI (by omega) (by decide)
  have ed : (nI d).toNatClampNeg = d := nI_clamp (by omega)
  unfold wX_labelAll_181
  refine And.intro i9 (And.intro i9 (nm_r (e' := upd tn d (nI (t + 1))) (by rw [ed, et, nI_1]) (xa_force K D sI sO sU (fun I' O' F => br_f ar_n10 (nm_r (nI_1 d) (xa_store K (by omega) (fun c' hc' => nm_r (nI_1 x) (ih (d + 1) I' O' U c' (x + 1) S _ _ _ _ _ _ _ _ _ _ hd F.2.2.1 sU hc' ?_ ⟨pk_us, pk_us, pk_us, pk_us, pk_us⟩ L ?_ hx ?_ f hf))))) (fun I' O' N => br_t rfl (nm_r (nI_1 x) (kn f (x + 1) _ _ _ _ _ _ _ _ _ _ (by omega) hf (fun j _ => ⟨rfl, rfl, rfl, rfl, rfl⟩) ?_ (ar_Oth_rf _ _ _)))))))
  · refine Nat.le_trans (ar_ct_sub ?_) hfr
    rintro i _ ⟨a, b, c, e⟩
    exact ⟨a, fun z => b (F.1 i z), fun z => c (F.2.1 i z), e⟩
  · rw [ar_FS_XL F]
    exact dj
  · rw [pk_m1]
    refine xl_K_ch kn (Nat.le_refl _) (by rw [ar_FS_XL F]) ?_ (ar_Oth_rf _ _ _)
    intro j hj
    exact ⟨pk_un (by omega), pk_un (by omega), pk_un (by omega), pk_un (by omega), pk_un (by omega)⟩
  · have e : (fun E => S E ∨ ar_XL n p R I O U E) = S := ar_ct_eq fun E => ⟨fun z => z.elim id (fun y => (N E y).elim), Or.inl⟩
    rw [e]
    exact L
theorem xl_all (K : ar_OK n p R) (D : ar_D n R xh xb) : ∀ k, xl_P post n p R cu gs pc gv xh xb pe k := by
  have n8 := K.2.1
  have bp := K.2.2.1
  intro k
  induction k with
  | zero =>
    intro d I O U c x S fi fo fu ls sz hI hO hU pk tn hd G sU hp hfr F L dj hx kn f hf
    have nf : ∀ i, i < n → ¬ ar_fr p I O U i := by
      intro i hi z
      have := ar_ct_lt z hi
      omega
    have ec : c = n := by
      rcases hp with z | z
      · exact z.1
      · exact absurd z.2 (nf c z.1)
    subst ec
    have hI := ar_lf K G nf
    have eS : (fun E => S E ∨ E = I) = (fun E => S E ∨ ar_XL c p R I O U E) := ar_ct_eq fun E => or_congr Iff.rfl (ar_lf_un K G nf).symm
    exact xl_leaf n8 (by omega) F (by have := xl_c_1 0; omega) hf (ar_256 K (ar_sb_lt G.1 bp)) L (fun z => dj I z hI) (xl_K_ch kn (by have := xl_c_1 0; omega) eS (fun j _ => ⟨rfl, rfl, rfl, rfl, rfl⟩) (ar_Oth_rf _ _ _))
  | succ k ih =>
    intro d I O U c x S fi fo fu ls sz hI hO hU pk tn hd G sU hp hfr F L dj hx kn f hf
    have hx0 : x + (4 + 3 * xl_c k) ≤ 20000 := hx
    have c1 := xl_c_1 k
    rcases hp with ⟨ec, nf⟩ | ⟨hc, fc⟩
    · subst ec
      have hI := ar_lf K G nf
      have eS : (fun E => S E ∨ E = I) = (fun E => S E ∨ ar_XL c p R I O U E) := ar_ct_eq fun E => or_congr Iff.rfl (ar_lf_un K G nf).symm
      exact xl_leaf n8 (by omega) F (by omega) hf (ar_256 K (ar_sb_lt G.1 bp)) L (fun z => dj I z hI) (xl_K_ch kn (by have := xl_c_1 (k + 1); omega) eS (fun j _ => ⟨rfl, rfl, rfl, rfl, rfl⟩) (ar_Oth_rf _ _ _))
    · have sc := ar_pw_sb fc.1
      have fr0 : ar_ct (ar_fr p (I ||| 2 ^ c) O U) n ≤ k := by
        have := ar_ct_str (S := ar_fr p (I ||| 2 ^ c) O U) (T := ar_fr p I O U) (m := n) (c := c) (fun i _ z => ⟨z.1, fun y => z.2.1 ((ar_ob_tb _ _ i).mpr (Or.inl y)), z.2.2⟩) hc fc (fun z => z.2.1 ((ar_ob_tb _ _ c).mpr (Or.inr rfl)))
        omega
      have fr1 : ar_ct (ar_fr p I (O ||| 2 ^ c) U) n ≤ k := by
        have := ar_ct_str (S := ar_fr p I (O ||| 2 ^ c) U) (T := ar_fr p I O U) (m := n) (c := c) (fun i _ z => ⟨z.1, z.2.1, fun y => z.2.2.1 ((ar_ob_tb _ _ i).mpr (Or.inl y)), z.2.2.2⟩) hc fc (fun z => z.2.2.1 ((ar_ob_tb _ _ c).mpr (Or.inr rfl)))
        omega
      have fr2 : ar_ct (ar_fr p I O (U ||| 2 ^ c)) n ≤ k := by
        have := ar_ct_str (S := ar_fr p I O (U ||| 2 ^ c)) (T := ar_fr p I O U) (m := n) (c := c) (fun i _ z => ⟨z.1, z.2.1, z.2.2.1, fun y => z.2.2.2 ((ar_ob_tb _ _ i).mpr (Or.inl y))⟩) hc fc (fun z => z.2.2.2 ((ar_ob_tb _ _ c).mpr (Or.inr rfl)))
        omega
      obtain ⟨f, rfl⟩ : ∃ g, f = g + 1 := ⟨f - 1, by omega⟩
      refine xl_turn n8 (by omega) hc (by decide) F (by omega) ?_
      refine xl_br (I := I ||| 2 ^ c) (O := O) (U := U) K D ih (by omega) (ar_or_sb G.1 sc) G.2.1 sU fr0 F.2.2.2.2 L (fun E h1 h2 => dj E h1 (ar_bi.mp h2).1) (by omega) (by omega) ?_
      intro f1 x1 fi1 fo1 fu1 ls1 sz1 hI1 hO1 hU1 pk1 tn1 hx1 hf1 k1 L1 O1
      have g1 := k1 d (by omega)
      have t1 : tn1 d = nI 1 := g1.2.2.2.2.trans pk_us
      obtain ⟨f1, rfl⟩ : ∃ g, f1 = g + 1 := ⟨f1 - 1, by omega⟩
      refine xl_turn (I := I) (O := O) (U := U) (c := c) (t := 1) n8 (by omega) hc (by decide) ⟨g1.1.trans F.1, g1.2.1.trans F.2.1, g1.2.2.1.trans F.2.2.1, g1.2.2.2.1.trans F.2.2.2.1, t1⟩ (by omega) ?_
      refine xl_br (I := I) (O := O ||| 2 ^ c) (U := U) K D ih (by omega) G.1 (ar_or_sb G.2.1 sc) sU fr1 t1 L1 ?_ (by omega) (by omega) ?_
      · rintro E (h1 | h1) h2
        · exact dj E h1 (ar_bo.mp h2).1
        · exact ar_cp_dj K h1.1 c (ar_bi.mp h1).2 (ar_bo.mp h2).2
      intro f2 x2 fi2 fo2 fu2 ls2 sz2 hI2 hO2 hU2 pk2 tn2 hx2 hf2 k2 L2 O2
      have g2 := k2 d (by omega)
      have t2 : tn2 d = nI 2 := g2.2.2.2.2.trans pk_us
      obtain ⟨f2, rfl⟩ : ∃ g, f2 = g + 1 := ⟨f2 - 1, by omega⟩
      refine xl_turn (I := I) (O := O) (U := U) (c := c) (t := 2) n8 (by omega) hc (by decide) ⟨(g2.1.trans g1.1).trans F.1, (g2.2.1.trans g1.2.1).trans F.2.1, (g2.2.2.1.trans g1.2.2.1).trans F.2.2.1, (g2.2.2.2.1.trans g1.2.2.2.1).trans F.2.2.2.1, t2⟩ (by omega) ?_
      refine xl_br (I := I) (O := O) (U := U ||| 2 ^ c) K D ih (by omega) G.1 G.2.1 (ar_or_sb sU sc) fr2 t2 L2 ?_ (by omega) (by omega) ?_
      · rintro E ((h1 | h1) | h1) h2
        · exact dj E h1 (ar_bu.mp h2).1
        · exact (ar_bu.mp h2).2.1 (ar_bi.mp h1).2
        · exact (ar_bu.mp h2).2.2 (ar_bo.mp h1).2
      intro f3 x3 fi3 fo3 fu3 ls3 sz3 hI3 hO3 hU3 pk3 tn3 hx3 hf3 k3 L3 O3
      have g3 := k3 d (by omega)
      have t3 : tn3 d = nI 3 := g3.2.2.2.2.trans pk_us
      refine xl_pop (I := I) (O := O) (U := U) n8 (by omega) hc ⟨((g3.1.trans g2.1).trans g1.1).trans F.1, ((g3.2.1.trans g2.2.1).trans g1.2.1).trans F.2.1, ((g3.2.2.1.trans g2.2.2.1).trans g1.2.2.1).trans F.2.2.1, ((g3.2.2.2.1.trans g2.2.2.2.1).trans g1.2.2.2.1).trans F.2.2.2.1, t3⟩ (by omega) hf3 L3 ?_
      refine xl_K_ch kn (by rw [xl_c]; omega) ?_ ?_ (ar_Oth_tr (ar_Oth_tr O1 O2) O3)
      · apply ar_ct_eq
        intro E
        rw [ar_bi, ar_bo, ar_bu]
        constructor
        · rintro (((h | h) | h) | h)
          · exact Or.inl h
          · exact Or.inr h.1
          · exact Or.inr h.1
          · exact Or.inr h.1
        · rintro (h | h)
          · exact Or.inl (Or.inl (Or.inl h))
          · by_cases e1 : E.testBit c = true
            · exact Or.inl (Or.inl (Or.inr ⟨h, e1⟩))
            · by_cases e2 : (ar_at n R E).testBit c = true
              · exact Or.inl (Or.inr ⟨h, e2⟩)
              · exact Or.inr ⟨h, e1, e2⟩
      · intro j hj
        have a1 := k1 j (by omega)
        have a2 := k2 j (by omega)
        have a3 := k3 j (by omega)
        have u1 : upd tn d (nI (0 + 1)) j = tn j := pk_un (by omega)
        have u2 : upd tn1 d (nI (1 + 1)) j = tn1 j := pk_un (by omega)
        have u3 : upd tn2 d (nI (2 + 1)) j = tn2 j := pk_un (by omega)
        exact ⟨(a3.1.trans a2.1).trans a1.1, (a3.2.1.trans a2.2.1).trans a1.2.1, (a3.2.2.1.trans a2.2.2.1).trans a1.2.2.1, (a3.2.2.2.1.trans a2.2.2.2.1).trans a1.2.2.2.1, ((a3.2.2.2.2.trans u3).trans (a2.2.2.2.2.trans u2)).trans (a1.2.2.2.2.trans u1)⟩
theorem xa_labelAll (K : ar_OK n p R) (D : ar_D n R xh xb) (L : ar_LS ls sz 1 (fun _ => False))
    (h : ∀ (fi fo fu : Int32) (ls' sz' hI hO hU pk tn : Nat → Int32), ar_LS ls' sz' 1 (ar_cp n p R) → ar_Oth 1 ls ls' sz sz' → post (nI n, nI p, cu, fi, fo, fu, gs, pc, gv, xh, xb, ls', sz', pe, hI, hO, hU, pk, tn)) : wpX_labelAll post (nI n, nI p, cu, fi, fo, fu, gs, pc, gv, xh, xb, ls, sz, pe, hI, hO, hU, pk, tn) := by
  have n8 := K.2.1
  have s0 := ar_sb_0 p
  refine xa_force (I := 0) (O := 0) (U := 0) K D s0 s0 s0 (fun I' O' F => br_f ar_n10 (xa_store (d := 0) K (by decide) (fun c hc => Exists.intro 20001 (xl_all K D 8 0 I' O' 0 c 0 (fun _ => False) _ _ _ _ _ _ _ _ _ _ (by decide) F.2.2.1 s0 hc (Nat.le_trans (ar_ct_le _ _) n8) ⟨pk_us, pk_us, pk_us, pk_us, pk_us⟩ L (fun E z _ => z) (by rw [xl_c_8]; decide) ?_ 20001 (by decide))))) (fun I' O' N => br_t rfl (h _ _ _ _ _ _ _ _ _ _ ?_ (ar_Oth_rf _ _ _)))
  · intro f x fi fo fu ls' sz' hI' hO' hU' pk' tn' hx hf _ L' Q'
    obtain ⟨f, rfl⟩ : ∃ g, f = g + 1 := ⟨f - 1, by rw [xl_c_8] at hx; omega⟩
    have e : (fun E => False ∨ ar_XL n p R I' O' 0 E) = ar_cp n p R := by
      rw [ar_FS_XL F, ar_XL_0]
      exact ar_ct_eq fun E => ⟨fun z => z.elim False.elim id, Or.inr⟩
    rw [e] at L'
    refine br_f (nI_ge (b := 20000) (by rw [xl_c_8] at hx; omega) (by decide)) (br_t (by decide) (h _ _ _ _ _ _ _ _ _ _ L' Q'))
  · have e : ar_cp n p R = (fun _ => False) := ar_ct_eq fun E => ⟨fun z => N E (by rw [ar_XL_0]; exact z), False.elim⟩
    rw [e]
    exact L
end
end
section
/-! preferred, stable and semi-stable sets out of the complete ones -/
noncomputable def ar_fv (P : Prop) : Int32 := nI (ar_b P).toNat
theorem ar_fv_t {P : Prop} (h : P) : ar_fv P = 1 := by unfold ar_fv; rw [ar_b_t.mpr h]; rfl
theorem ar_fv_f {P : Prop} (h : ¬ P) : ar_fv P = 0 := by
  unfold ar_fv
  rw [Bool.eq_false_iff.mpr (ar_b_f.mpr h)]
  rfl
theorem ar_fv_n {P : Prop} (h : P) : ¬ ar_fv P = 0 := by rw [ar_fv_t h]; exact ar_n10
/-- all six lists -/
def ar_LA (ls sz : Nat → Int32) (F : Nat → Nat → Prop) : Prop := ∀ k, k < 6 → ar_LS ls sz k (F k)
theorem ar_LA_eq {ls sz : Nat → Int32} {F G : Nat → Nat → Prop} (h : ar_LA ls sz F) (e : ∀ k s, k < 6 → (F k s ↔ G k s)) : ar_LA ls sz G := by
  intro k hk
  have : F k = G k := ar_ct_eq fun s => e k s hk
  exact this ▸ h k hk
theorem ar_LA_n {ls sz : Nat → Int32} {F : Nat → Nat → Prop} {k t : Nat} {P : Prop} (h : ar_LA ls sz F) (n : ¬ P) : ar_LA ls sz (fun j s => F j s ∨ (j = k ∧ s = t ∧ P)) :=
  ar_LA_eq h fun j s _ => ⟨Or.inl, fun z => z.elim id (fun y => absurd y.2.2 n)⟩
section
variable {n p : Nat} {R : Nat → Nat → Prop} {cu fi fo fu gs pc : Int32} {gv xh xb ls sz pe hI hO hU pk tn : Nat → Int32} {post : SX → Prop}
theorem xa_cins {k t : Nat} (hk : k < 6) (h256 : t < 256) {F : Nat → Nat → Prop} (L : ar_LA ls sz F) (ht : ¬ F k t) {P : Prop} (hP : P)
    (h : ∀ ls' sz', ar_LA ls' sz' (fun j s => F j s ∨ (j = k ∧ s = t ∧ P)) → post (nI n, nI p, cu, fi, fo, fu, gs, pc, gv, xh, xb, ls', sz', pe, hI, hO, hU, pk, tn)) : wpX_insert post (nI n, nI p, cu, fi, fo, fu, gs, pc, gv, xh, xb, ls, sz, pe, hI, hO, hU, pk, tn) (nI k) (nI t) := by
  refine xa_insert hk h256 (L k hk) ht (fun ls' sz' L' O' => h ls' sz' ?_)
  intro j hj
  by_cases e : j = k
  · subst e
    have : (fun s => F j s ∨ s = t) = (fun s => F j s ∨ (j = j ∧ s = t ∧ P)) := ar_ct_eq fun s => or_congr Iff.rfl ⟨fun z => ⟨rfl, z, hP⟩, fun z => z.2.1⟩
    show ar_LS ls' sz' j (fun s => F j s ∨ (j = j ∧ s = t ∧ P))
    rw [← this]
    exact L'
  · have : F j = (fun s => F j s ∨ (j = k ∧ s = t ∧ P)) := ar_ct_eq fun s => ⟨Or.inl, fun z => z.elim id (fun y => absurd y.1 e)⟩
    show ar_LS ls' sz' j (fun s => F j s ∨ (j = k ∧ s = t ∧ P))
    rw [← this]
    exact ar_Oth_LS O' e (L j hj)
theorem xp_101 {J6 : Int32 → Int32 → Int32 → Int32 → Int32 → Int32 → Int32 → Int32 → Int32 → (Nat → Int32) → (Nat → Int32) → (Nat → Int32) → (Nat → Int32) → (Nat → Int32) → (Nat → Int32) → (Nat → Int32) → (Nat → Int32) → (Nat → Int32) → (Nat → Int32) → (Nat → Int32) → Prop} {J : Int32 → Int32 → Int32 → Prop} {r r' j : Nat} {x1 x2 x3 z : Int32} {W : Prop} (br : r < 2 ^ 31) (br' : r' < 2 ^ 31) (h : J z (ar_fv (W ∧ ¬ ar_pp r r')) (nI (j + 1))) : wX_pickFromComplete_101 post J6 J x1 x2 x3 (nI r) (ar_fv W) (nI j) (nI r') z (nI n) (nI p) cu fi fo fu gs pc gv xh xb ls sz pe hI hO hU pk tn := by
  by_cases hW : W
  · refine br_f (ar_fv_n hW) (ar_if (nI_eq br' br) (fun e => nm_r (nI_1 j) ?_) (fun e => ar_if (ar_andn_z r' br) (fun y => nm_r (nI_1 j) ?_) (fun y => nm_r (nI_1 j) ?_)))
    · rw [ar_fv_t ⟨hW, ar_npp.mpr (Or.inl e)⟩] at h
      exact h
    · rw [ar_fv_f (fun z => (ar_npp.mp z.2).elim e (fun q => q y))] at h
      exact h
    · rw [ar_fv_t ⟨hW, ar_npp.mpr (Or.inr y)⟩] at h
      exact h
  · rw [ar_fv_f (fun z => hW z.1)] at h
    exact br_t (ar_fv_f hW) (nm_r (nI_1 j) h)
theorem ar_rc31 (K : ar_OK n p R) {s : Nat} (h : s < 256) (hp : ar_sb s p) : ar_rc n R s < 2 ^ 31 := ar_31 K (ar_rc_lt (ar_sb_lt hp K.2.2.1))
/-- what the inner loop asks at its end -/
def xp_E (post : SX → Prop) (J6 : Int32 → Int32 → Int32 → Int32 → Int32 → Int32 → Int32 → Int32 → Int32 → (Nat → Int32) → (Nat → Int32) → (Nat → Int32) → (Nat → Int32) → (Nat → Int32) → (Nat → Int32) → (Nat → Int32) → (Nat → Int32) → (Nat → Int32) → (Nat → Int32) → (Nat → Int32) → Prop) (x1 x2 x3 x4 x5 x6 : Int32) (u : SX) : Prop := match u with
  | (f_n, f_inPlay, f_current, f_in, f_out, f_open, f_groundedSet, f_peacefulCount, a_given, a_hits, a_hitBy, a_lists, a_sizes, a_peaceful, a_heldIn, a_heldOut, a_heldOpen, a_picked, a_turn) => (x5 = 0 → wX_pickFromComplete_149 post J6 x1 x2 x3 x4 x6 f_n f_inPlay f_current f_in f_out f_open f_groundedSet f_peacefulCount a_given a_hits a_hitBy a_lists a_sizes a_peaceful a_heldIn a_heldOut a_heldOpen a_picked a_turn) ∧ (¬ x5 = 0 → wpX_insert (fun u => match u with | (f_n, f_inPlay, f_current, f_in, f_out, f_open, f_groundedSet, f_peacefulCount, a_given, a_hits, a_hitBy, a_lists, a_sizes, a_peaceful, a_heldIn, a_heldOut, a_heldOpen, a_picked, a_turn) => wX_pickFromComplete_149 post J6 x1 x2 x3 x4 x6 f_n f_inPlay f_current f_in f_out f_open f_groundedSet f_peacefulCount a_given a_hits a_hitBy a_lists a_sizes a_peaceful a_heldIn a_heldOut a_heldOpen a_picked a_turn) u 2 x3)
theorem xp_43 (K : ar_OK n p R) (D : ar_D n R xh xb) {C : Nat → Prop} (hC : ∀ t, C t → ar_sb t p) (L : ar_LS ls sz 1 C) {J6 : Int32 → Int32 → Int32 → Int32 → Int32 → Int32 → Int32 → Int32 → Int32 → (Nat → Int32) → (Nat → Int32) → (Nat → Int32) → (Nat → Int32) → (Nat → Int32) → (Nat → Int32) → (Nat → Int32) → (Nat → Int32) → (Nat → Int32) → (Nat → Int32) → (Nat → Int32) → Prop} {s : Nat} {x2 : Int32} (hs : s < 256) (sp : ar_sb s p)
    (h : xp_E post J6 (nI 256) x2 (nI s) (nI (ar_rc n R s)) (ar_fv (∀ t, C t → ¬ ar_pp s t)) (ar_fv (∀ t, C t → ¬ ar_pp (ar_rc n R s) (ar_rc n R t))) (nI n, nI p, cu, fi, fo, fu, gs, pc, gv, xh, xb, ls, sz, pe, hI, hO, hU, pk, tn)) :
    ∀ d j, j + d = ar_ct C 256 → wX_pickFromComplete_43 post J6 (nI 256) x2 (nI s) (nI (ar_rc n R s)) (nI n) (nI p) cu fi fo fu gs pc gv xh xb ls sz pe hI hO hU pk tn (d + 1) (ar_fv (∀ t, C t → ar_ct C t < j → ¬ ar_pp s t)) (ar_fv (∀ t, C t → ar_ct C t < j → ¬ ar_pp (ar_rc n R s) (ar_rc n R t))) (nI j) := by
  have n8 := K.2.1
  have bp := K.2.2.1
  have c256 := ar_ct_le C 256
  have eL := L.1
  intro d
  induction d with
  | zero =>
    intro j hj
    refine br_t ?_ ?_
    · rw [eL]
      exact nI_le (by omega) (by omega)
    · have q : ∀ t, C t → ar_ct C t < j := fun t ht => by
        have := ar_ct_lt ht (ar_256 K (ar_sb_lt (hC t ht) bp))
        omega
      have e1 : (∀ t, C t → ar_ct C t < j → ¬ ar_pp s t) = (∀ t, C t → ¬ ar_pp s t) := propext ⟨fun z t ht => z t ht (q t ht), fun z t ht _ => z t ht⟩
      have e2 : (∀ t, C t → ar_ct C t < j → ¬ ar_pp (ar_rc n R s) (ar_rc n R t)) = (∀ t, C t → ¬ ar_pp (ar_rc n R s) (ar_rc n R t)) := propext ⟨fun z t ht => z t ht (q t ht), fun z t ht _ => z t ht⟩
      rw [e1, e2]
      exact h
  | succ d ih =>
    intro j hj
    obtain ⟨t, ht, hT, hc⟩ := ar_ct_inv (S := C) (m := 256) (j := j) (by omega)
    have et : ls (256 * 1 + j) = nI t := hc ▸ L.2 t ht hT
    have ej : nI 256 + nI j = nI (256 * 1 + j) := nI_add 256 j
    have st : ∀ P : Nat → Prop, (∀ t, C t → ar_ct C t < j + 1 → P t) = ((∀ t, C t → ar_ct C t < j → P t) ∧ P t) := by
      intro P
      refine propext ⟨fun z => ⟨fun t' h' c' => z t' h' (by omega), z t hT (by omega)⟩, fun z t' h' c' => ?_⟩
      rcases Nat.lt_or_ge (ar_ct C t') j with y | y
      · exact z.1 t' h' y
      · rw [ar_ct_inj h' hT (by omega)]
        exact z.2
    have ih2 := ih (j + 1) (by omega)
    rw [st (fun t => ¬ ar_pp s t), st (fun t => ¬ ar_pp (ar_rc n R s) (ar_rc n R t))] at ih2
    have br : ar_rc n R s < 2 ^ 31 := ar_rc31 K hs sp
    have br' : ar_rc n R t < 2 ^ 31 := ar_rc31 K ht (hC t hT)
    refine br_f ?_ (And.intro ?_ (nm_r (e' := nI t) ?_ (xa_hitsOf K D (by omega) (nm_r (e' := nI (ar_rc n R t)) (ar_or t _) ?_))))
    · rw [eL]
      exact nI_ge (by omega) (by omega)
    · rw [ej]
      exact vp_in_nI (by omega) (by decide)
    · rw [ej, ar_cl (256 * 1 + j) (by omega), et]
    · by_cases hW : ∀ t, C t → ar_ct C t < j → ¬ ar_pp s t
      · refine br_f (ar_fv_n hW) (ar_if (nI_eq (by omega) (by omega)) (fun e => ?_) (fun e => ar_if (ar_andn_z t (by omega)) (fun y => ?_) (fun y => ?_)))
        · rw [ar_fv_t ⟨hW, ar_npp.mpr (Or.inl e)⟩] at ih2
          exact xp_101 br br' ih2
        · rw [ar_fv_f (P := _ ∧ ¬ ar_pp s t) (fun z => (ar_npp.mp z.2).elim e (fun q => q y))] at ih2
          exact xp_101 br br' ih2
        · rw [ar_fv_t ⟨hW, ar_npp.mpr (Or.inr y)⟩] at ih2
          exact xp_101 br br' ih2
      · rw [ar_fv_f (P := _ ∧ ¬ ar_pp s t) (fun z => hW z.1)] at ih2
        exact br_t (ar_fv_f hW) (xp_101 br br' ih2)
theorem xp_end {J6 : Int32 → Int32 → Int32 → Int32 → Int32 → Int32 → Int32 → Int32 → Int32 → (Nat → Int32) → (Nat → Int32) → (Nat → Int32) → (Nat → Int32) → (Nat → Int32) → (Nat → Int32) → (Nat → Int32) → (Nat → Int32) → (Nat → Int32) → (Nat → Int32) → (Nat → Int32) → Prop} {s r i : Nat} {PL PW : Prop} {F : Nat → Nat → Prop} (br : r < 2 ^ 31) (bp : p < 2 ^ 31) (hs : s < 256) (L : ar_LA ls sz F) (n2 : ¬ F 2 s) (n5 : ¬ F 5 s) (n3 : ¬ F 3 s)
    (h : ∀ ls' sz', ar_LA ls' sz' (fun j t => ((F j t ∨ (j = 2 ∧ t = s ∧ PL)) ∨ (j = 5 ∧ t = s ∧ PW)) ∨ (j = 3 ∧ t = s ∧ r = p)) → J6 (nI (i + 1)) (nI n) (nI p) cu fi fo fu gs pc gv xh xb ls' sz' pe hI hO hU pk tn) :
    xp_E post J6 (nI 256) (nI i) (nI s) (nI r) (ar_fv PL) (ar_fv PW) (nI n, nI p, cu, fi, fo, fu, gs, pc, gv, xh, xb, ls, sz, pe, hI, hO, hU, pk, tn) := by
  have k3 : ∀ ls' sz', ar_LA ls' sz' (fun j t => (F j t ∨ (j = 2 ∧ t = s ∧ PL)) ∨ (j = 5 ∧ t = s ∧ PW)) → wX_pickFromComplete_160 post J6 (nI 256) (nI i) (nI s) (nI r) (nI n) (nI p) cu fi fo fu gs pc gv xh xb ls' sz' pe hI hO hU pk tn := by
    intro ls' sz' L'
    refine ar_if (nI_eq br bp) (fun e => ?_) (fun e => nm_r (nI_1 i) (h ls' sz' (ar_LA_n L' e)))
    refine xa_cins (k := 3) (by decide) hs L' ?_ e (fun ls2 sz2 L2 => nm_r (nI_1 i) (h ls2 sz2 L2))
    rintro ((z | z) | z)
    · exact n3 z
    · exact absurd z.1 (by decide)
    · exact absurd z.1 (by decide)
  have k5 : ∀ ls' sz', ar_LA ls' sz' (fun j t => F j t ∨ (j = 2 ∧ t = s ∧ PL)) → wX_pickFromComplete_149 post J6 (nI 256) (nI i) (nI s) (nI r) (ar_fv PW) (nI n) (nI p) cu fi fo fu gs pc gv xh xb ls' sz' pe hI hO hU pk tn := by
    intro ls' sz' L'
    by_cases hW : PW
    · refine br_f (ar_fv_n hW) (xa_cins (k := 5) (by decide) hs L' ?_ hW (fun ls2 sz2 L2 => k3 ls2 sz2 L2))
      rintro (z | z)
      · exact n5 z
      · exact absurd z.1 (by decide)
    · exact br_t (ar_fv_f hW) (k3 ls' sz' (ar_LA_n L' hW))
  by_cases hL : PL
  · exact br_f (ar_fv_n hL) (xa_cins (k := 2) (by decide) hs L n2 hL (fun ls2 sz2 L2 => k5 ls2 sz2 L2))
  · exact br_t (ar_fv_f hL) (k5 ls sz (ar_LA_n L hL))
/-- the lists after i of the complete sets -/
def xp_G (n p : Nat) (R : Nat → Nat → Prop) (i k s : Nat) : Prop := ar_cp n p R s ∧ (k = 1 ∨ (ar_ct (ar_cp n p R) s < i ∧ ((k = 2 ∧ ∀ t, ar_cp n p R t → ¬ ar_pp s t) ∨ (k = 5 ∧ ∀ t, ar_cp n p R t → ¬ ar_pp (ar_rc n R s) (ar_rc n R t)) ∨ (k = 3 ∧ ar_rc n R s = p))))
theorem xp_6 (K : ar_OK n p R) (D : ar_D n R xh xb) (h : ∀ ls' sz', ar_LA ls' sz' (xp_G n p R 256) → post (nI n, nI p, cu, fi, fo, fu, gs, pc, gv, xh, xb, ls', sz', pe, hI, hO, hU, pk, tn)) :
    ∀ d i ls sz, i + d = ar_ct (ar_cp n p R) 256 → ar_LA ls sz (xp_G n p R i) → wX_pickFromComplete_6 post (nI 256) (d + 1) (nI i) (nI n) (nI p) cu fi fo fu gs pc gv xh xb ls sz pe hI hO hU pk tn := by
  have n8 := K.2.1
  have bp := K.2.2.1
  have c256 := ar_ct_le (ar_cp n p R) 256
  have g1 : ∀ i, xp_G n p R i 1 = ar_cp n p R := fun i => ar_ct_eq fun s => ⟨fun z => z.1, fun z => ⟨z, Or.inl rfl⟩⟩
  intro d
  induction d with
  | zero =>
    intro i ls sz hi L
    have L1 : ar_LS ls sz 1 (ar_cp n p R) := g1 i ▸ L 1 (by decide)
    refine br_t ?_ (h ls sz (ar_LA_eq L ?_))
    · rw [L1.1]
      exact nI_le (by omega) (by omega)
    · intro k s _
      unfold xp_G
      refine and_congr_right fun hs => or_congr Iff.rfl (and_congr_left fun _ => ?_)
      have := ar_ct_lt hs (ar_cp_256 K s hs)
      omega
  | succ d ih =>
    intro i ls sz hi L
    have L1 : ar_LS ls sz 1 (ar_cp n p R) := g1 i ▸ L 1 (by decide)
    obtain ⟨s, hs, hC, hc⟩ := ar_ct_inv (S := ar_cp n p R) (m := 256) (j := i) (by omega)
    have et : ls (256 * 1 + i) = nI s := hc ▸ L1.2 s hs hC
    have ej : nI 256 + nI i = nI (256 * 1 + i) := nI_add 256 i
    have br : ar_rc n R s < 2 ^ 31 := ar_rc31 K hs hC.1.1.1
    refine br_f ?_ (And.intro ?_ (nm_r (e' := nI s) ?_ (xa_hitsOf K D (by omega) (nm_r (e' := nI (ar_rc n R s)) (ar_or s _) (Exists.intro (ar_ct (ar_cp n p R) 256 + 1) ?_)))))
    · rw [L1.1]
      exact nI_ge (by omega) (by omega)
    · rw [ej]
      exact vp_in_nI (by omega) (by decide)
    · rw [ej, ar_cl (256 * 1 + i) (by omega), et]
    · have q := xp_43 (post := post) (J6 := wX_pickFromComplete_6 post (nI 256) (d + 1)) (x2 := nI i) (cu := cu) (fi := fi) (fo := fo) (fu := fu) (gs := gs) (pc := pc) (gv := gv) (pe := pe) (hI := hI) (hO := hO) (hU := hU) (pk := pk) (tn := tn) K D (fun t ht => ht.1.1.1) L1 hs hC.1.1.1 (xp_end br (ar_p31 K) hs L ?_ ?_ ?_ (fun ls' sz' L' => ih (i + 1) ls' sz' (by omega) (ar_LA_eq L' ?_))) (ar_ct (ar_cp n p R) 256) 0 (by omega)
      · rw [ar_fv_t (fun t _ z => absurd z (Nat.not_lt_zero _)), ar_fv_t (fun t _ z => absurd z (Nat.not_lt_zero _))] at q
        exact q
      · rintro ⟨_, z | ⟨z, _⟩⟩
        · exact absurd z (by decide)
        · omega
      · rintro ⟨_, z | ⟨z, _⟩⟩
        · exact absurd z (by decide)
        · omega
      · rintro ⟨_, z | ⟨z, _⟩⟩
        · exact absurd z (by decide)
        · omega
      · intro k t _
        unfold xp_G
        constructor
        · rintro (((⟨z, y | ⟨y, w⟩⟩ | ⟨y, rfl, z⟩) | ⟨y, rfl, z⟩) | ⟨y, rfl, z⟩)
          · exact ⟨z, Or.inl y⟩
          · exact ⟨z, Or.inr ⟨by omega, w⟩⟩
          · exact ⟨hC, Or.inr ⟨by omega, Or.inl ⟨y, z⟩⟩⟩
          · exact ⟨hC, Or.inr ⟨by omega, Or.inr (Or.inl ⟨y, z⟩)⟩⟩
          · exact ⟨hC, Or.inr ⟨by omega, Or.inr (Or.inr ⟨y, z⟩)⟩⟩
        · rintro ⟨z, y | ⟨y, w⟩⟩
          · exact Or.inl (Or.inl (Or.inl ⟨z, Or.inl y⟩))
          · rcases Nat.lt_or_ge (ar_ct (ar_cp n p R) t) i with q | q
            · exact Or.inl (Or.inl (Or.inl ⟨z, Or.inr ⟨q, w⟩⟩))
            · have e : t = s := ar_ct_inj z hC (by omega)
              subst e
              rcases w with w | w | w
              · exact Or.inl (Or.inl (Or.inr ⟨w.1, rfl, w.2⟩))
              · exact Or.inl (Or.inr ⟨w.1, rfl, w.2⟩)
              · exact Or.inr ⟨w.1, rfl, w.2⟩
theorem xa_pick (K : ar_OK n p R) (D : ar_D n R xh xb) (L : ar_LA ls sz (fun k s => k = 1 ∧ ar_cp n p R s)) (h : ∀ ls' sz', ar_LA ls' sz' (xp_G n p R 256) → post (nI n, nI p, cu, fi, fo, fu, gs, pc, gv, xh, xb, ls', sz', pe, hI, hO, hU, pk, tn)) : wpX_pickFromComplete post (nI n, nI p, cu, fi, fo, fu, gs, pc, gv, xh, xb, ls, sz, pe, hI, hO, hU, pk, tn) := by
  refine Exists.intro (ar_ct (ar_cp n p R) 256 + 1) (xp_6 K D h _ 0 ls sz (by omega) (ar_LA_eq L ?_))
  intro k s _
  constructor
  · rintro ⟨a, b⟩
    exact ⟨b, Or.inl a⟩
  · rintro ⟨a, b | b⟩
    · exact ⟨b, a⟩
    · exact absurd b.1 (Nat.not_lt_zero _)
end
end
section
/-! the search for the admissible sets -/
def ar_XA (n p : Nat) (R : Nat → Nat → Prop) (d s E : Nat) : Prop := ar_ad n p R E ∧ ∀ i, i < d → (E.testBit i = true ↔ s.testBit i = true)
def ar_K2f (d : Nat) (hI tn hI' tn' : Nat → Int32) : Prop := ∀ j, j < d → hI' j = hI j ∧ tn' j = tn j
def xm_c : Nat → Nat
  | 0 => 1
  | k + 1 => 3 + 2 * xm_c k
theorem xm_c_1 (k : Nat) : 1 ≤ xm_c k := by
  cases k with
  | zero => exact Nat.le_refl _
  | succ k => rw [xm_c]; omega
theorem xm_c_mo {a b : Nat} (h : a ≤ b) : xm_c a ≤ xm_c b := by
  induction b with
  | zero => rw [Nat.le_zero.mp h]; exact Nat.le_refl _
  | succ b ih =>
    rcases Nat.lt_or_ge b a with z | z
    · rw [show a = b + 1 by omega]; exact Nat.le_refl _
    · have := ih z
      rw [xm_c]
      omega
theorem xm_c_8 : xm_c 8 = 1021 := by decide
theorem ar_agree_0 {d s E : Nat} (hs : s < 2 ^ d) : (∀ i, i < d + 1 → (E.testBit i = true ↔ s.testBit i = true)) ↔ (∀ i, i < d → (E.testBit i = true ↔ s.testBit i = true)) ∧ ¬ E.testBit d = true := by
  have sd : ¬ s.testBit d = true := fun z => by have := ar_hi hs z; omega
  constructor
  · intro h
    exact ⟨fun i hi => h i (by omega), fun z => sd ((h d (by omega)).mp z)⟩
  · rintro ⟨h, z⟩ i hi
    by_cases e : i = d
    · subst e
      exact ⟨fun y => absurd y z, fun y => absurd y sd⟩
    · exact h i (by omega)
theorem ar_agree_1 {d s E : Nat} : (∀ i, i < d + 1 → (E.testBit i = true ↔ (s ||| 2 ^ d).testBit i = true)) ↔ (∀ i, i < d → (E.testBit i = true ↔ s.testBit i = true)) ∧ E.testBit d = true := by
  constructor
  · intro h
    refine ⟨fun i hi => (h i (by omega)).trans ⟨fun z => ?_, fun z => (ar_ob_tb s d i).mpr (Or.inl z)⟩, (h d (by omega)).mpr ((ar_ob_tb s d d).mpr (Or.inr rfl))⟩
    rcases (ar_ob_tb s d i).mp z with y | y
    · exact y
    · omega
  · rintro ⟨h, z⟩ i hi
    by_cases e : i = d
    · subst e
      exact ⟨fun _ => (ar_ob_tb s i i).mpr (Or.inr rfl), fun _ => z⟩
    · refine (h i (by omega)).trans ⟨fun y => (ar_ob_tb s d i).mpr (Or.inl y), fun y => ?_⟩
      rcases (ar_ob_tb s d i).mp y with q | q
      · exact q
      · omega
theorem ar_agree_n {n s E : Nat} (hs : s < 2 ^ n) (hE : E < 2 ^ n) (h : ∀ i, i < n → (E.testBit i = true ↔ s.testBit i = true)) : E = s := by
  apply ar_ext
  intro i
  rcases Nat.lt_or_ge i n with z | z
  · exact h i z
  · exact ⟨fun y => by have := ar_hi hE y; omega, fun y => by have := ar_hi hs y; omega⟩
theorem ar_pw1 {s d : Nat} (hs : s < 2 ^ d) : s < 2 ^ (d + 1) ∧ s ||| 2 ^ d < 2 ^ (d + 1) := by
  have : 2 ^ d < 2 ^ (d + 1) := Nat.pow_lt_pow_right (by decide) (by omega)
  exact ⟨by omega, Nat.or_lt_two_pow (by omega) this⟩
def xm_K (post : SX → Prop) (n p : Nat) (cu fi fo fu gs pc : Int32) (gv xh xb pe hO hU pk : Nat → Int32) (D : Int32) (d X : Nat) (F : Nat → Nat → Prop) (hI tn : Nat → Int32) : Prop :=
  ∀ (f x : Nat) (ls sz hI' tn' : Nat → Int32), x ≤ X → 2000 < f + x → ar_K2f d hI tn hI' tn' → ar_LA ls sz F → wX_listAdmissible_18 post f D (nI x) (nI n) (nI p) cu fi fo fu gs pc gv xh xb ls sz pe hI' hO hU pk tn'
def xm_P (post : SX → Prop) (n p : Nat) (R : Nat → Nat → Prop) (cu fi fo fu gs pc : Int32) (gv xh xb pe hO hU pk : Nat → Int32) (k : Nat) : Prop :=
  ∀ (d s x : Nat) (F : Nat → Nat → Prop) (ls sz hI tn : Nat → Int32), d + k = n → ar_pf p R s → s < 2 ^ d → hI d = nI s → tn d = nI 0 → ar_LA ls sz F → (∀ E, F 0 E → ar_XA n p R d s E → False) → x + xm_c k ≤ 2000 →
    xm_K post n p cu fi fo fu gs pc gv xh xb pe hO hU pk (nI d + (-1)) d (x + xm_c k) (fun j E => F j E ∨ (j = 0 ∧ ar_XA n p R d s E)) hI tn → ∀ f, 2000 < f + x → wX_listAdmissible_18 post f (nI d) (nI x) (nI n) (nI p) cu fi fo fu gs pc gv xh xb ls sz pe hI hO hU pk tn
section
variable {n p : Nat} {R : Nat → Nat → Prop} {cu fi fo fu gs pc : Int32} {gv xh xb ls sz pe hI hO hU pk tn : Nat → Int32} {post : SX → Prop}
theorem xm_K_ch {D : Int32} {d X X1 : Nat} {F F1 : Nat → Nat → Prop} {hI1 tn1 : Nat → Int32} (h : xm_K post n p cu fi fo fu gs pc gv xh xb pe hO hU pk D d X F hI tn) (hX : X1 ≤ X) (hF : ∀ k s, k < 6 → (F1 k s ↔ F k s)) (hK : ar_K2f d hI tn hI1 tn1) :
    xm_K post n p cu fi fo fu gs pc gv xh xb pe hO hU pk D d X1 F1 hI1 tn1 := by
  intro f x ls sz hI' tn' a b c e
  refine h f x ls sz hI' tn' (by omega) b ?_ (ar_LA_eq e hF)
  intro j hj
  exact ⟨(c j hj).1.trans (hK j hj).1, (c j hj).2.trans (hK j hj).2⟩
theorem xm_leaf (K : ar_OK n p R) (D : ar_D n R xh xb) {s x f : Nat} {F : Nat → Nat → Prop} (hs : ar_pf p R s) (eI : hI n = nI s) (hx : x < 2000) (hf : 2000 < f + x) (L : ar_LA ls sz F) (dj : ∀ E, F 0 E → ar_XA n p R n s E → False)
    (k : xm_K post n p cu fi fo fu gs pc gv xh xb pe hO hU pk (nI n + (-1)) n (x + 1) (fun j E => F j E ∨ (j = 0 ∧ ar_XA n p R n s E)) hI tn) : wX_listAdmissible_18 post f (nI n) (nI x) (nI n) (nI p) cu fi fo fu gs pc gv xh xb ls sz pe hI hO hU pk tn := by
  have n8 := K.2.1
  have b := ar_pf_lt K hs
  obtain ⟨f, rfl⟩ : ∃ g, f = g + 1 := ⟨f - 1, by omega⟩
  have eX : ∀ E, ar_XA n p R n s E ↔ E = s ∧ ar_ad n p R s := by
    intro E
    constructor
    · rintro ⟨y, z⟩
      have := ar_agree_n b (ar_pf_lt K y.1) z
      subst this
      exact ⟨rfl, y⟩
    · rintro ⟨rfl, z⟩
      exact ⟨z, fun _ _ => Iff.rfl⟩
  refine br_f (nI_ge (b := 2000) hx (by decide)) (br_f (nI_pos (by omega)) (And.intro (vp_in_nI (by omega) (by decide)) (nm_r (e' := nI s) (by rw [ar_cl n (by omega), eI]) (br_t rfl (xa_defendedBy K D (ar_31 K b) (ar_if (ar_andn_z _ (ar_31 K b)) (fun z => ?_) (fun z => nm_e (nm_r (nI_1 x) (k f (x + 1) _ _ _ _ (Nat.le_refl _) (by omega) (fun _ _ => ⟨rfl, rfl⟩) (ar_LA_eq L ?_)))))))))) 
  · have ad : ar_ad n p R s := ⟨hs, z⟩
    refine xa_cins (k := 0) (by decide) (ar_256 K b) L (fun y => dj s y ((eX s).mpr ⟨rfl, ad⟩)) ad (fun ls' sz' L' => nm_e (nm_r (nI_1 x) (k f (x + 1) _ _ _ _ (Nat.le_refl _) (by omega) (fun _ _ => ⟨rfl, rfl⟩) (ar_LA_eq L' ?_))))
    intro j E _
    exact or_congr Iff.rfl (and_congr_right fun _ => (eX E).symm)
  · intro j E _
    exact ⟨Or.inl, fun y => y.elim id (fun q => absurd ((eX E).mp q.2).2.2 z)⟩
theorem xm_pop (n8 : n ≤ 8) {d s x f : Nat} {F : Nat → Nat → Prop} (hd : d < n) (eI : hI d = nI s) (et : tn d = nI 2) (hx : x < 2000) (hf : 2000 < f + x) (L : ar_LA ls sz F)
    (k : xm_K post n p cu fi fo fu gs pc gv xh xb pe hO hU pk (nI d + (-1)) d (x + 1) F hI tn) : wX_listAdmissible_18 post f (nI d) (nI x) (nI n) (nI p) cu fi fo fu gs pc gv xh xb ls sz pe hI hO hU pk tn := by
  obtain ⟨f, rfl⟩ : ∃ g, f = g + 1 := ⟨f - 1, by omega⟩
  have i9 : vp_in (nI d) 9 := vp_in_nI (by omega) (by decide)
  have ed : (nI d).toNatClampNeg = d := nI_clamp (by omega)
  have nn : ¬ nI d = nI n := by
    rw [nI_eq (by omega) (by omega)]
    omega
  exact br_f (nI_ge (b := 2000) hx (by decide)) (br_f (nI_pos (by omega)) (And.intro i9 (nm_r (e' := nI s) (by rw [ed, eI]) (br_f nn (And.intro i9 (br_t (by rw [ed, et]; rfl) (nm_e (nm_r (nI_1 x) (k f (x + 1) _ _ _ _ (Nat.le_refl _) (by omega) (fun _ _ => ⟨rfl, rfl⟩) L)))))))))
/-- a step down -/
theorem xm_dn (n8 : n ≤ 8) {k d s t x f : Nat} {F : Nat → Nat → Prop} (ih : xm_P post n p R cu fi fo fu gs pc gv xh xb pe hO hU pk k) (hd : d + 1 + k = n) (hs : ar_pf p R s) (bs : s < 2 ^ (d + 1)) (L : ar_LA ls sz F) (dj : ∀ E, F 0 E → ar_XA n p R (d + 1) s E → False)
    (hx : x + 1 + xm_c k ≤ 2000) (hf : 2000 < f + (x + 1)) (kn : xm_K post n p cu fi fo fu gs pc gv xh xb pe hO hU pk (nI d) (d + 1) (x + 1 + xm_c k) (fun j E => F j E ∨ (j = 0 ∧ ar_XA n p R (d + 1) s E)) hI (upd tn d (nI (t + 1)))) :
    wX_listAdmissible_145 post (wX_listAdmissible_18 post f) (nI d) (nI x) (nI s) (nI n) (nI p) cu fi fo fu gs pc gv xh xb ls sz pe hI hO hU pk (upd tn d (nI (t + 1))) := by
  have i9 : vp_in (nI (d + 1)) 9 := vp_in_nI (by omega) (by decide)
  have ed : (nI (d + 1)).toNatClampNeg = d + 1 := nI_clamp (by omega)
  unfold wX_listAdmissible_145
  refine nm_r (nI_1 d) (And.intro i9 (nm_r (e' := upd hI (d + 1) (nI s)) (by rw [ed]) (And.intro i9 (nm_r (e' := upd (upd tn d (nI (t + 1))) (d + 1) 0) (by rw [ed]) (nm_r (nI_1 x) (ih (d + 1) s (x + 1) F ls sz _ _ hd hs bs pk_us pk_us L dj hx ?_ f hf))))))
  rw [pk_m1]
  exact xm_K_ch kn (Nat.le_refl _) (fun _ _ _ => Iff.rfl) (fun j hj => ⟨pk_un (by omega), pk_un (by omega)⟩)
theorem xm_all (K : ar_OK n p R) (D : ar_D n R xh xb) : ∀ k, xm_P post n p R cu fi fo fu gs pc gv xh xb pe hO hU pk k := by
  have n8 := K.2.1
  intro k
  induction k with
  | zero =>
    intro d s x F ls sz hI tn hd hs bs eI et L dj hx kn f hf
    have c1 := xm_c_1 0
    have e : d = n := by omega
    subst e
    exact xm_leaf K D hs eI (by omega) hf L dj (xm_K_ch kn (by omega) (fun _ _ _ => Iff.rfl) (fun _ _ => ⟨rfl, rfl⟩))
  | succ k ih =>
    intro d s x F ls sz hI tn hd hs bs eI et L dj hx kn f hf
    have hx0 : x + (3 + 2 * xm_c k) ≤ 2000 := hx
    have c1 := xm_c_1 k
    have i9 : vp_in (nI d) 9 := vp_in_nI (by omega) (by decide)
    have ed : (nI d).toNatClampNeg = d := nI_clamp (by omega)
    have nn : ¬ nI d = nI n := by
      rw [nI_eq (by omega) (by omega)]
      omega
    have q0 : ∀ E, ar_XA n p R (d + 1) s E ↔ ar_XA n p R d s E ∧ ¬ E.testBit d = true := fun E => by
      unfold ar_XA
      rw [ar_agree_0 bs, and_assoc]
    have q1 : ∀ E, ar_XA n p R (d + 1) (s ||| 2 ^ d) E ↔ ar_XA n p R d s E ∧ E.testBit d = true := fun E => by
      unfold ar_XA
      rw [ar_agree_1, and_assoc]
    obtain ⟨f, rfl⟩ : ∃ g, f = g + 1 := ⟨f - 1, by omega⟩
    -- not a member
    refine br_f (nI_ge (b := 2000) (by omega) (by decide)) (br_f (nI_pos (by omega)) (And.intro i9 (nm_r (e' := nI s) (by rw [ed, eI]) (br_f nn (And.intro i9 (br_f (by rw [ed, et]; decide) (And.intro i9 (br_t (by rw [ed, et]; rfl) (And.intro i9 (br_f (by rw [ed, et]; decide) (And.intro i9 (And.intro i9 (nm_r (e' := upd tn d (nI (0 + 1))) (by rw [ed, et, nI_1]) (br_t rfl (xm_dn n8 ih (by omega) hs (ar_pw1 bs).1 L (fun E h1 h2 => dj E h1 ((q0 E).mp h2).1) (by omega) (by omega) ?_)))))))))))))))
    intro f1 x1 ls1 sz1 hI1 tn1 hx1 hf1 k1 L1
    have g1 := k1 d (by omega)
    have t1 : tn1 d = nI 1 := g1.2.trans pk_us
    have e1 : hI1 d = nI s := g1.1.trans eI
    obtain ⟨f1, rfl⟩ : ∃ g, f1 = g + 1 := ⟨f1 - 1, by omega⟩
    -- behind the member's branch
    have pop : ∀ (f2 x2 : Nat) (ls2 sz2 hI2 tn2 : Nat → Int32), x2 ≤ x1 + 1 + xm_c k → 2000 < f2 + x2 → ar_K2f (d + 1) hI1 (upd tn1 d (nI (1 + 1))) hI2 tn2 → ar_LA ls2 sz2 (fun j E => (F j E ∨ (j = 0 ∧ ar_XA n p R (d + 1) s E)) ∨ (j = 0 ∧ ar_XA n p R (d + 1) (s ||| 2 ^ d) E)) →
        wX_listAdmissible_18 post f2 (nI d) (nI x2) (nI n) (nI p) cu fi fo fu gs pc gv xh xb ls2 sz2 pe hI2 hO hU pk tn2 := by
      intro f2 x2 ls2 sz2 hI2 tn2 hx2 hf2 k2 L2
      have g2 := k2 d (by omega)
      refine xm_pop n8 (by omega) (g2.1.trans e1) (g2.2.trans pk_us) (by omega) hf2 L2 (xm_K_ch kn (by rw [xm_c]; omega) ?_ ?_)
      · intro j E _
        rw [q0, q1]
        constructor
        · rintro ((h | h) | h)
          · exact Or.inl h
          · exact Or.inr ⟨h.1, h.2.1⟩
          · exact Or.inr ⟨h.1, h.2.1⟩
        · rintro (h | h)
          · exact Or.inl (Or.inl h)
          · by_cases e : E.testBit d = true
            · exact Or.inr ⟨h.1, h.2, e⟩
            · exact Or.inl (Or.inr ⟨h.1, h.2, e⟩)
      · intro j hj
        have a1 := k1 j (by omega)
        have a2 := k2 j (by omega)
        have u1 : upd tn d (nI (0 + 1)) j = tn j := pk_un (by omega)
        have u2 : upd tn1 d (nI (1 + 1)) j = tn1 j := pk_un (by omega)
        exact ⟨a2.1.trans a1.1, (a2.2.trans u2).trans (a1.2.trans u1)⟩
    have eb : nI s ||| ((1 : Int32) <<< (nI d &&& 31)) = nI (s ||| 2 ^ d) := by rw [ar_shl (by omega), ar_or]
    have eW : ∀ w, w = nI (s ||| 2 ^ d) → wX_listAdmissible_102 post (wX_listAdmissible_18 post f1) (nI d) (nI x1) (nI s) w (nI n) (nI p) cu fi fo fu gs pc gv xh xb ls1 sz1 pe hI1 hO hU pk tn1 := by
      rintro w rfl
      refine And.intro i9 (br_t (by rw [ed, t1]; rfl) (And.intro i9 (And.intro i9 (nm_r (e' := upd tn1 d (nI (1 + 1))) (by rw [ed, t1, nI_1]) (br_f ar_n10 (xa_canJoin K D (by omega) bs (fun ag => br_f ar_n10 (xm_dn n8 ih (by omega) (ar_ag_pf hs ag) (ar_pw1 bs).2 L1 ?_ (by omega) (by omega) ?_)) (fun no => br_t rfl (nm_r (nI_1 x1) (pop f1 (x1 + 1) _ _ _ _ (by omega) (by omega) (fun _ _ => ⟨rfl, rfl⟩) (ar_LA_eq L1 ?_))))))))))
      · rintro E (h1 | h1) h2
        · exact dj E h1 ((q1 E).mp h2).1
        · exact ((q0 E).mp h1.2).2 ((q1 E).mp h2).2
      · intro f2 x2 ls2 sz2 hI2 tn2 hx2 hf2 k2 L2
        exact pop f2 x2 ls2 sz2 hI2 tn2 hx2 hf2 k2 L2
      · intro j E _
        exact ⟨Or.inl, fun y => y.elim id (fun q => (no E q.2.1 (fun i hi => q.2.2 i (by omega))).elim)⟩
    exact br_f (nI_ge (b := 2000) (by omega) (by decide)) (br_f (nI_pos (by omega)) (And.intro i9 (nm_r (e' := nI s) (by rw [ed, e1]) (br_f nn (And.intro i9 (br_f (by rw [ed, t1]; decide) (And.intro i9 (br_f (by rw [ed, t1]; decide) (eW _ eb)))))))))
theorem xa_adm (K : ar_OK n p R) (D : ar_D n R xh xb) {F : Nat → Nat → Prop} (L : ar_LA ls sz F) (hF : ∀ E, ¬ F 0 E) (h : ∀ ls' sz' hI' tn', ar_LA ls' sz' (fun j E => F j E ∨ (j = 0 ∧ ar_ad n p R E)) → post (nI n, nI p, cu, fi, fo, fu, gs, pc, gv, xh, xb, ls', sz', pe, hI', hO, hU, pk, tn')) : wpX_listAdmissible post (nI n, nI p, cu, fi, fo, fu, gs, pc, gv, xh, xb, ls, sz, pe, hI, hO, hU, pk, tn) := by
  have n8 := K.2.1
  have cn : xm_c n ≤ 1021 := xm_c_8 ▸ xm_c_mo n8
  refine nm_e (nm_e (Exists.intro 2001 (xm_all K D n 0 0 0 F ls sz _ _ (by omega) (ar_ad_0 (n := n)).1 (by decide) pk_us pk_us L (fun E z _ => hF E z) (by omega) ?_ 2001 (by omega))))
  intro f x ls' sz' hI' tn' hx hf _ L'
  obtain ⟨f, rfl⟩ : ∃ g, f = g + 1 := ⟨f - 1, by omega⟩
  refine br_f (nI_ge (b := 2000) (by omega) (by decide)) (br_t (by decide) (h _ _ _ _ (ar_LA_eq L' ?_)))
  intro j E _
  exact or_congr Iff.rfl (and_congr_right fun _ => ⟨fun z => z.1, fun z => ⟨z, fun i hi => absurd hi (Nat.not_lt_zero i)⟩⟩)
end
end
section
/-! the search for the full peaceful sets, and the stage sets out of them -/
def ar_XF (n p : Nat) (R : Nat → Nat → Prop) (d s E : Nat) : Prop := ar_fl n p R E ∧ ∀ i, i < d → (E.testBit i = true ↔ s.testBit i = true)
/-- the first m places of pe hold each member of S once -/
def ar_PL (pe : Nat → Int32) (m : Nat) (S : Nat → Prop) : Prop := ∃ e : Nat → Nat, (∀ i, i < m → pe i = nI (e i) ∧ S (e i)) ∧ (∀ s, S s → ∃ i, i < m ∧ e i = s) ∧ (∀ i j, i < m → j < m → e i = e j → i = j) ∧ m = ar_ct S 256
theorem ar_PL_eq {pe : Nat → Int32} {m : Nat} {S T : Nat → Prop} (h : ar_PL pe m S) (e : ∀ s, S s ↔ T s) : ar_PL pe m T := ar_ct_eq e ▸ h
theorem ar_PL_add {pe : Nat → Int32} {m t : Nat} {S : Nat → Prop} (h : ar_PL pe m S) (ht : ¬ S t) (h256 : t < 256) : m < 256 ∧ ar_PL (upd pe m (nI t)) (m + 1) (fun s => S s ∨ s = t) := by
  obtain ⟨e, a, b, c, d⟩ := h
  have l := ar_ct_255 ht h256
  refine ⟨by omega, fun i => if i = m then t else e i, ?_, ?_, ?_, ?_⟩
  · intro i hi
    by_cases z : i = m
    · subst z
      show upd pe i (nI t) i = nI (if i = i then t else e i) ∧ (S (if i = i then t else e i) ∨ (if i = i then t else e i) = t)
      rw [if_pos rfl]
      exact ⟨pk_us, Or.inr rfl⟩
    · show upd pe m (nI t) i = nI (if i = m then t else e i) ∧ (S (if i = m then t else e i) ∨ (if i = m then t else e i) = t)
      rw [if_neg z, pk_un z]
      exact ⟨(a i (by omega)).1, Or.inl (a i (by omega)).2⟩
  · rintro s (hs | hs)
    · obtain ⟨i, hi, ei⟩ := b s hs
      refine ⟨i, by omega, ?_⟩
      show (if i = m then t else e i) = s
      rw [if_neg (by omega)]
      exact ei
    · refine ⟨m, by omega, ?_⟩
      show (if m = m then t else e m) = s
      rw [if_pos rfl]
      exact hs.symm
  · intro i j hi hj
    show (if i = m then t else e i) = (if j = m then t else e j) → i = j
    by_cases z : i = m
    · by_cases y : j = m
      · intro _
        omega
      · rw [if_pos z, if_neg y]
        intro q
        exact absurd (q ▸ (a j (by omega)).2) ht
    · by_cases y : j = m
      · rw [if_neg z, if_pos y]
        intro q
        exact absurd (q ▸ (a i (by omega)).2) ht
      · rw [if_neg z, if_neg y]
        exact c i j (by omega) (by omega)
  · rw [ar_ct_ins ht, if_pos h256]
    omega
def xs_K (post : SX → Prop) (n p : Nat) (cu fi fo fu gs : Int32) (gv xh xb ls sz hO hU pk : Nat → Int32) (D : Int32) (d X : Nat) (S : Nat → Prop) (hI tn : Nat → Int32) : Prop :=
  ∀ (f x m : Nat) (pe hI' tn' : Nat → Int32), x ≤ X → 2000 < f + x → ar_K2f d hI tn hI' tn' → ar_PL pe m S → wX_listStage_23 post (nI n) (nI p) cu fi fo fu gs f D (nI x) (nI m) gv xh xb ls sz pe hI' hO hU pk tn'
def xs_P (post : SX → Prop) (n p : Nat) (R : Nat → Nat → Prop) (cu fi fo fu gs : Int32) (gv xh xb ls sz hO hU pk : Nat → Int32) (k : Nat) : Prop :=
  ∀ (d s x m : Nat) (S : Nat → Prop) (pe hI tn : Nat → Int32), d + k = n → ar_pf p R s → s < 2 ^ d → hI d = nI s → tn d = nI 0 → ar_PL pe m S → (∀ E, S E → ar_XF n p R d s E → False) → x + xm_c k ≤ 2000 →
    xs_K post n p cu fi fo fu gs gv xh xb ls sz hO hU pk (nI d + (-1)) d (x + xm_c k) (fun E => S E ∨ ar_XF n p R d s E) hI tn → ∀ f, 2000 < f + x → wX_listStage_23 post (nI n) (nI p) cu fi fo fu gs f (nI d) (nI x) (nI m) gv xh xb ls sz pe hI hO hU pk tn
section
variable {n p : Nat} {R : Nat → Nat → Prop} {cu fi fo fu gs pc : Int32} {gv xh xb ls sz pe hI hO hU pk tn : Nat → Int32} {post : SX → Prop}
theorem xs_K_ch {D : Int32} {d X X1 : Nat} {S S1 : Nat → Prop} {hI1 tn1 : Nat → Int32} (h : xs_K post n p cu fi fo fu gs gv xh xb ls sz hO hU pk D d X S hI tn) (hX : X1 ≤ X) (hS : ∀ s, S1 s ↔ S s) (hK : ar_K2f d hI tn hI1 tn1) :
    xs_K post n p cu fi fo fu gs gv xh xb ls sz hO hU pk D d X1 S1 hI1 tn1 := by
  intro f x m pe hI' tn' a b c e
  refine h f x m pe hI' tn' (by omega) b ?_ (ar_PL_eq e hS)
  intro j hj
  exact ⟨(c j hj).1.trans (hK j hj).1, (c j hj).2.trans (hK j hj).2⟩
theorem xs_leaf (K : ar_OK n p R) (D : ar_D n R xh xb) {s x f m : Nat} {S : Nat → Prop} (hs : ar_pf p R s) (eI : hI n = nI s) (hx : x < 2000) (hf : 2000 < f + x) (L : ar_PL pe m S) (dj : ∀ E, S E → ar_XF n p R n s E → False)
    (k : xs_K post n p cu fi fo fu gs gv xh xb ls sz hO hU pk (nI n + (-1)) n (x + 1) (fun E => S E ∨ ar_XF n p R n s E) hI tn) : wX_listStage_23 post (nI n) (nI p) cu fi fo fu gs f (nI n) (nI x) (nI m) gv xh xb ls sz pe hI hO hU pk tn := by
  have n8 := K.2.1
  have b := ar_pf_lt K hs
  obtain ⟨f, rfl⟩ : ∃ g, f = g + 1 := ⟨f - 1, by omega⟩
  have eX : ∀ E, ar_XF n p R n s E ↔ E = s ∧ ar_fl n p R s := by
    intro E
    constructor
    · rintro ⟨y, z⟩
      have := ar_agree_n b (ar_pf_lt K y.1) z
      subst this
      exact ⟨rfl, y⟩
    · rintro ⟨rfl, z⟩
      exact ⟨z, fun _ _ => Iff.rfl⟩
  refine br_f (nI_ge (b := 2000) hx (by decide)) (br_f (nI_pos (by omega)) (And.intro (vp_in_nI (by omega) (by decide)) (nm_r (e' := nI s) (by rw [ar_cl n (by omega), eI]) (br_t rfl (xa_isFull K D (ar_31 K b) (fun z => br_f ar_n10 ?_) (fun z => br_t rfl (nm_e (nm_r (nI_1 x) (k f (x + 1) m _ _ _ (Nat.le_refl _) (by omega) (fun _ _ => ⟨rfl, rfl⟩) (ar_PL_eq L ?_))))))))))
  · have fl : ar_fl n p R s := ⟨hs, z⟩
    obtain ⟨l, L'⟩ := ar_PL_add L (fun y => dj s y ((eX s).mpr ⟨rfl, fl⟩)) (ar_256 K b)
    refine br_f (nI_ge (b := 256) l (by decide)) (And.intro (vp_in_nI l (by decide)) (nm_r (e' := upd pe m (nI s)) (by rw [ar_cl m (by omega)]) (nm_r (nI_1 m) (nm_e (nm_r (nI_1 x) (k f (x + 1) (m + 1) _ _ _ (Nat.le_refl _) (by omega) (fun _ _ => ⟨rfl, rfl⟩) (ar_PL_eq L' ?_)))))))
    intro E
    exact or_congr Iff.rfl ⟨fun y => (eX E).mpr ⟨y, fl⟩, fun y => ((eX E).mp y).1⟩
  · intro E
    exact ⟨Or.inl, fun y => y.elim id (fun q => absurd ((eX E).mp q).2.2 z)⟩
theorem xs_pop (n8 : n ≤ 8) {d s x f m : Nat} {S : Nat → Prop} (hd : d < n) (eI : hI d = nI s) (et : tn d = nI 2) (hx : x < 2000) (hf : 2000 < f + x) (L : ar_PL pe m S)
    (k : xs_K post n p cu fi fo fu gs gv xh xb ls sz hO hU pk (nI d + (-1)) d (x + 1) S hI tn) : wX_listStage_23 post (nI n) (nI p) cu fi fo fu gs f (nI d) (nI x) (nI m) gv xh xb ls sz pe hI hO hU pk tn := by
  obtain ⟨f, rfl⟩ : ∃ g, f = g + 1 := ⟨f - 1, by omega⟩
  have i9 : vp_in (nI d) 9 := vp_in_nI (by omega) (by decide)
  have ed : (nI d).toNatClampNeg = d := nI_clamp (by omega)
  have nn : ¬ nI d = nI n := by
    rw [nI_eq (by omega) (by omega)]
    omega
  exact br_f (nI_ge (b := 2000) hx (by decide)) (br_f (nI_pos (by omega)) (And.intro i9 (nm_r (e' := nI s) (by rw [ed, eI]) (br_f nn (And.intro i9 (br_t (by rw [ed, et]; rfl) (nm_e (nm_r (nI_1 x) (k f (x + 1) m _ _ _ (Nat.le_refl _) (by omega) (fun _ _ => ⟨rfl, rfl⟩) L)))))))))
/-- a step down -/
theorem xs_dn (n8 : n ≤ 8) {k d s t x f m : Nat} {S : Nat → Prop} (ih : xs_P post n p R cu fi fo fu gs gv xh xb ls sz hO hU pk k) (hd : d + 1 + k = n) (hs : ar_pf p R s) (bs : s < 2 ^ (d + 1)) (L : ar_PL pe m S) (dj : ∀ E, S E → ar_XF n p R (d + 1) s E → False)
    (hx : x + 1 + xm_c k ≤ 2000) (hf : 2000 < f + (x + 1)) (kn : xs_K post n p cu fi fo fu gs gv xh xb ls sz hO hU pk (nI d) (d + 1) (x + 1 + xm_c k) (fun E => S E ∨ ar_XF n p R (d + 1) s E) hI (upd tn d (nI (t + 1)))) :
    wX_listStage_173 post (wX_listStage_23 post (nI n) (nI p) cu fi fo fu gs f) (nI (d + 1)) (nI x) (nI s) (nI (d + 1)) (nI n) (nI p) cu fi fo fu gs (nI m) gv xh xb ls sz pe hI hO hU pk (upd tn d (nI (t + 1))) := by
  have i9 : vp_in (nI (d + 1)) 9 := vp_in_nI (by omega) (by decide)
  have ed : (nI (d + 1)).toNatClampNeg = d + 1 := nI_clamp (by omega)
  unfold wX_listStage_173
  refine And.intro i9 (nm_r (e' := upd hI (d + 1) (nI s)) (by rw [ed]) (And.intro i9 (nm_r (e' := upd (upd tn d (nI (t + 1))) (d + 1) 0) (by rw [ed]) (nm_r (nI_1 x) (ih (d + 1) s (x + 1) m S _ _ _ hd hs bs pk_us pk_us L dj hx ?_ f hf)))))
  rw [pk_m1]
  exact xs_K_ch kn (Nat.le_refl _) (fun _ => Iff.rfl) (fun j hj => ⟨pk_un (by omega), pk_un (by omega)⟩)
theorem xs_all (K : ar_OK n p R) (D : ar_D n R xh xb) : ∀ k, xs_P post n p R cu fi fo fu gs gv xh xb ls sz hO hU pk k := by
  have n8 := K.2.1
  intro k
  induction k with
  | zero =>
    intro d s x m S pe hI tn hd hs bs eI et L dj hx kn f hf
    have c1 := xm_c_1 0
    have e : d = n := by omega
    subst e
    exact xs_leaf K D hs eI (by omega) hf L dj (xs_K_ch kn (by omega) (fun _ => Iff.rfl) (fun _ _ => ⟨rfl, rfl⟩))
  | succ k ih =>
    intro d s x m S pe hI tn hd hs bs eI et L dj hx kn f hf
    have hx0 : x + (3 + 2 * xm_c k) ≤ 2000 := hx
    have c1 := xm_c_1 k
    have i9 : vp_in (nI d) 9 := vp_in_nI (by omega) (by decide)
    have ed : (nI d).toNatClampNeg = d := nI_clamp (by omega)
    have nn : ¬ nI d = nI n := by
      rw [nI_eq (by omega) (by omega)]
      omega
    have q0 : ∀ E, ar_XF n p R (d + 1) s E ↔ ar_XF n p R d s E ∧ ¬ E.testBit d = true := fun E => by
      unfold ar_XF
      rw [ar_agree_0 bs, and_assoc]
    have q1 : ∀ E, ar_XF n p R (d + 1) (s ||| 2 ^ d) E ↔ ar_XF n p R d s E ∧ E.testBit d = true := fun E => by
      unfold ar_XF
      rw [ar_agree_1, and_assoc]
    obtain ⟨f, rfl⟩ : ∃ g, f = g + 1 := ⟨f - 1, by omega⟩
    -- the second turn: not a member; then up
    have nxt : ∀ (f1 x1 m1 : Nat) (pe1 hI1 tn1 : Nat → Int32), x1 ≤ x + 1 + xm_c k → 2000 < f1 + x1 → ar_K2f (d + 1) hI (upd tn d (nI (0 + 1))) hI1 tn1 → ar_PL pe1 m1 (fun E => S E ∨ ar_XF n p R (d + 1) (s ||| 2 ^ d) E) →
        wX_listStage_23 post (nI n) (nI p) cu fi fo fu gs f1 (nI d) (nI x1) (nI m1) gv xh xb ls sz pe1 hI1 hO hU pk tn1 := by
      intro f1 x1 m1 pe1 hI1 tn1 hx1 hf1 k1 L1
      have g1 := k1 d (by omega)
      have t1 : tn1 d = nI 1 := g1.2.trans pk_us
      have e1 : hI1 d = nI s := g1.1.trans eI
      obtain ⟨f1, rfl⟩ : ∃ g, f1 = g + 1 := ⟨f1 - 1, by omega⟩
      refine br_f (nI_ge (b := 2000) (by omega) (by decide)) (br_f (nI_pos (by omega)) (And.intro i9 (nm_r (e' := nI s) (by rw [ed, e1]) (br_f nn (And.intro i9 (br_f (by rw [ed, t1]; decide) (And.intro i9 (br_f (by rw [ed, t1]; decide) (And.intro i9 (And.intro i9 (nm_r (e' := upd tn1 d (nI (1 + 1))) (by rw [ed, t1, nI_1]) (br_t rfl (nm_r (nI_1 d) (br_t rfl (xs_dn n8 ih (by omega) hs (ar_pw1 bs).1 L1 ?_ (by omega) (by omega) ?_)))))))))))))))
      · rintro E (h1 | h1) h2
        · exact dj E h1 ((q0 E).mp h2).1
        · exact ((q0 E).mp h2).2 ((q1 E).mp h1).2
      · intro f2 x2 m2 pe2 hI2 tn2 hx2 hf2 k2 L2
        have g2 := k2 d (by omega)
        refine xs_pop n8 (by omega) (g2.1.trans e1) (g2.2.trans pk_us) (by omega) hf2 L2 (xs_K_ch kn (by rw [xm_c]; omega) ?_ ?_)
        · intro E
          rw [q0, q1]
          constructor
          · rintro ((h | h) | h)
            · exact Or.inl h
            · exact Or.inr h.1
            · exact Or.inr h.1
          · rintro (h | h)
            · exact Or.inl (Or.inl h)
            · by_cases e : E.testBit d = true
              · exact Or.inl (Or.inr ⟨h, e⟩)
              · exact Or.inr ⟨h, e⟩
        · intro j hj
          have a1 := k1 j (by omega)
          have a2 := k2 j (by omega)
          have u1 : upd tn d (nI (0 + 1)) j = tn j := pk_un (by omega)
          have u2 : upd tn1 d (nI (1 + 1)) j = tn1 j := pk_un (by omega)
          exact ⟨a2.1.trans a1.1, (a2.2.trans u2).trans (a1.2.trans u1)⟩
    have eb : nI s ||| ((1 : Int32) <<< ((nI (d + 1) - 1) &&& 31)) = nI (s ||| 2 ^ d) := by rw [nI_pred, ar_shl (by omega), ar_or]
    have eW : ∀ w, w = nI (s ||| 2 ^ d) → (∀ g, 2000 < g + (x + 1) → ar_ag p R s d → wX_listStage_173 post (wX_listStage_23 post (nI n) (nI p) cu fi fo fu gs g) (nI (d + 1)) (nI x) w (nI (d + 1)) (nI n) (nI p) cu fi fo fu gs (nI m) gv xh xb ls sz pe hI hO hU pk (upd tn d (nI (0 + 1)))) := by
      rintro w rfl g hg ag
      exact xs_dn n8 ih (by omega) (ar_ag_pf hs ag) (ar_pw1 bs).2 L (fun E h1 h2 => dj E h1 ((q1 E).mp h2).1) (by omega) hg nxt
    refine br_f (nI_ge (b := 2000) (by omega) (by decide)) (br_f (nI_pos (by omega)) (And.intro i9 (nm_r (e' := nI s) (by rw [ed, eI]) (br_f nn (And.intro i9 (br_f (by rw [ed, et]; decide) (And.intro i9 (br_t (by rw [ed, et]; rfl) (And.intro i9 (And.intro i9 (nm_r (e' := upd tn d (nI (0 + 1))) (by rw [ed, et, nI_1]) (br_f ar_n10 (xa_agrees K D (by omega) (fun ag => br_f ar_n10 (nm_r (nI_1 d) (br_f ar_n10 (eW _ eb f (by omega) ag)))) (fun ag => br_t rfl (nm_r (nI_1 x) (nxt f (x + 1) m pe _ _ (by omega) (by omega) (fun _ _ => ⟨rfl, rfl⟩) (ar_PL_eq L ?_)))))))))))))))))
    intro E
    refine ⟨Or.inl, fun y => y.elim id (fun q => (ag ?_).elim)⟩
    have qq := (q1 E).mp q
    exact ar_pf_ag q.1.1 (fun i hi => (qq.1.2 i (ar_hi bs hi)).mpr hi) qq.2
/-! the widest of them -/
theorem xs_221 (K : ar_OK n p R) (D : ar_D n R xh xb) {m s : Nat} {e : Nat → Nat} {S : Nat → Prop} (hS : ∀ t, S t → ar_sb t p) (hm : m ≤ 256) (a : ∀ i, i < m → pe i = nI (e i) ∧ S (e i)) {J : Int32 → Int32 → Int32 → Int32 → Int32 → Int32 → Int32 → Int32 → Int32 → (Nat → Int32) → (Nat → Int32) → (Nat → Int32) → (Nat → Int32) → (Nat → Int32) → (Nat → Int32) → (Nat → Int32) → (Nat → Int32) → (Nat → Int32) → (Nat → Int32) → (Nat → Int32) → Prop} {x2 : Int32} (sp : ar_sb s p)
    (h : ((ar_fv (∀ i, i < m → ¬ ar_pp (ar_rc n R s) (ar_rc n R (e i))) = 0 → (∀ y : Int32, y = x2 + 1 → J y (nI n) (nI p) cu fi fo fu gs (nI m) gv xh xb ls sz pe hI hO hU pk tn)) ∧ (¬ ar_fv (∀ i, i < m → ¬ ar_pp (ar_rc n R s) (ar_rc n R (e i))) = 0 → (vp_in x2 256 ∧ wpX_insert (fun u => match u with | (f_n, f_inPlay, f_current, f_in, f_out, f_open, f_groundedSet, f_peacefulCount, a_given, a_hits, a_hitBy, a_lists, a_sizes, a_peaceful, a_heldIn, a_heldOut, a_heldOpen, a_picked, a_turn) => ∀ y : Int32, y = x2 + 1 → J y f_n f_inPlay f_current f_in f_out f_open f_groundedSet f_peacefulCount a_given a_hits a_hitBy a_lists a_sizes a_peaceful a_heldIn a_heldOut a_heldOpen a_picked a_turn) (nI n, nI p, cu, fi, fo, fu, gs, nI m, gv, xh, xb, ls, sz, pe, hI, hO, hU, pk, tn) 4 (pe x2.toNatClampNeg))))) :
    ∀ d j, j + d = m → wX_listStage_221 post J x2 (nI (ar_rc n R s)) (nI n) (nI p) cu fi fo fu gs (nI m) gv xh xb ls sz pe hI hO hU pk tn (d + 1) (ar_fv (∀ i, i < j → ¬ ar_pp (ar_rc n R s) (ar_rc n R (e i)))) (nI j) := by
  have n8 := K.2.1
  have bp := K.2.2.1
  intro d
  induction d with
  | zero =>
    intro j hj
    have ej : j = m := by omega
    subst ej
    exact br_t (nI_le (by omega) (by omega)) h
  | succ d ih =>
    intro j hj
    obtain ⟨a1, a2⟩ := a j (by omega)
    have b1 := ar_sb_lt (hS _ a2) bp
    have eg : pe (nI j).toNatClampNeg = nI (e j) := by rw [ar_cl j (by omega), a1]
    have st : (∀ i, i < j + 1 → ¬ ar_pp (ar_rc n R s) (ar_rc n R (e i))) = ((∀ i, i < j → ¬ ar_pp (ar_rc n R s) (ar_rc n R (e i))) ∧ ¬ ar_pp (ar_rc n R s) (ar_rc n R (e j))) := by
      refine propext ⟨fun z => ⟨fun i hi => z i (by omega), z j (by omega)⟩, fun z i hi => ?_⟩
      by_cases y : i = j
      · exact y ▸ z.2
      · exact z.1 i (by omega)
    have ih2 := ih (j + 1) (by omega)
    rw [st] at ih2
    have br : ar_rc n R s < 2 ^ 31 := ar_31 K (ar_rc_lt (ar_sb_lt sp bp))
    have br' : ar_rc n R (e j) < 2 ^ 31 := ar_31 K (ar_rc_lt b1)
    have i256 : vp_in (nI j) 256 := vp_in_nI (by omega) (by decide)
    rw [wX_listStage_221]
    dsimp only
    rw [eg]
    refine br_f (nI_ge (by omega) (by omega)) (And.intro i256 (And.intro i256 (xa_hitsOf K D (ar_31 K b1) (nm_r (e' := nI (ar_rc n R (e j))) (ar_or _ _) ?_))))
    by_cases hW : ∀ i, i < j → ¬ ar_pp (ar_rc n R s) (ar_rc n R (e i))
    · refine br_f (ar_fv_n hW) (ar_if (nI_eq br' br) (fun y => nm_r (nI_1 j) ?_) (fun y => ar_if (ar_andn_z _ br) (fun w => nm_r (nI_1 j) ?_) (fun w => nm_r (nI_1 j) ?_)))
      · rw [ar_fv_t ⟨hW, ar_npp.mpr (Or.inl y)⟩] at ih2
        exact ih2
      · rw [ar_fv_f (P := _ ∧ ¬ ar_pp _ _) (fun z => (ar_npp.mp z.2).elim y (fun q => q w))] at ih2
        exact ih2
      · rw [ar_fv_t ⟨hW, ar_npp.mpr (Or.inr w)⟩] at ih2
        exact ih2
    · rw [ar_fv_f (P := _ ∧ ¬ ar_pp _ _) (fun z => hW z.1)] at ih2
      exact br_t (ar_fv_f hW) (nm_r (nI_1 j) ih2)
def xs_G (n : Nat) (R : Nat → Nat → Prop) (F : Nat → Nat → Prop) (e : Nat → Nat) (m i k s : Nat) : Prop := F k s ∨ (k = 4 ∧ ∃ j, j < i ∧ e j = s ∧ ∀ l, l < m → ¬ ar_pp (ar_rc n R s) (ar_rc n R (e l)))
theorem xs_189 (K : ar_OK n p R) (D : ar_D n R xh xb) {m : Nat} {e : Nat → Nat} {S : Nat → Prop} {F : Nat → Nat → Prop} (hS : ∀ t, S t → ar_sb t p) (hm : m ≤ 256) (a : ∀ i, i < m → pe i = nI (e i) ∧ S (e i)) (inj : ∀ i j, i < m → j < m → e i = e j → i = j) (hF : ∀ s, ¬ F 4 s)
    (h : ∀ ls' sz', ar_LA ls' sz' (xs_G n R F e m m) → post (nI n, nI p, cu, fi, fo, fu, gs, nI m, gv, xh, xb, ls', sz', pe, hI, hO, hU, pk, tn)) : ∀ d i ls sz, i + d = m → ar_LA ls sz (xs_G n R F e m i) → wX_listStage_189 post (d + 1) (nI i) (nI n) (nI p) cu fi fo fu gs (nI m) gv xh xb ls sz pe hI hO hU pk tn := by
  have n8 := K.2.1
  have bp := K.2.2.1
  intro d
  induction d with
  | zero =>
    intro i ls sz hi L
    have ei : i = m := by omega
    subst ei
    exact br_t (nI_le (by omega) (by omega)) (h ls sz L)
  | succ d ih =>
    intro i ls sz hi L
    obtain ⟨a1, a2⟩ := a i (by omega)
    have sp := hS _ a2
    have b1 := ar_sb_lt sp bp
    have eg : pe (nI i).toNatClampNeg = nI (e i) := by rw [ar_cl i (by omega), a1]
    have i256 : vp_in (nI i) 256 := vp_in_nI (by omega) (by decide)
    have up : ∀ ls' sz', ar_LA ls' sz' (fun j t => xs_G n R F e m i j t ∨ (j = 4 ∧ t = e i ∧ ∀ l, l < m → ¬ ar_pp (ar_rc n R (e i)) (ar_rc n R (e l)))) → wX_listStage_189 post (d + 1) (nI (i + 1)) (nI n) (nI p) cu fi fo fu gs (nI m) gv xh xb ls' sz' pe hI hO hU pk tn := by
      intro ls' sz' L'
      refine ih (i + 1) ls' sz' (by omega) (ar_LA_eq L' ?_)
      intro k t _
      unfold xs_G
      constructor
      · rintro ((z | ⟨z, j, y, w⟩) | ⟨z, rfl, w⟩)
        · exact Or.inl z
        · exact Or.inr ⟨z, j, by omega, w⟩
        · exact Or.inr ⟨z, i, by omega, rfl, w⟩
      · rintro (z | ⟨z, j, y, rfl, w⟩)
        · exact Or.inl (Or.inl z)
        · by_cases q : j = i
          · subst q
            exact Or.inr ⟨z, rfl, w⟩
          · exact Or.inl (Or.inr ⟨z, j, by omega, rfl, w⟩)
    have q := xs_221 (post := post) (J := wX_listStage_189 post (d + 1)) (x2 := nI i) (s := e i) (cu := cu) (fi := fi) (fo := fo) (fu := fu) (gs := gs) (gv := gv) (ls := ls) (sz := sz) (hI := hI) (hO := hO) (hU := hU) (pk := pk) (tn := tn) K D hS hm a sp ?_ m 0 (by omega)
    · rw [ar_fv_t (fun i hi => absurd hi (Nat.not_lt_zero i))] at q
      rw [wX_listStage_189]
      dsimp only
      rw [eg]
      exact br_f (nI_ge (by omega) (by omega)) (And.intro i256 (And.intro i256 (xa_hitsOf K D (ar_31 K b1) (nm_r (e' := nI (ar_rc n R (e i))) (ar_or _ _) (Exists.intro (m + 1) q)))))
    · rw [eg]
      by_cases hW : ∀ l, l < m → ¬ ar_pp (ar_rc n R (e i)) (ar_rc n R (e l))
      · refine br_f (ar_fv_n hW) (And.intro i256 (xa_cins (k := 4) (by decide) (ar_256 K b1) L ?_ hW (fun ls' sz' L' => nm_r (nI_1 i) (up ls' sz' L'))))
        rintro (z | ⟨_, j, y, w, _⟩)
        · exact hF _ z
        · have := inj j i (by omega) (by omega) w
          omega
      · exact br_t (ar_fv_f hW) (nm_r (nI_1 i) (up ls sz (ar_LA_n L hW)))
theorem xa_stage (K : ar_OK n p R) (D : ar_D n R xh xb) {F : Nat → Nat → Prop} (L : ar_LA ls sz F) (hF : ∀ E, ¬ F 4 E) (h : ∀ pc ls' sz' pe' hI' tn', ar_LA ls' sz' (fun j E => F j E ∨ (j = 4 ∧ ar_K n p R 4 E)) → post (nI n, nI p, cu, fi, fo, fu, gs, pc, gv, xh, xb, ls', sz', pe', hI', hO, hU, pk, tn')) : wpX_listStage post (nI n, nI p, cu, fi, fo, fu, gs, pc, gv, xh, xb, ls, sz, pe, hI, hO, hU, pk, tn) := by
  have n8 := K.2.1
  have cn : xm_c n ≤ 1021 := xm_c_8 ▸ xm_c_mo n8
  have pl0 : ar_PL pe 0 (fun _ => False) := ⟨fun _ => 0, fun i hi => absurd hi (Nat.not_lt_zero i), fun s z => z.elim, fun i j hi => absurd hi (Nat.not_lt_zero i), (ar_ct_0 (fun _ _ z => z)).symm⟩
  refine nm_e (nm_e (Exists.intro 2001 (xs_all K D n 0 0 0 0 (fun _ => False) pe _ _ (by omega) (ar_ad_0 (n := n)).1 (by decide) pk_us pk_us pl0 (fun E z _ => z) (by omega) ?_ 2001 (by omega))))
  intro f x m pe' hI' tn' hx hf _ L'
  obtain ⟨f, rfl⟩ : ∃ g, f = g + 1 := ⟨f - 1, by omega⟩
  have L2 : ar_PL pe' m (ar_fl n p R) := ar_PL_eq L' fun E => ⟨fun z => z.elim False.elim (fun y => y.1), fun z => Or.inr ⟨z, fun i hi => absurd hi (Nat.not_lt_zero i)⟩⟩
  obtain ⟨e, a, b, c, d⟩ := L2
  have hm : m ≤ 256 := d ▸ ar_ct_le _ _
  refine br_f (nI_ge (b := 2000) (by omega) (by decide)) (br_t (by decide) (Exists.intro (m + 1) (xs_189 K D (S := ar_fl n p R) (F := F) (fun t ht => ht.1.1) hm a c hF (fun ls' sz' L3 => h _ _ _ _ _ _ (ar_LA_eq L3 ?_)) m 0 ls sz (by omega) (ar_LA_eq L ?_))))
  · intro k s _
    refine or_congr Iff.rfl (and_congr_right fun _ => ?_)
    rw [ar_K4 K]
    constructor
    · rintro ⟨j, hj, rfl, w⟩
      refine ⟨(a j hj).2, fun t ht => ?_⟩
      obtain ⟨l, hl, el⟩ := b t ht
      exact el ▸ w l hl
    · rintro ⟨y, w⟩
      obtain ⟨j, hj, ej⟩ := b s y
      exact ⟨j, hj, ej, fun l hl => w _ (a l hl).2⟩
  · intro k s _
    exact ⟨Or.inl, fun z => z.elim id (fun y => y.2.elim fun j q => absurd q.1 (Nat.not_lt_zero j))⟩
end
end
section
/-! refresh -/
def ar_R (p : Nat) (g : Nat → Nat → Prop) (a b : Nat) : Prop := p.testBit a = true ∧ p.testBit b = true ∧ g a b
def ar_gv (n : Nat) (g : Nat → Nat → Prop) (gv : Nat → Int32) : Prop := ∀ a, a < n → gv a = nI (ar_mk (g a) n)
def ar_FR (n p : Nat) (R : Nat → Nat → Prop) (gs : Int32) (xh xb ls sz : Nat → Int32) : Prop := ar_D n R xh xb ∧ (∃ G, gs = nI G ∧ ar_G n p R G) ∧ ar_LA ls sz (ar_K n p R)
theorem ar_OK_R {n p : Nat} {g : Nat → Nat → Prop} (h2 : 2 ≤ n) (h8 : n ≤ 8) (hp : p < 2 ^ n) : ar_OK n p (ar_R p g) := ⟨h2, h8, hp, fun _ _ h => ⟨h.1, h.2.1⟩⟩
theorem ar_LA_K {n p : Nat} {R : Nat → Nat → Prop} (K : ar_OK n p R) {ls sz : Nat → Int32} (L : ar_LA ls sz (fun j E => (xp_G n p R 256 j E ∨ (j = 0 ∧ ar_ad n p R E)) ∨ (j = 4 ∧ ar_K n p R 4 E))) : ar_LA ls sz (ar_K n p R) := by
  refine ar_LA_eq L ?_
  intro k s hk
  have c : ar_cp n p R s → ar_ct (ar_cp n p R) s < 256 := fun h => Nat.lt_of_lt_of_le (ar_ct_lt h (ar_cp_256 K s h)) (ar_ct_le _ _)
  unfold xp_G
  match k, hk with
  | 0, _ =>
    constructor
    · rintro ((⟨_, z | ⟨_, z | z | z⟩⟩ | z) | z)
      · exact absurd z (by decide)
      · exact absurd z.1 (by decide)
      · exact absurd z.1 (by decide)
      · exact absurd z.1 (by decide)
      · exact z.2
      · exact absurd z.1 (by decide)
    · intro z
      exact Or.inl (Or.inr ⟨rfl, z⟩)
  | 1, _ =>
    constructor
    · rintro ((z | z) | z)
      · exact z.1
      · exact absurd z.1 (by decide)
      · exact absurd z.1 (by decide)
    · intro z
      exact Or.inl (Or.inl ⟨z, Or.inl rfl⟩)
  | 2, _ =>
    rw [ar_K2 K]
    constructor
    · rintro ((⟨y, z | ⟨_, z | z | z⟩⟩ | z) | z)
      · exact absurd z (by decide)
      · exact ⟨y, z.2⟩
      · exact absurd z.1 (by decide)
      · exact absurd z.1 (by decide)
      · exact absurd z.1 (by decide)
      · exact absurd z.1 (by decide)
    · rintro ⟨y, z⟩
      exact Or.inl (Or.inl ⟨y, Or.inr ⟨c y, Or.inl ⟨rfl, z⟩⟩⟩)
  | 3, _ =>
    rw [ar_K3 K]
    constructor
    · rintro ((⟨y, z | ⟨_, z | z | z⟩⟩ | z) | z)
      · exact absurd z (by decide)
      · exact absurd z.1 (by decide)
      · exact absurd z.1 (by decide)
      · exact ⟨y, z.2⟩
      · exact absurd z.1 (by decide)
      · exact absurd z.1 (by decide)
    · rintro ⟨y, z⟩
      exact Or.inl (Or.inl ⟨y, Or.inr ⟨c y, Or.inr (Or.inr ⟨rfl, z⟩)⟩⟩)
  | 4, _ =>
    constructor
    · rintro ((⟨_, z | ⟨_, z | z | z⟩⟩ | z) | z)
      · exact absurd z (by decide)
      · exact absurd z.1 (by decide)
      · exact absurd z.1 (by decide)
      · exact absurd z.1 (by decide)
      · exact absurd z.1 (by decide)
      · exact z.2
    · intro z
      exact Or.inr ⟨rfl, z⟩
  | 5, _ =>
    constructor
    · rintro ((⟨y, z | ⟨_, z | z | z⟩⟩ | z) | z)
      · exact absurd z (by decide)
      · exact absurd z.1 (by decide)
      · exact ⟨y, z.2⟩
      · exact absurd z.1 (by decide)
      · exact absurd z.1 (by decide)
      · exact absurd z.1 (by decide)
    · rintro ⟨y, z⟩
      exact Or.inl (Or.inl ⟨y, Or.inr ⟨c y, Or.inr (Or.inl ⟨rfl, z⟩)⟩⟩)
section
variable {n p : Nat} {R : Nat → Nat → Prop} {g : Nat → Nat → Prop} {cu fi fo fu gs pc : Int32} {gv xh xb ls sz pe hI hO hU pk tn : Nat → Int32} {post : SX → Prop}
theorem xr_171 (K : ar_OK n p R) (D : ar_D n R xh xb) (L : ar_LA ls sz (fun _ _ => False))
    (h : ∀ (fi fo fu gs pc : Int32) (ls sz pe hI hO hU pk tn : Nat → Int32), ar_FR n p R gs xh xb ls sz → post (nI n, nI p, cu, fi, fo, fu, gs, pc, gv, xh, xb, ls, sz, pe, hI, hO, hU, pk, tn)) :
    ∀ d i s, i + d = n + 1 → s < 2 ^ 31 → ar_Gk n p R i s → wX_refresh_171 post (nI n) (nI p) cu fi fo fu pc gv xh xb ls sz pe hI hO hU pk tn (d + 1) (nI i) (nI s) := by
  have n8 := K.2.1
  intro d
  induction d with
  | zero =>
    intro i s hi hs G
    have ei : i = n + 1 := by omega
    subst ei
    refine br_t (nI_lt (by omega) (by omega)) (xa_labelAll K D (L 1 (by decide)) (fun fi fo fu ls' sz' hI hO hU pk tn L1 O1 => xa_pick K D (fun k hk => ?_) (fun ls2 sz2 L2 => xa_adm K D L2 ?_ (fun ls3 sz3 hI3 tn3 L3 => xa_stage K D L3 ?_ (fun pc4 ls4 sz4 pe4 hI4 tn4 L4 => h _ _ _ _ _ _ _ _ _ _ _ _ _ ⟨D, ⟨s, rfl, ar_Gk_e G⟩, ar_LA_K K L4⟩)))))
    · by_cases e : k = 1
      · subst e
        have q : (fun s => 1 = 1 ∧ ar_cp n p R s) = ar_cp n p R := ar_ct_eq fun s => ⟨fun z => z.2, fun z => ⟨rfl, z⟩⟩
        show ar_LS ls' sz' 1 (fun s => 1 = 1 ∧ ar_cp n p R s)
        rw [q]
        exact L1
      · have q : (fun s => k = 1 ∧ ar_cp n p R s) = (fun _ => False) := ar_ct_eq fun s => ⟨fun z => e z.1, False.elim⟩
        show ar_LS ls' sz' k (fun s => k = 1 ∧ ar_cp n p R s)
        rw [q]
        exact ar_Oth_LS O1 e (L k hk)
    · rintro E ⟨_, z | ⟨_, z | z | z⟩⟩
      · exact absurd z (by decide)
      · exact absurd z.1 (by decide)
      · exact absurd z.1 (by decide)
      · exact absurd z.1 (by decide)
    · rintro E (⟨_, z | ⟨_, z | z | z⟩⟩ | z)
      · exact absurd z (by decide)
      · exact absurd z.1 (by decide)
      · exact absurd z.1 (by decide)
      · exact absurd z.1 (by decide)
      · exact absurd z.1 (by decide)
  | succ d ih =>
    intro i s hi hs G
    exact br_f (nI_nlt (by omega) (by omega)) (xa_defendedBy K D hs (nm_r (nI_1 i) (ih (i + 1) _ (by omega) (ar_31 K (ar_df_lt s)) (ar_Gk_s K G))))
theorem xr_145 (K : ar_OK n p R) (D : ar_D n R xh xb) (h : ∀ (fi fo fu gs pc : Int32) (ls sz pe hI hO hU pk tn : Nat → Int32), ar_FR n p R gs xh xb ls sz → post (nI n, nI p, cu, fi, fo, fu, gs, pc, gv, xh, xb, ls, sz, pe, hI, hO, hU, pk, tn)) :
    ∀ d i sz, i + d = 6 → (∀ k, k < i → sz k = nI 0) → wX_refresh_145 post (nI n) (nI p) cu fi fo fu gs pc (d + 1) (nI i) gv xh xb ls sz pe hI hO hU pk tn := by
  have n8 := K.2.1
  intro d
  induction d with
  | zero =>
    intro i sz hi hz
    refine br_t (nI_le (a := 6) (by omega) (by omega)) (Exists.intro (n + 2) (xr_171 K D (fun k hk => ⟨?_, fun s _ z => z.elim⟩) h (n + 1) 0 0 (by omega) (by decide) ar_Gk_0))
    rw [ar_ct_0 (fun _ _ z => z)]
    exact hz k (by omega)
  | succ d ih =>
    intro i sz hi hz
    refine br_f (nI_ge (b := 6) (by omega) (by decide)) (And.intro (vp_in_nI (by omega) (by decide)) (nm_r (e' := upd sz i 0) (by rw [ar_cl i (by omega)]) (nm_r (nI_1 i) (ih (i + 1) _ (by omega) ?_))))
    intro k hk
    by_cases e : k = i
    · rw [e]; exact pk_us
    · rw [pk_un e]
      exact hz k (by omega)
theorem xr_70 (K : ar_OK n p R) (DH : ∀ c, c < n → xh c = nI (ar_H n R c)) (h : ∀ (fi fo fu gs pc : Int32) (xb ls sz pe hI hO hU pk tn : Nat → Int32), ar_FR n p R gs xh xb ls sz → post (nI n, nI p, cu, fi, fo, fu, gs, pc, gv, xh, xb, ls, sz, pe, hI, hO, hU, pk, tn)) :
    ∀ d i xb, i + d = n * n → (∀ c, c < n → xb c = nI (ar_mk (fun a => R a c ∧ n * a + c < i) n)) → wX_refresh_70 post (nI n) (nI p) cu fi fo fu gs pc (d + 1) (nI i) gv xh xb ls sz pe hI hO hU pk tn := by
  have n8 := K.2.1
  have n2 := K.1
  have nn : n * n ≤ 64 := Nat.mul_le_mul n8 n8
  have en : nI n * nI n = nI (n * n) := pk_mul n n
  have n0 : ¬ nI n = 0 := nI_ne0 (by omega) (by omega)
  intro d
  induction d with
  | zero =>
    intro i xb hi hz
    have D : ar_D n R xh xb := by
      intro c hc
      refine ⟨DH c hc, (hz c hc).trans (congrArg nI ?_)⟩
      apply ar_ext
      intro a
      unfold ar_B
      rw [ar_mk_tb, ar_mk_tb]
      refine and_congr_right fun ha => ⟨fun z => z.1, fun z => ⟨z, ?_⟩⟩
      have : n * (a + 1) ≤ n * n := Nat.mul_le_mul_left n ha
      rw [Nat.mul_add] at this
      omega
    refine br_t ?_ (Exists.intro 7 (xr_145 K D (fun fi fo fu gs pc ls sz pe hI hO hU pk tn => h fi fo fu gs pc xb ls sz pe hI hO hU pk tn) 6 0 sz (by omega) (fun k hk => absurd hk (Nat.not_lt_zero k))))
    rw [en]
    exact nI_le (by omega) (by omega)
  | succ d ih =>
    intro i xb hi hz
    have hdm := Nat.div_add_mod i n
    have hc : i % n < n := Nat.mod_lt i (by omega)
    have ha : i / n < n := Nat.div_lt_of_lt_mul (by omega)
    have ed : nI i / nI n = nI (i / n) := pk_div (by omega) (by omega) (by omega)
    have er : nI i - nI i / nI n * nI n = nI (i % n) := pk_rem (by omega) (by omega) (by omega)
    have un : ∀ a c, c < n → n * a + c = i → a = i / n ∧ c = i % n := by
      intro a c hcn e
      rw [← e]
      exact ⟨by rw [Nat.mul_add_div (by omega), Nat.div_eq_of_lt hcn, Nat.add_zero], by rw [Nat.mul_add_mod, Nat.mod_eq_of_lt hcn]⟩
    have i8 : vp_in (nI (i / n)) 8 := vp_in_nI (by omega) (by decide)
    have c8 : vp_in (nI (i % n)) 8 := vp_in_nI (by omega) (by decide)
    rw [wX_refresh_70]
    dsimp only
    rw [en, er, ed, ar_cl (i / n) (by omega), ar_cl (i % n) (by omega), DH _ ha]
    refine br_f (nI_ge (by omega) (by omega)) (And.intro n0 (And.intro i8 (And.intro n0 (xa_has (ar_31 K (ar_H_lt _)) (by omega) (fun hb => br_f ar_n10 (And.intro n0 (And.intro n0 (And.intro c8 (And.intro n0 (And.intro c8 (nm_r (e' := upd xb (i % n) (nI (ar_mk (fun a => R a (i % n) ∧ n * a + i % n < i) n ||| 2 ^ (i / n)))) (by rw [hz _ hc, ar_shl (by omega), ar_or]) (nm_r (nI_1 i) (ih (i + 1) _ (by omega) ?_))))))))) (fun hb => br_t rfl (nm_r (nI_1 i) (ih (i + 1) xb (by omega) ?_)))))))
    · have r : R (i / n) (i % n) := (ar_H_tb K _ _).mp hb
      intro c hc'
      by_cases e : c = i % n
      · rw [e, pk_us]
        apply congrArg nI
        apply ar_ext
        intro a
        rw [ar_ob_tb, ar_mk_tb, ar_mk_tb]
        constructor
        · rintro (⟨x, y, z⟩ | rfl)
          · exact ⟨x, y, by omega⟩
          · exact ⟨ha, r, by omega⟩
        · rintro ⟨x, y, z⟩
          by_cases q : n * a + i % n = i
          · exact Or.inr (un a _ hc q).1.symm
          · exact Or.inl ⟨x, y, by omega⟩
      · rw [pk_un e, hz c hc']
        apply congrArg nI
        apply ar_ext
        intro a
        rw [ar_mk_tb, ar_mk_tb]
        refine and_congr_right fun _ => and_congr_right fun _ => ?_
        have : n * a + c ≠ i := fun q => e (un a c hc' q).2
        omega
    · intro c hc'
      rw [hz c hc']
      apply congrArg nI
      apply ar_ext
      intro a
      rw [ar_mk_tb, ar_mk_tb]
      refine and_congr_right fun _ => and_congr_right fun y => ?_
      have : n * a + c ≠ i := fun q => hb ((ar_H_tb K _ _).mpr (by
        obtain ⟨q1, q2⟩ := un a c hc' q
        rw [← q1, ← q2]
        exact y))
      omega
theorem xr_15 (K : ar_OK n p R) (hR : R = ar_R p g) (hg : ar_gv n g gv) (h : ∀ (fi fo fu gs pc : Int32) (xh xb ls sz pe hI hO hU pk tn : Nat → Int32), ar_FR n p R gs xh xb ls sz → post (nI n, nI p, cu, fi, fo, fu, gs, pc, gv, xh, xb, ls, sz, pe, hI, hO, hU, pk, tn)) :
    ∀ d i xh xb, i + d = n → (∀ c, c < i → xh c = nI (ar_H n R c) ∧ xb c = nI 0) → wX_refresh_15 post (nI n) (nI p) cu fi fo fu gs pc (d + 1) (nI i) gv xh xb ls sz pe hI hO hU pk tn := by
  have n8 := K.2.1
  intro d
  induction d with
  | zero =>
    intro i xh xb hi hz
    refine br_t (nI_le (by omega) (by omega)) (Exists.intro (n * n + 1) (xr_70 K (fun c hc => (hz c (by omega)).1) (fun fi fo fu gs pc xb ls sz pe hI hO hU pk tn => h fi fo fu gs pc xh xb ls sz pe hI hO hU pk tn) (n * n) 0 xb (by omega) ?_))
    intro c hc
    rw [(hz c (by omega)).2]
    apply congrArg nI
    apply ar_ext
    intro a
    rw [ar_mk_tb]
    exact ⟨fun z => absurd z ar_0_tb, fun z => absurd z.2.2 (Nat.not_lt_zero _)⟩
  | succ d ih =>
    intro i xh xb hi hz
    have i8 : vp_in (nI i) 8 := vp_in_nI (by omega) (by decide)
    have ei : (nI i).toNatClampNeg = i := ar_cl i (by omega)
    have k54 : ∀ w, w = nI (ar_H n R i) → wX_refresh_54 post (wX_refresh_15 post (nI n) (nI p) cu fi fo fu gs pc (d + 1)) (nI i) w (nI i) (nI n) (nI p) cu fi fo fu gs pc gv xh xb ls sz pe hI hO hU pk tn := by
      rintro w rfl
      refine And.intro i8 (nm_r (e' := upd xh i (nI (ar_H n R i))) (by rw [ei]) (And.intro i8 (nm_r (e' := upd xb i 0) (by rw [ei]) (nm_r (nI_1 i) (ih (i + 1) _ _ (by omega) ?_)))))
      intro c hc
      by_cases e : c = i
      · rw [e]
        exact ⟨pk_us, pk_us⟩
      · rw [pk_un e, pk_un e]
        exact hz c (by omega)
    refine br_f (nI_ge (by omega) (by omega)) (xa_has (ar_p31 K) (by omega) (fun hb => br_f ar_n10 (And.intro i8 (k54 _ ?_))) (fun hb => br_t rfl (k54 _ ?_)))
    · rw [ei, hg i (by omega), nx_and]
      apply congrArg nI
      apply ar_ext
      intro b
      rw [ar_and_tb, ar_mk_tb, ar_H_tb K, hR]
      exact ⟨fun z => ⟨hb, z.2, z.1.2⟩, fun z => ⟨⟨ar_hi K.2.2.1 z.2.1, z.2.2⟩, z.2.1⟩⟩
    · show nI 0 = _
      apply congrArg nI
      apply ar_ext
      intro b
      rw [ar_H_tb K, hR]
      exact ⟨fun z => absurd z ar_0_tb, fun z => absurd z.1 hb⟩
theorem xa_refresh (K : ar_OK n p R) (hR : R = ar_R p g) (hg : ar_gv n g gv) (hf : ¬ cu = 0 → ar_FR n p R gs xh xb ls sz)
    (h : ∀ (cu fi fo fu gs pc : Int32) (xh xb ls sz pe hI hO hU pk tn : Nat → Int32), ar_FR n p R gs xh xb ls sz → post (nI n, nI p, cu, fi, fo, fu, gs, pc, gv, xh, xb, ls, sz, pe, hI, hO, hU, pk, tn)) : wpX_refresh post (nI n, nI p, cu, fi, fo, fu, gs, pc, gv, xh, xb, ls, sz, pe, hI, hO, hU, pk, tn) := by
  by_cases z : cu = 0
  · exact br_t z (Exists.intro (n + 1) (xr_15 K hR hg (fun fi fo fu gs pc xh xb ls sz pe hI hO hU pk tn => h 1 fi fo fu gs pc xh xb ls sz pe hI hO hU pk tn) n 0 xh xb (by omega) (fun c hc => absurd hc (Nat.not_lt_zero c))))
  · exact br_f z (h _ _ _ _ _ _ _ _ _ _ _ _ _ _ _ _ (hf z))
end
end
section
/-! the reference's small methods and its tables -/
def ar_g (yh : Nat → Int32) (a b : Nat) : Prop := ¬ yh (8 * a + b) = 0
/-- the tables are right -/
def ar_T (n p : Nat) (R : Nat → Nat → Prop) (yp ya yc yr : Nat → Int32) : Prop := ∀ s, s < 2 ^ n → yp s = ar_fv (ar_pf p R s) ∧ ya s = ar_fv (ar_ad n p R s) ∧ yc s = ar_fv (ar_cp n p R s) ∧ yr s = nI (ar_rc n R s)
theorem ar_i8 (a b : Nat) : (8 * nI a) + nI b = nI (8 * a + b) := by
  show (nI 8 * nI a) + nI b = _
  rw [pk_mul, nI_add]
theorem ar_nb (P : Prop) : vp_nar .boolean (ar_fv P) = ar_fv P := by
  by_cases h : P
  · rw [ar_fv_t h]; rfl
  · rw [ar_fv_f h]; rfl
theorem ar_nw (P : Prop) : narrow .boolean (.int (ar_fv P)) = .int (ar_fv P) := by
  by_cases h : P
  · rw [ar_fv_t h]; rfl
  · rw [ar_fv_f h]; rfl
section
variable {n p : Nat} {yh yp ya yc yr : Nat → Int32}
theorem yb_in {post : Int32 → Prop} {s c : Nat} {u v : Int32} (hs : s < 2 ^ 31) (hc : c < 32) (h1 : s.testBit c = true → post 1) (h0 : ¬ s.testBit c = true → post 0) : wpY_in post (u, v, yh, yp, ya, yc, yr) (nI s) (nI c) := ar_if (ar_bit1 hs hc) h1 h0
theorem yb_strikes (n8 : n ≤ 8) (bp : p < 2 ^ n) {post : Int32 → Prop} {a b : Nat} (ha : a < n) (hb : b < n) (h1 : ar_R p (ar_g yh) a b → post 1) (h0 : ¬ ar_R p (ar_g yh) a b → post 0) : wpY_strikes post (nI n, nI p, yh, yp, ya, yc, yr) (nI a) (nI b) := by
  have p31 : p < 2 ^ 31 := Nat.lt_trans (Nat.lt_of_lt_of_le bp (ar_p8 n8)) (by decide)
  unfold wpY_strikes
  dsimp only
  refine yb_in p31 (by omega) (fun za => br_f ar_n10 (yb_in p31 (by omega) (fun zb => br_f ar_n10 (And.intro ?_ (br_c (fun z => h0 ?_) (fun z => h1 ⟨za, zb, ?_⟩)))) (fun zb => br_t rfl (h0 (fun z => zb z.2.1))))) (fun za => br_t rfl (h0 (fun z => za z.1)))
  · rw [ar_i8]
    exact vp_in_nI (by omega) (by decide)
  · rw [ar_i8, ar_cl (8 * a + b) (by omega)] at z
    exact fun y => y.2.2 z
  · rw [ar_i8, ar_cl (8 * a + b) (by omega)] at z
    exact z
theorem yb_at_21 (n8 : n ≤ 8) (bp : p < 2 ^ n) {s a : Nat} (hs : s < 2 ^ 31) (ha : a < n) {post : Int32 → Prop} {J : Int32 → Int32 → Prop}
    (h : ∀ t, (∀ b, t.testBit b = true ↔ ∃ a', a' < a + 1 ∧ s.testBit a' = true ∧ ar_R p (ar_g yh) a' b) → J (nI t) (nI (a + 1))) :
    ∀ d j t, j + d = n → (∀ b, t.testBit b = true ↔ (∃ a', a' < a ∧ s.testBit a' = true ∧ ar_R p (ar_g yh) a' b) ∨ (b < j ∧ s.testBit a = true ∧ ar_R p (ar_g yh) a b)) → wY_attacked_21 post J (nI s) (nI a) (nI n) (nI p) yh yp ya yc yr (d + 1) (nI t) (nI j) := by
  intro d
  induction d with
  | zero =>
    intro j t hj ht
    refine br_t (nI_le (by omega) (by omega)) (nm_r (nI_1 a) (h t (fun b => (ht b).trans ?_)))
    constructor
    · rintro (⟨a', x, y⟩ | ⟨x, y⟩)
      · exact ⟨a', by omega, y⟩
      · exact ⟨a, by omega, y⟩
    · rintro ⟨a', x, y, z⟩
      by_cases e : a' = a
      · subst e
        exact Or.inr ⟨by have := ar_hi bp z.2.1; omega, y, z⟩
      · exact Or.inl ⟨a', by omega, y, z⟩
  | succ d ih =>
    intro j t hj ht
    have nx : ¬ (s.testBit a = true ∧ ar_R p (ar_g yh) a j) → wY_attacked_21 post J (nI s) (nI a) (nI n) (nI p) yh yp ya yc yr (d + 1) (nI t) (nI (j + 1)) := by
      intro z
      refine ih (j + 1) t (by omega) (fun b => (ht b).trans (or_congr Iff.rfl ?_))
      constructor
      · rintro ⟨x, y⟩
        exact ⟨by omega, y⟩
      · rintro ⟨x, y⟩
        have : b ≠ j := fun e => z (e ▸ y)
        exact ⟨by omega, y⟩
    refine br_f (nI_ge (by omega) (by omega)) (br_f (nI_ge (b := 8) (by omega) (by decide)) (yb_in hs (by omega) (fun zs => br_f ar_n10 (yb_strikes n8 bp ha (by omega) (fun r => br_f ar_n10 (nm_r (e' := nI (t ||| 2 ^ j)) (by rw [ar_shl (by omega), ar_or]) (nm_r (nI_1 j) (ih (j + 1) _ (by omega) (fun b => ?_))))) (fun r => br_t rfl (nm_r (nI_1 j) (nx (fun z => r z.2)))))) (fun zs => br_t rfl (nm_r (nI_1 j) (nx (fun z => zs z.1))))))
    rw [ar_ob_tb, ht]
    constructor
    · rintro ((x | ⟨x, y⟩) | rfl)
      · exact Or.inl x
      · exact Or.inr ⟨by omega, y⟩
      · exact Or.inr ⟨by omega, zs, r⟩
    · rintro (x | ⟨x, y⟩)
      · exact Or.inl (Or.inl x)
      · by_cases e : j = b
        · exact Or.inr e
        · exact Or.inl (Or.inr ⟨by omega, y⟩)
theorem yb_at_4 (K : ar_OK n p (ar_R p (ar_g yh))) {s : Nat} (hs : s < 2 ^ 31) {post : Int32 → Prop} (h : post (nI (ar_at n (ar_R p (ar_g yh)) s))) :
    ∀ d a t, a + d = n → (∀ b, t.testBit b = true ↔ ∃ a', a' < a ∧ s.testBit a' = true ∧ ar_R p (ar_g yh) a' b) → wY_attacked_4 post (nI s) (nI n) (nI p) yh yp ya yc yr (d + 1) (nI t) (nI a) := by
  have n8 := K.2.1
  intro d
  induction d with
  | zero =>
    intro a t ha ht
    have e : t = ar_at n (ar_R p (ar_g yh)) s := by
      apply ar_ext
      intro b
      rw [ht, ar_at_tb K]
      exact ⟨fun ⟨a', _, y⟩ => ⟨a', y⟩, fun ⟨a', x, y⟩ => ⟨a', by have := (ar_RL K y).1; omega, x, y⟩⟩
    exact br_t (nI_le (by omega) (by omega)) (e ▸ h)
  | succ d ih =>
    intro a t ha ht
    exact br_f (nI_ge (by omega) (by omega)) (br_f (nI_ge (b := 8) (by omega) (by decide)) (Exists.intro (n + 1) (yb_at_21 n8 K.2.2.1 hs (by omega) (fun t' ht' => ih (a + 1) t' (by omega) ht') n 0 t (by omega) (fun b => (ht b).trans ⟨Or.inl, fun z => z.elim id (fun y => absurd y.1 (Nat.not_lt_zero b))⟩))))
theorem yb_attacked (K : ar_OK n p (ar_R p (ar_g yh))) {s : Nat} (hs : s < 2 ^ 31) {post : Int32 → Prop} (h : post (nI (ar_at n (ar_R p (ar_g yh)) s))) : wpY_attacked post (nI n, nI p, yh, yp, ya, yc, yr) (nI s) :=
  Exists.intro (n + 1) (yb_at_4 K hs h n 0 0 (by omega) (fun b => ⟨fun z => absurd z ar_0_tb, fun ⟨a, x, _⟩ => absurd x (Nat.not_lt_zero a)⟩))
theorem yb_df_33 (n8 : n ≤ 8) (bp : p < 2 ^ n) {w a : Nat} (hw : w < 2 ^ 31) (ha : a < n) {post : Int32 → Prop} {J : Int32 → Int32 → Prop}
    (h : ∀ t, t < 2 ^ 31 → (∀ b, t.testBit b = true ↔ p.testBit b = true ∧ ∀ a', a' < a + 1 → ar_R p (ar_g yh) a' b → w.testBit a' = true) → J (nI t) (nI (a + 1))) :
    ∀ d j t, j + d = n → t < 2 ^ 31 → (∀ b, t.testBit b = true ↔ (p.testBit b = true ∧ ∀ a', a' < a → ar_R p (ar_g yh) a' b → w.testBit a' = true) ∧ (b < j → ar_R p (ar_g yh) a b → w.testBit a = true)) → wY_defends_33 post J (nI w) (nI a) (nI n) (nI p) yh yp ya yc yr (d + 1) (nI t) (nI j) := by
  intro d
  induction d with
  | zero =>
    intro j t hj t31 ht
    refine br_t (nI_le (by omega) (by omega)) (nm_r (nI_1 a) (h t t31 (fun b => (ht b).trans ?_)))
    constructor
    · rintro ⟨⟨x, y⟩, z⟩
      refine ⟨x, fun a' ha' r => ?_⟩
      by_cases e : a' = a
      · subst e
        exact z (by have := ar_hi bp r.2.1; omega) r
      · exact y a' (by omega) r
    · rintro ⟨x, y⟩
      exact ⟨⟨x, fun a' ha' => y a' (by omega)⟩, fun _ => y a (by omega)⟩
  | succ d ih =>
    intro j t hj t31 ht
    have nx : (ar_R p (ar_g yh) a j → w.testBit a = true) → wY_defends_33 post J (nI w) (nI a) (nI n) (nI p) yh yp ya yc yr (d + 1) (nI t) (nI (j + 1)) := by
      intro z
      refine ih (j + 1) t (by omega) t31 (fun b => (ht b).trans (and_congr Iff.rfl ?_))
      constructor
      · intro x hb r
        by_cases e : b = j
        · exact z (e ▸ r)
        · exact x (by omega) r
      · intro x hb
        exact x (by omega)
    refine br_f (nI_ge (by omega) (by omega)) (br_f (nI_ge (b := 8) (by omega) (by decide)) (yb_strikes n8 bp ha (by omega) (fun r => br_f ar_n10 (yb_in hw (by omega) (fun zs => br_f ar_n10 (nm_r (nI_1 j) (nx (fun _ => zs)))) (fun zs => br_t rfl (nm_r (e' := nI (ar_dif t (2 ^ j))) (by rw [ar_shl (by omega), ar_andn _ t31]) (nm_r (nI_1 j) (ih (j + 1) _ (by omega) (ar_dif_lt t31) (fun b => ?_))))))) (fun r => br_t rfl (nm_r (nI_1 j) (nx (fun z => absurd z r))))))
    rw [ar_dif_tb, ht, ar_pow_tb]
    constructor
    · rintro ⟨⟨x, y⟩, z⟩
      exact ⟨x, fun hb => y (by omega)⟩
    · rintro ⟨x, y⟩
      exact ⟨⟨x, fun hb => y (by omega)⟩, fun e => zs (y (by omega) (e ▸ r))⟩
theorem yb_df_14 (K : ar_OK n p (ar_R p (ar_g yh))) {s : Nat} {post : Int32 → Prop} (h : post (nI (ar_df n p (ar_R p (ar_g yh)) s))) :
    ∀ d a t, a + d = n → t < 2 ^ 31 → (∀ b, t.testBit b = true ↔ p.testBit b = true ∧ ∀ a', a' < a → ar_R p (ar_g yh) a' b → (ar_at n (ar_R p (ar_g yh)) s).testBit a' = true) → wY_defends_14 post (nI (ar_at n (ar_R p (ar_g yh)) s)) (nI n) (nI p) yh yp ya yc yr (d + 1) (nI t) (nI a) := by
  have n8 := K.2.1
  intro d
  induction d with
  | zero =>
    intro a t ha t31 ht
    have e : t = ar_df n p (ar_R p (ar_g yh)) s := by
      apply ar_ext
      intro b
      rw [ht, ar_df_tb K]
      exact and_congr_right fun _ => ⟨fun z a' r => z a' (by have := (ar_RL K r).1; omega) r, fun z a' _ r => z a' r⟩
    exact br_t (nI_le (by omega) (by omega)) (e ▸ h)
  | succ d ih =>
    intro a t ha t31 ht
    exact br_f (nI_ge (by omega) (by omega)) (br_f (nI_ge (b := 8) (by omega) (by decide)) (Exists.intro (n + 1) (yb_df_33 n8 K.2.2.1 (ar_31 K (ar_at_lt s)) (by omega) (fun t' l' ht' => ih (a + 1) t' (by omega) l' ht') n 0 t (by omega) t31 (fun b => (ht b).trans ⟨fun z => ⟨z, fun q => absurd q (Nat.not_lt_zero b)⟩, fun z => z.1⟩))))
theorem yb_defends (K : ar_OK n p (ar_R p (ar_g yh))) {s : Nat} (hs : s < 2 ^ 31) {post : Int32 → Prop} (h : post (nI (ar_df n p (ar_R p (ar_g yh)) s))) : wpY_defends post (nI n, nI p, yh, yp, ya, yc, yr) (nI s) :=
  yb_attacked K hs (Exists.intro (n + 1) (yb_df_14 K h n 0 p (by omega) (ar_p31 K) (fun b => ⟨fun z => ⟨z, fun a q => absurd q (Nat.not_lt_zero a)⟩, fun z => z.1⟩)))
theorem yb_part {post : Int32 → Prop} {a b : Nat} {u v : Int32} (ha : a < 2 ^ 31) (h1 : ar_sb a b → post 1) (h0 : ¬ ar_sb a b → post 0) : wpY_part post (u, v, yh, yp, ya, yc, yr) (nI a) (nI b) := ar_if (ar_and_e b ha) h1 h0
theorem yb_pp {post : Int32 → Prop} {a b : Nat} {u v : Int32} (ha : a < 2 ^ 31) (hb : b < 2 ^ 31) (h1 : ar_pp a b → post 1) (h0 : ¬ ar_pp a b → post 0) : wpY_properPart post (u, v, yh, yp, ya, yc, yr) (nI a) (nI b) :=
  ar_if (nI_eq ha hb) (fun e => h0 (fun z => z.1 e)) (fun e => yb_part ha (fun s => br_f ar_n10 (h1 ⟨e, s⟩)) (fun s => br_t rfl (h0 (fun z => s z.2))))
theorem yt_101 {J : Int32 → (Nat → Int32) → (Nat → Int32) → (Nat → Int32) → (Nat → Int32) → (Nat → Int32) → Prop} {post : SY → Prop} {s w : Nat} {A : Prop} (hs : s < 256) (hw : w < 2 ^ 31)
    (h : J (nI (s + 1)) yh yp (upd ya s (ar_fv A)) (upd yc s (ar_fv (A ∧ ar_sb w s))) yr) : wY_tabulate_101 post J (nI s) (nI w) (ar_fv A) (nI s) (nI n) (nI p) yh yp ya yc yr := by
  have i : vp_in (nI s) 256 := vp_in_nI hs (by decide)
  have es : (nI s).toNatClampNeg = s := ar_cl s (by omega)
  refine And.intro i (nm_r (e' := upd ya s (ar_fv A)) (by rw [es, ar_nb]) (And.intro i ?_))
  rw [es, pk_us]
  by_cases hA : A
  · refine br_f (ar_fv_n hA) (yb_part hw (fun z => br_f ar_n10 (And.intro i (nm_e (nm_r (nI_1 s) ?_)))) (fun z => br_t rfl (And.intro i (nm_e (nm_r (nI_1 s) ?_)))))
    · rw [ar_fv_t (P := A ∧ ar_sb w s) ⟨hA, z⟩] at h
      exact h
    · rw [ar_fv_f (P := A ∧ _) (fun q => z q.2)] at h
      exact h
  · refine br_t (ar_fv_f hA) (And.intro i (nm_e (nm_r (nI_1 s) ?_)))
    rw [ar_fv_f (P := A ∧ _) (fun q => hA q.1)] at h
    exact h
theorem yt_62 {J : Int32 → (Nat → Int32) → (Nat → Int32) → (Nat → Int32) → (Nat → Int32) → (Nat → Int32) → Prop} {post : SY → Prop} {s t w : Nat} {P : Prop} (hs : s < 256) (hw : w < 2 ^ 31)
    (h : J (nI (s + 1)) yh (upd yp s (ar_fv P)) (upd ya s (ar_fv (P ∧ ar_sb s w))) (upd yc s (ar_fv ((P ∧ ar_sb s w) ∧ ar_sb w s))) (upd yr s (nI (s ||| t)))) : wY_tabulate_62 post J (nI s) (nI t) (nI w) (ar_fv P) (nI s) (nI n) (nI p) yh yp ya yc yr := by
  have i : vp_in (nI s) 256 := vp_in_nI hs (by decide)
  have es : (nI s).toNatClampNeg = s := ar_cl s (by omega)
  refine And.intro i (nm_r (e' := upd yp s (ar_fv P)) (by rw [es, ar_nb]) (And.intro i (nm_r (e' := upd yr s (nI (s ||| t))) (by rw [es, ar_or]) (And.intro i ?_))))
  rw [es, pk_us]
  have k := yt_101 (post := post) (n := n) (p := p) hs hw h
  by_cases hP : P
  · refine br_f (ar_fv_n hP) (yb_part (by omega) (fun z => br_f ar_n10 ?_) (fun z => br_t rfl ?_))
    · rw [ar_fv_t (P := P ∧ ar_sb s w) ⟨hP, z⟩] at k
      exact k
    · rw [ar_fv_f (P := P ∧ ar_sb s w) (fun q => z q.2)] at k
      exact k
  · refine br_t (ar_fv_f hP) ?_
    rw [ar_fv_f (P := P ∧ ar_sb s w) (fun q => hP q.1)] at k
    exact k
theorem ar_2n (n8 : n ≤ 8) : (1 : Int32) <<< (nI n &&& 31) = nI (2 ^ n) := ar_shl (by omega)
theorem yt_2 (K : ar_OK n p (ar_R p (ar_g yh))) {post : SY → Prop} (h : ∀ yp ya yc yr, ar_T n p (ar_R p (ar_g yh)) yp ya yc yr → post (nI n, nI p, yh, yp, ya, yc, yr)) :
    ∀ d s yp ya yc yr, s + d = 2 ^ n → (∀ t, t < s → yp t = ar_fv (ar_pf p (ar_R p (ar_g yh)) t) ∧ ya t = ar_fv (ar_ad n p (ar_R p (ar_g yh)) t) ∧ yc t = ar_fv (ar_cp n p (ar_R p (ar_g yh)) t) ∧ yr t = nI (ar_rc n (ar_R p (ar_g yh)) t)) →
      wY_tabulate_2 post (nI n) (nI p) (d + 1) (nI s) yh yp ya yc yr := by
  have n8 := K.2.1
  have b8 := ar_p8 n8
  intro d
  induction d with
  | zero =>
    intro s yp ya yc yr hs ht
    refine br_t ?_ (h yp ya yc yr (fun t ht' => ht t (by omega)))
    rw [ar_2n n8]
    exact nI_le (by omega) (by omega)
  | succ d ih =>
    intro s yp ya yc yr hs ht
    have bs : s < 2 ^ n := by omega
    have b31 := ar_31 K bs
    have pfe : ar_pf p (ar_R p (ar_g yh)) s ↔ ar_sb s p ∧ ar_dj (ar_at n (ar_R p (ar_g yh)) s) s := by
      refine and_congr_right fun _ => ⟨fun z i x y => ?_, fun z a b x y r => z b ((ar_at_tb K s b).mpr ⟨a, x, r⟩) y⟩
      obtain ⟨a, ha, r⟩ := (ar_at_tb K s i).mp x
      exact z a i ha y r
    have k := yt_62 (post := post) (J := wY_tabulate_2 post (nI n) (nI p) (d + 1)) (yh := yh) (yp := yp) (ya := ya) (yc := yc) (yr := yr) (n := n) (p := p) (s := s) (t := ar_at n (ar_R p (ar_g yh)) s) (w := ar_df n p (ar_R p (ar_g yh)) s) (P := ar_pf p (ar_R p (ar_g yh)) s) (by omega) (ar_31 K (ar_df_lt s)) (ih (s + 1) _ _ _ _ (by omega) (fun t ht' => by
      by_cases e : t = s
      · subst e
        exact ⟨pk_us, pk_us, pk_us, pk_us⟩
      · rw [pk_un e, pk_un e, pk_un e, pk_un e]
        exact ht t (by omega)))
    refine br_f ?_ (br_f (nI_ge (b := 256) (by omega) (by decide)) (yb_part b31 (fun z1 => yb_attacked K b31 (yb_defends K b31 (br_f ar_n10 (ar_if (ar_and_z s (ar_31 K (ar_at_lt s))) (fun z2 => ?_) (fun z2 => ?_))))) (fun z1 => yb_attacked K b31 (yb_defends K b31 (br_t rfl ?_)))))
    · rw [ar_2n n8]
      exact nI_ge (by omega) (by omega)
    · rw [ar_fv_t (pfe.mpr ⟨z1, z2⟩)] at k
      exact k
    · rw [ar_fv_f (fun z => z2 (pfe.mp z).2)] at k
      exact k
    · rw [ar_fv_f (fun z => z1 (pfe.mp z).1)] at k
      exact k
theorem yb_tabulate (K : ar_OK n p (ar_R p (ar_g yh))) {post : SY → Prop} (h : ∀ yp ya yc yr, ar_T n p (ar_R p (ar_g yh)) yp ya yc yr → post (nI n, nI p, yh, yp, ya, yc, yr)) : wpY_tabulate post (nI n, nI p, yh, yp, ya, yc, yr) :=
  Exists.intro (2 ^ n + 1) (yt_2 K h (2 ^ n) 0 yp ya yc yr (by omega) (fun t ht => absurd ht (Nat.not_lt_zero t)))
end
end
section
/-! whether a set is of a kind, by the tables -/
/-- t speaks against s as a set of the kind -/
def yo_V (n p : Nat) (R : Nat → Nat → Prop) (k s t : Nat) : Prop := (k = 2 ∧ ar_ad n p R t ∧ ar_pp s t) ∨ (k = 4 ∧ ar_pf p R t ∧ ar_pp (ar_rc n R s) (ar_rc n R t)) ∨ (k = 5 ∧ ar_cp n p R t ∧ ar_pp (ar_rc n R s) (ar_rc n R t))
theorem ar_ki {k j : Nat} (hk : k < 6) (hj : j < 6) : nI k = nI j ↔ k = j := nI_eq (by omega) (by omega)
section
variable {n p : Nat} {R : Nat → Nat → Prop} {yh yp ya yc yr : Nat → Int32}
theorem yo_183 (K : ar_OK n p R) (T : ar_T n p R yp ya yc yr) {k s t : Nat} (hk : k < 6) (hs : s < 2 ^ n) (ht : t < 2 ^ n) {post : Int32 → Prop} {J : Int32 → Prop} (h0 : yo_V n p R k s t → post 0) (hJ : (k = 5 → ¬ yo_V n p R k s t) → J (nI (t + 1))) : wY_of_183 post J (nI k) (nI s) (nI t) (nI n) (nI p) yh yp ya yc yr := by
  have bs := ar_256 K hs
  have bt := ar_256 K ht
  have is : vp_in (nI s) 256 := vp_in_nI bs (by decide)
  have it : vp_in (nI t) 256 := vp_in_nI bt (by decide)
  have es : (nI s).toNatClampNeg = s := ar_cl s (by omega)
  have et : (nI t).toNatClampNeg = t := ar_cl t (by omega)
  have Ts := T s hs
  have Tt := T t ht
  unfold wY_of_183
  rw [es, et, Ts.2.2.2, Tt.2.2.2, Tt.2.2.1]
  refine ar_if (ar_ki (j := 5) hk (by decide)) (fun e => And.intro it ?_) (fun e => nm_r (nI_1 t) (hJ (fun z => absurd z e)))
  by_cases hc : ar_cp n p R t
  · exact br_f (ar_fv_n hc) (And.intro is (And.intro it (yb_pp (ar_31 K (ar_rc_lt hs)) (ar_31 K (ar_rc_lt ht)) (fun z => br_f ar_n10 (h0 (Or.inr (Or.inr ⟨e, hc, z⟩)))) (fun z => br_t rfl (nm_r (nI_1 t) (hJ (fun _ y => y.elim (fun q => absurd (e ▸ q.1) (by decide)) (fun q => q.elim (fun q => absurd (e ▸ q.1) (by decide)) (fun q => z q.2.2)))))))))
  · exact br_t (ar_fv_f hc) (nm_r (nI_1 t) (hJ (fun _ y => y.elim (fun q => absurd (e ▸ q.1) (by decide)) (fun q => q.elim (fun q => absurd (e ▸ q.1) (by decide)) (fun q => hc q.2.1)))))
theorem yo_148 (K : ar_OK n p R) (T : ar_T n p R yp ya yc yr) {k s t : Nat} (hk : k < 6) (hs : s < 2 ^ n) (ht : t < 2 ^ n) {post : Int32 → Prop} {J : Int32 → Prop} (h0 : yo_V n p R k s t → post 0) (hJ : (k = 5 ∨ k = 4 → ¬ yo_V n p R k s t) → J (nI (t + 1))) : wY_of_148 post J (nI k) (nI s) (nI t) (nI n) (nI p) yh yp ya yc yr := by
  have bs := ar_256 K hs
  have bt := ar_256 K ht
  have is : vp_in (nI s) 256 := vp_in_nI bs (by decide)
  have it : vp_in (nI t) 256 := vp_in_nI bt (by decide)
  have es : (nI s).toNatClampNeg = s := ar_cl s (by omega)
  have et : (nI t).toNatClampNeg = t := ar_cl t (by omega)
  have Ts := T s hs
  have Tt := T t ht
  unfold wY_of_148
  rw [es, et, Ts.2.2.2, Tt.2.2.2, Tt.1]
  have nx : (k = 4 → ¬ yo_V n p R k s t) → wY_of_183 post J (nI k) (nI s) (nI t) (nI n) (nI p) yh yp ya yc yr := fun z => yo_183 K T hk hs ht h0 (fun y => hJ (fun q => q.elim y z))
  refine ar_if (ar_ki (j := 4) hk (by decide)) (fun e => And.intro it ?_) (fun e => nx (fun z => absurd z e))
  by_cases hc : ar_pf p R t
  · exact br_f (ar_fv_n hc) (And.intro is (And.intro it (yb_pp (ar_31 K (ar_rc_lt hs)) (ar_31 K (ar_rc_lt ht)) (fun z => br_f ar_n10 (h0 (Or.inr (Or.inl ⟨e, hc, z⟩)))) (fun z => br_t rfl (nx (fun _ y => y.elim (fun q => absurd (e ▸ q.1) (by decide)) (fun q => q.elim (fun q => z q.2.2) (fun q => absurd (e ▸ q.1) (by decide)))))))))
  · exact br_t (ar_fv_f hc) (nx (fun _ y => y.elim (fun q => absurd (e ▸ q.1) (by decide)) (fun q => q.elim (fun q => hc q.2.1) (fun q => absurd (e ▸ q.1) (by decide)))))
theorem yo_106 (K : ar_OK n p R) (T : ar_T n p R yp ya yc yr) {k s : Nat} (hk : k = 2 ∨ k = 4 ∨ k = 5) (hs : s < 2 ^ n) {post : Int32 → Prop} (h0 : (∃ t, yo_V n p R k s t) → post 0) (h1 : (∀ t, t < 2 ^ n → ¬ yo_V n p R k s t) → post 1) :
    ∀ d t, t + d = 2 ^ n → (∀ u, u < t → ¬ yo_V n p R k s u) → wY_of_106 post (nI k) (nI s) (nI n) (nI p) yh yp ya yc yr (d + 1) (nI t) := by
  have n8 := K.2.1
  have b8 := ar_p8 n8
  have k6 : k < 6 := by omega
  intro d
  induction d with
  | zero =>
    intro t ht hz
    refine br_t ?_ (h1 (fun u hu => hz u (by omega)))
    rw [ar_2n n8]
    exact nI_le (by omega) (by omega)
  | succ d ih =>
    intro t ht hz
    have bt : t < 2 ^ n := by omega
    have it : vp_in (nI t) 256 := vp_in_nI (by omega) (by decide)
    have et : (nI t).toNatClampNeg = t := ar_cl t (by omega)
    have nx : (k = 2 → ¬ yo_V n p R k s t) → wY_of_148 post (wY_of_106 post (nI k) (nI s) (nI n) (nI p) yh yp ya yc yr (d + 1)) (nI k) (nI s) (nI t) (nI n) (nI p) yh yp ya yc yr := by
      intro z
      refine yo_148 K T k6 hs bt (fun y => h0 ⟨t, y⟩) (fun y => ih (t + 1) (by omega) (fun u hu => ?_))
      by_cases e : u = t
      · subst e
        rcases hk with q | q | q
        · exact z q
        · exact y (Or.inr q)
        · exact y (Or.inl q)
      · exact hz u (by omega)
    rw [wY_of_106]
    dsimp only
    rw [et, (T t bt).2.1, ar_2n n8]
    refine br_f (nI_ge (by omega) (by omega)) (br_f (nI_ge (b := 256) (by omega) (by decide)) (ar_if (ar_ki (j := 2) k6 (by decide)) (fun e => And.intro it ?_) (fun e => nx (fun z => absurd z e))))
    by_cases hc : ar_ad n p R t
    · exact br_f (ar_fv_n hc) (yb_pp (ar_31 K hs) (ar_31 K bt) (fun z => br_f ar_n10 (h0 ⟨t, Or.inl ⟨e, hc, z⟩⟩)) (fun z => br_t rfl (nx (fun _ y => y.elim (fun q => z q.2.2) (fun q => q.elim (fun q => absurd (e ▸ q.1) (by decide)) (fun q => absurd (e ▸ q.1) (by decide)))))))
    · exact br_t (ar_fv_f hc) (nx (fun _ y => y.elim (fun q => hc q.2.1) (fun q => q.elim (fun q => absurd (e ▸ q.1) (by decide)) (fun q => absurd (e ▸ q.1) (by decide)))))
theorem yb_of (K : ar_OK n p R) (T : ar_T n p R yp ya yc yr) {k s : Nat} (hk : k < 6) (hs : s < 2 ^ n) {post : Int32 → Prop} (h1 : ar_K n p R k s → post 1) (h0 : ¬ ar_K n p R k s → post 0) : wpY_of post (nI n, nI p, yh, yp, ya, yc, yr) (nI k) (nI s) := by
  have bs := ar_256 K hs
  have is : vp_in (nI s) 256 := vp_in_nI bs (by decide)
  have es : (nI s).toNatClampNeg = s := ar_cl s (by omega)
  obtain ⟨T1, T2, T3, T4⟩ := T s hs
  have hfv : ∀ P : Prop, (P → post 1) → (¬ P → post 0) → post (ar_fv P) := by
    intro P a b
    by_cases z : P
    · rw [ar_fv_t z]; exact a z
    · rw [ar_fv_f z]; exact b z
  have lp : ∀ (_ : k = 2 ∨ k = 4 ∨ k = 5), ((∃ t, yo_V n p R k s t) → post 0) → ((∀ t, t < 2 ^ n → ¬ yo_V n p R k s t) → post 1) → ∃ n106 : Nat, wY_of_106 post (nI k) (nI s) (nI n) (nI p) yh yp ya yc yr n106 0 :=
    fun hk h0 h1 => ⟨2 ^ n + 1, yo_106 K T hk hs h0 h1 (2 ^ n) 0 (by omega) (fun u hu => absurd hu (Nat.not_lt_zero u))⟩
  unfold wpY_of
  dsimp only
  rw [es, T1, T2, T3, T4]
  match k, hk with
  | 0, _ => exact br_t rfl (And.intro is (And.intro (ar_nw _) (hfv _ h1 h0)))
  | 1, _ => exact br_f (by decide) (br_t rfl (And.intro is (And.intro (ar_nw _) (hfv _ h1 h0))))
  | 3, _ =>
    refine br_f (by decide) (br_f (by decide) (br_t rfl (And.intro is ?_)))
    by_cases z : ar_pf p R s
    · exact br_f (ar_fv_n z) (And.intro is (ar_if (nI_eq (ar_31 K (ar_rc_lt hs)) (ar_p31 K)) (fun e => h1 ⟨z, e⟩) (fun e => h0 (fun q => e q.2))))
    · exact br_t (ar_fv_f z) (h0 (fun q => z q.1))
  | 2, _ =>
    refine br_f (by decide) (br_f (by decide) (br_f (by decide) (br_t rfl (And.intro is ?_))))
    by_cases z : ar_ad n p R s
    · refine br_f (ar_fv_n z) (br_f (by decide) (br_f (by decide) (lp (Or.inl rfl) ?_ ?_)))
      · rintro ⟨t, q | q | q⟩
        · exact h0 (fun y => y.2 t q.2.1 q.2.2)
        · exact absurd q.1 (by decide)
        · exact absurd q.1 (by decide)
      · intro q
        exact h1 ⟨z, fun t ht y => q t (ar_pf_lt K ht.1) (Or.inl ⟨rfl, ht, y⟩)⟩
    · exact br_t (ar_fv_f z) (h0 (fun q => z q.1))
  | 4, _ =>
    refine br_f (by decide) (br_f (by decide) (br_f (by decide) (br_f (by decide) ?_)))
    unfold wY_of_72
    rw [es, T1]
    refine br_t rfl (And.intro is ?_)
    by_cases z : ar_pf p R s
    · refine br_f (ar_fv_n z) (br_f (by decide) (lp (Or.inr (Or.inl rfl)) ?_ ?_))
      · rintro ⟨t, q | q | q⟩
        · exact absurd q.1 (by decide)
        · exact h0 (fun y => y.2 t q.2.1 q.2.2)
        · exact absurd q.1 (by decide)
      · intro q
        exact h1 ⟨z, fun t ht y => q t (ar_pf_lt K ht) (Or.inr (Or.inl ⟨rfl, ht, y⟩))⟩
    · exact br_t (ar_fv_f z) (h0 (fun q => z q.1))
  | 5, _ =>
    refine br_f (by decide) (br_f (by decide) (br_f (by decide) (br_f (by decide) (br_f (by decide) ?_))))
    unfold wY_of_88
    rw [es, T3]
    refine br_t rfl (And.intro is ?_)
    by_cases z : ar_cp n p R s
    · refine br_f (ar_fv_n z) (lp (Or.inr (Or.inr rfl)) ?_ ?_)
      · rintro ⟨t, q | q | q⟩
        · exact absurd q.1 (by decide)
        · exact absurd q.1 (by decide)
        · exact h0 (fun y => y.2 t q.2.1 q.2.2)
      · intro q
        exact h1 ⟨z, fun t ht y => q t (ar_pf_lt K ht.1.1) (Or.inr (Or.inr ⟨rfl, ht, y⟩))⟩
    · exact br_t (ar_fv_f z) (h0 (fun q => z q.1))
/-! the least complete set -/
theorem yl_28 (K : ar_OK n p R) (T : ar_T n p R yp ya yc yr) {s : Nat} (hs : s < 2 ^ n) {post : Int32 → Prop} {J : Int32 → Prop} (h1 : ar_G n p R s → post (nI s)) (hJ : ¬ ar_G n p R s → J (nI (s + 1))) :
    ∀ d t, t + d = 2 ^ n → wY_least_28 post J (nI s) (nI n) (nI p) yh yp ya yc yr (d + 1) (ar_fv (ar_cp n p R s ∧ ∀ u, u < t → ar_cp n p R u → ar_sb s u)) (nI t) := by
  have n8 := K.2.1
  have b8 := ar_p8 n8
  intro d
  induction d with
  | zero =>
    intro t ht
    have e : (ar_cp n p R s ∧ ∀ u, u < t → ar_cp n p R u → ar_sb s u) ↔ ar_G n p R s := and_congr_right fun _ => ⟨fun z u hu => z u (by have := ar_pf_lt K hu.1.1; omega) hu, fun z u _ hu => z u hu⟩
    refine br_t ?_ ?_
    · rw [ar_2n n8]
      exact nI_le (by omega) (by omega)
    · by_cases z : ar_cp n p R s ∧ ∀ u, u < t → ar_cp n p R u → ar_sb s u
      · exact br_f (ar_fv_n z) (h1 (e.mp z))
      · exact br_t (ar_fv_f z) (nm_r (nI_1 s) (hJ (fun y => z (e.mpr y))))
  | succ d ih =>
    intro t ht
    have bt : t < 2 ^ n := by omega
    have it : vp_in (nI t) 256 := vp_in_nI (by omega) (by decide)
    have et : (nI t).toNatClampNeg = t := ar_cl t (by omega)
    have st : (ar_cp n p R s ∧ ∀ u, u < t + 1 → ar_cp n p R u → ar_sb s u) = ((ar_cp n p R s ∧ ∀ u, u < t → ar_cp n p R u → ar_sb s u) ∧ (ar_cp n p R t → ar_sb s t)) := by
      refine propext ⟨fun z => ⟨⟨z.1, fun u hu => z.2 u (by omega)⟩, z.2 t (by omega)⟩, fun z => ⟨z.1.1, fun u hu => ?_⟩⟩
      by_cases e : u = t
      · exact e ▸ z.2
      · exact z.1.2 u (by omega)
    have ih2 := ih (t + 1) (by omega)
    rw [st] at ih2
    rw [wY_least_28]
    dsimp only
    rw [et, (T t bt).2.2.1, ar_2n n8]
    refine br_f (nI_ge (by omega) (by omega)) (br_f (nI_ge (b := 256) (by omega) (by decide)) (And.intro it ?_))
    by_cases hc : ar_cp n p R t
    · refine br_f (ar_fv_n hc) (yb_part (ar_31 K hs) (fun z => br_f ar_n10 (nm_r (nI_1 t) ?_)) (fun z => br_t rfl (nm_r (nI_1 t) ?_)))
      · have e : ((ar_cp n p R s ∧ ∀ u, u < t → ar_cp n p R u → ar_sb s u) ∧ (ar_cp n p R t → ar_sb s t)) = (ar_cp n p R s ∧ ∀ u, u < t → ar_cp n p R u → ar_sb s u) := propext ⟨fun q => q.1, fun q => ⟨q, fun _ => z⟩⟩
        rw [e] at ih2
        exact ih2
      · rw [ar_fv_f (P := (ar_cp n p R s ∧ ∀ u, u < t → ar_cp n p R u → ar_sb s u) ∧ (ar_cp n p R t → ar_sb s t)) (fun q => z (q.2 hc))] at ih2
        exact ih2
    · have e : ((ar_cp n p R s ∧ ∀ u, u < t → ar_cp n p R u → ar_sb s u) ∧ (ar_cp n p R t → ar_sb s t)) = (ar_cp n p R s ∧ ∀ u, u < t → ar_cp n p R u → ar_sb s u) := propext ⟨fun q => q.1, fun q => ⟨q, fun z => absurd z hc⟩⟩
      rw [e] at ih2
      exact br_t (ar_fv_f hc) (nm_r (nI_1 t) ih2)
theorem yl_2 (K : ar_OK n p R) (T : ar_T n p R yp ya yc yr) {G : Nat} (hG : ar_G n p R G) {post : Int32 → Prop} (h : post (nI G)) :
    ∀ d s, s + d = G → wY_least_2 post (nI n) (nI p) yh yp ya yc yr (d + 1) (nI s) := by
  have n8 := K.2.1
  have b8 := ar_p8 n8
  have bG := ar_pf_lt K hG.1.1.1
  intro d
  induction d with
  | zero =>
    intro s hs
    have es : s = G := by omega
    subst es
    have q := yl_28 (yh := yh) (post := post) (J := wY_least_2 post (nI n) (nI p) yh yp ya yc yr 0) K T bG (fun _ => h) (fun z => absurd hG z) (2 ^ n) 0 (by omega)
    rw [wY_least_2]
    dsimp only
    rw [ar_cl s (by omega), (T s bG).2.2.1, ar_2n n8]
    refine br_f (nI_ge (by omega) (by omega)) (br_f (nI_ge (b := 256) (by omega) (by decide)) (And.intro (vp_in_nI (by omega) (by decide)) (nm_r (e' := ar_fv (ar_cp n p R s ∧ ∀ u, u < 0 → ar_cp n p R u → ar_sb s u)) ?_ (Exists.intro (2 ^ n + 1) q))))
    exact congrArg ar_fv (propext ⟨fun z => ⟨z, fun u hu => absurd hu (Nat.not_lt_zero u)⟩, fun z => z.1⟩)
  | succ d ih =>
    intro s hs
    have bs : s < 2 ^ n := by omega
    have q := yl_28 (yh := yh) (post := post) (J := wY_least_2 post (nI n) (nI p) yh yp ya yc yr (d + 1)) K T bs (fun z => by have := ar_G_un z hG; omega) (fun _ => ih (s + 1) (by omega)) (2 ^ n) 0 (by omega)
    rw [wY_least_2]
    dsimp only
    rw [ar_cl s (by omega), (T s bs).2.2.1, ar_2n n8]
    refine br_f (nI_ge (by omega) (by omega)) (br_f (nI_ge (b := 256) (by omega) (by decide)) (And.intro (vp_in_nI (by omega) (by decide)) (nm_r (e' := ar_fv (ar_cp n p R s ∧ ∀ u, u < 0 → ar_cp n p R u → ar_sb s u)) ?_ (Exists.intro (2 ^ n + 1) q))))
    exact congrArg ar_fv (propext ⟨fun z => ⟨z, fun u hu => absurd hu (Nat.not_lt_zero u)⟩, fun z => z.1⟩)
theorem yb_least (K : ar_OK n p R) (T : ar_T n p R yp ya yc yr) {G : Nat} (hG : ar_G n p R G) {post : Int32 → Prop} (h : post (nI G)) : wpY_least post (nI n, nI p, yh, yp, ya, yc, yr) :=
  Exists.intro (G + 1) (yl_2 K T hG h G 0 (by omega))
end
end
section
/-! the reference's loops over the sets -/
theorem ar_ct_ab {S : Nat → Prop} {a : Nat} (h : ∀ s, S s → s < a) : ∀ b, a ≤ b → ar_ct S b = ar_ct S a := by
  intro b
  induction b with
  | zero => intro z; rw [Nat.le_zero.mp z]
  | succ b ih =>
    intro z
    rcases Nat.lt_or_ge b a with y | y
    · rw [show a = b + 1 by omega]
    · rw [ar_ct_f (fun q => by have := h b q; omega), ih y]
theorem ar_nm2 {t : Nat} (h : t < 2 ^ 31) : ¬ nI t = -2 := by
  intro z
  have a := nI_pos (n := t) h
  rw [z] at a
  exact a (by decide)
section
variable {n p : Nat} {R : Nat → Nat → Prop} {yh yp ya yc yr : Nat → Int32} {post : Int32 → SY → Prop}
theorem ar_ct_n (K : ar_OK n p R) (k : Nat) : ar_ct (ar_K n p R k) 256 = ar_ct (ar_K n p R k) (2 ^ n) := ar_ct_ab (fun _ h => ar_K_lt K h) 256 (ar_p8 K.2.1)
theorem yb_count_l (K : ar_OK n p R) (T : ar_T n p R yp ya yc yr) {k : Nat} (hk : k < 6) (h : post (nI (ar_ct (ar_K n p R k) 256)) (nI n, nI p, yh, yp, ya, yc, yr)) :
    ∀ d s, s + d = 2 ^ n → wY_count_18 post (nI k) (nI n) (nI p) yh yp ya yc yr (d + 1) (nI (ar_ct (ar_K n p R k) s)) (nI s) := by
  have n8 := K.2.1
  have b8 := ar_p8 n8
  intro d
  induction d with
  | zero =>
    intro s hs
    refine br_t ?_ ?_
    · rw [ar_2n n8]
      exact nI_le (by omega) (by omega)
    · rw [show s = 2 ^ n by omega, ← ar_ct_n K]
      exact h
  | succ d ih =>
    intro s hs
    have ih2 := ih (s + 1) (by omega)
    refine br_f ?_ (yb_of K T hk (by omega) (fun z => br_f ar_n10 (nm_r (nI_1 _) (nm_r (nI_1 s) ?_))) (fun z => br_t rfl (nm_r (nI_1 s) ?_)))
    · rw [ar_2n n8]
      exact nI_ge (by omega) (by omega)
    · rw [ar_ct_t z] at ih2
      exact ih2
    · rw [ar_ct_f z] at ih2
      exact ih2
theorem yb_nth_l (K : ar_OK n p R) (T : ar_T n p R yp ya yc yr) {k : Nat} (hk : k < 6) {v : Int32} (h1 : ∀ s, ar_K n p R k s → v = nI (ar_ct (ar_K n p R k) s) → post (nI s) (nI n, nI p, yh, yp, ya, yc, yr)) (h0 : (∀ s, ar_K n p R k s → ¬ v = nI (ar_ct (ar_K n p R k) s)) → post (-2) (nI n, nI p, yh, yp, ya, yc, yr)) :
    ∀ d s, s + d = 2 ^ n → (∀ t, t < s → ar_K n p R k t → ¬ v = nI (ar_ct (ar_K n p R k) t)) → wY_nth_19 post (nI k) v (nI n) (nI p) yh yp ya yc yr (d + 1) (nI (ar_ct (ar_K n p R k) s)) (nI s) := by
  have n8 := K.2.1
  have b8 := ar_p8 n8
  intro d
  induction d with
  | zero =>
    intro s hs hz
    refine br_t ?_ (h0 (fun t ht => hz t (by have := ar_K_lt K ht; omega) ht))
    rw [ar_2n n8]
    exact nI_le (by omega) (by omega)
  | succ d ih =>
    intro s hs hz
    refine br_f ?_ (yb_of K T hk (by omega) (fun z => br_f ar_n10 (br_c (fun e => h1 s z e.symm) (fun e => nm_r (nI_1 _) (nm_r (nI_1 s) ?_)))) (fun z => br_t rfl (nm_r (nI_1 s) ?_)))
    · rw [ar_2n n8]
      exact nI_ge (by omega) (by omega)
    · have ih2 := ih (s + 1) (by omega) (fun t ht q => by
        by_cases y : t = s
        · exact fun w => e (y ▸ w).symm
        · exact hz t (by omega) q)
      rw [ar_ct_t z] at ih2
      exact ih2
    · have ih2 := ih (s + 1) (by omega) (fun t ht q => by
        by_cases y : t = s
        · exact absurd (y ▸ q) z
        · exact hz t (by omega) q)
      rw [ar_ct_f z] at ih2
      exact ih2
theorem yb_possible_l (K : ar_OK n p R) (T : ar_T n p R yp ya yc yr) {k c : Nat} (hk : k < 6) (hc : c < n) (h1 : (∃ s, ar_K n p R k s ∧ s.testBit c = true) → post 1 (nI n, nI p, yh, yp, ya, yc, yr)) (h0 : (¬ ∃ s, ar_K n p R k s ∧ s.testBit c = true) → post 0 (nI n, nI p, yh, yp, ya, yc, yr)) :
    ∀ d s, s + d = 2 ^ n → (∀ t, t < s → ¬ (ar_K n p R k t ∧ t.testBit c = true)) → wY_possible_27 post (nI k) (nI c) (nI n) (nI p) yh yp ya yc yr (d + 1) (nI s) := by
  have n8 := K.2.1
  have b8 := ar_p8 n8
  intro d
  induction d with
  | zero =>
    intro s hs hz
    refine br_t ?_ (h0 (fun ⟨t, ht, y⟩ => hz t (by have := ar_K_lt K ht; omega) ⟨ht, y⟩))
    rw [ar_2n n8]
    exact nI_le (by omega) (by omega)
  | succ d ih =>
    intro s hs hz
    have nx : ¬ (ar_K n p R k s ∧ s.testBit c = true) → wY_possible_27 post (nI k) (nI c) (nI n) (nI p) yh yp ya yc yr (d + 1) (nI (s + 1)) := by
      intro z
      refine ih (s + 1) (by omega) (fun t ht => ?_)
      by_cases y : t = s
      · exact y ▸ z
      · exact hz t (by omega)
    refine br_f ?_ (yb_in (by omega) (by omega) (fun zc => br_f ar_n10 (yb_of K T hk (by omega) (fun z => br_f ar_n10 (h1 ⟨s, z, zc⟩)) (fun z => br_t rfl (nm_r (nI_1 s) (nx (fun q => z q.1)))))) (fun zc => br_t rfl (nm_r (nI_1 s) (nx (fun q => zc q.2)))))
    rw [ar_2n n8]
    exact nI_ge (by omega) (by omega)
theorem yb_certain_l (K : ar_OK n p R) (T : ar_T n p R yp ya yc yr) {k c : Nat} (hk : k < 6) (hc : c < n) (h1 : (∀ s, ar_K n p R k s → s.testBit c = true) → post 1 (nI n, nI p, yh, yp, ya, yc, yr)) (h0 : (¬ ∀ s, ar_K n p R k s → s.testBit c = true) → post 0 (nI n, nI p, yh, yp, ya, yc, yr)) :
    ∀ d s, s + d = 2 ^ n → (∀ t, t < s → ar_K n p R k t → t.testBit c = true) → wY_certain_27 post (nI k) (nI c) (nI n) (nI p) yh yp ya yc yr (d + 1) (nI s) := by
  have n8 := K.2.1
  have b8 := ar_p8 n8
  intro d
  induction d with
  | zero =>
    intro s hs hz
    refine br_t ?_ (h1 (fun t ht => hz t (by have := ar_K_lt K ht; omega) ht))
    rw [ar_2n n8]
    exact nI_le (by omega) (by omega)
  | succ d ih =>
    intro s hs hz
    have nx : (ar_K n p R k s → s.testBit c = true) → wY_certain_27 post (nI k) (nI c) (nI n) (nI p) yh yp ya yc yr (d + 1) (nI (s + 1)) := by
      intro z
      refine ih (s + 1) (by omega) (fun t ht => ?_)
      by_cases y : t = s
      · exact y ▸ z
      · exact hz t (by omega)
    refine br_f ?_ (yb_in (by omega) (by omega) (fun zc => br_f ar_n10 (nm_r (nI_1 s) (nx (fun _ => zc)))) (fun zc => br_t rfl (yb_of K T hk (by omega) (fun z => br_f ar_n10 (h0 (fun q => zc (q s z)))) (fun z => br_t rfl (nm_r (nI_1 s) (nx (fun q => absurd q z)))))))
    rw [ar_2n n8]
    exact nI_ge (by omega) (by omega)
theorem yb_shared_l (K : ar_OK n p R) (T : ar_T n p R yp ya yc yr) {k : Nat} (hk : k < 6) {post : Int32 → Prop} (h1 : (∃ s, ar_K n p R k s) → post (nI (ar_cm n (ar_K n p R k)))) (h0 : (¬ ∃ s, ar_K n p R k s) → post (-2)) :
    ∀ d s x, s + d = 2 ^ n → ((x = -2 ∧ ∀ t, t < s → ¬ ar_K n p R k t) ∨ (∃ w, x = nI w ∧ w < 2 ^ 31 ∧ (∃ t, ar_K n p R k t) ∧ ∀ i, w.testBit i = true ↔ i < n ∧ ∀ t, t < s → ar_K n p R k t → t.testBit i = true)) → wY_shared_5 post (nI k) (nI n) (nI p) yh yp ya yc yr (d + 1) x (nI s) := by
  have n8 := K.2.1
  have b8 := ar_p8 n8
  intro d
  induction d with
  | zero =>
    intro s x hs hz
    refine br_t ?_ ?_
    · rw [ar_2n n8]
      exact nI_le (by omega) (by omega)
    · rcases hz with ⟨rfl, z⟩ | ⟨w, rfl, _, ex, hw⟩
      · exact h0 (fun ⟨t, ht⟩ => z t (by have := ar_K_lt K ht; omega) ht)
      · have e : w = ar_cm n (ar_K n p R k) := by
          apply ar_ext
          intro i
          unfold ar_cm
          rw [hw, ar_mk_tb]
          exact and_congr_right fun _ => ⟨fun z t _ ht => z t (by have := ar_K_lt K ht; omega) ht, fun z t _ ht => z t (ar_256 K (ar_K_lt K ht)) ht⟩
        exact e ▸ h1 ex
  | succ d ih =>
    intro s x hs hz
    have bs : s < 2 ^ n := by omega
    refine br_f ?_ (yb_of K T hk bs (fun z => br_f ar_n10 ?_) (fun z => br_t rfl (nm_r (nI_1 s) (ih (s + 1) x (by omega) ?_))))
    · rw [ar_2n n8]
      exact nI_ge (by omega) (by omega)
    · rcases hz with ⟨rfl, y⟩ | ⟨w, rfl, l, ex, hw⟩
      · refine br_t rfl (nm_r (nI_1 s) (ih (s + 1) _ (by omega) (Or.inr ⟨s, rfl, by omega, ⟨s, z⟩, fun i => ?_⟩)))
        constructor
        · intro q
          refine ⟨ar_hi bs q, fun t ht hk' => ?_⟩
          by_cases e : t = s
          · exact e ▸ q
          · exact absurd hk' (y t (by omega))
        · intro q
          exact q.2 s (by omega) z
      · refine br_f (ar_nm2 l) (nm_r (nx_and w s) (nm_r (nI_1 s) (ih (s + 1) _ (by omega) (Or.inr ⟨w &&& s, rfl, Nat.lt_of_le_of_lt Nat.and_le_left l, ex, fun i => ?_⟩))))
        rw [ar_and_tb, hw]
        constructor
        · rintro ⟨⟨a, b⟩, q⟩
          refine ⟨a, fun t ht hk' => ?_⟩
          by_cases e : t = s
          · exact e ▸ q
          · exact b t (by omega) hk'
        · rintro ⟨a, b⟩
          exact ⟨⟨a, fun t ht => b t (by omega)⟩, b s (by omega) z⟩
    · rcases hz with ⟨rfl, y⟩ | ⟨w, rfl, l, ex, hw⟩
      · refine Or.inl ⟨rfl, fun t ht => ?_⟩
        by_cases e : t = s
        · exact e ▸ z
        · exact y t (by omega)
      · refine Or.inr ⟨w, rfl, l, ex, fun i => (hw i).trans (and_congr_right fun _ => ⟨fun q t ht hk' => ?_, fun q t ht => q t (by omega)⟩)⟩
        by_cases e : t = s
        · exact absurd (e ▸ hk') z
        · exact q t (by omega) hk'
theorem yb_shared (K : ar_OK n p R) (T : ar_T n p R yp ya yc yr) {k : Nat} (hk : k < 6) {post : Int32 → Prop} (h1 : (∃ s, ar_K n p R k s) → post (nI (ar_cm n (ar_K n p R k)))) (h0 : (¬ ∃ s, ar_K n p R k s) → post (-2)) : wpY_shared post (nI n, nI p, yh, yp, ya, yc, yr) (nI k) :=
  Exists.intro (2 ^ n + 1) (yb_shared_l K T hk h1 h0 (2 ^ n) 0 (-2) (by omega) (Or.inl ⟨rfl, fun t ht => absurd ht (Nat.not_lt_zero t)⟩))
/-! the ideal set -/
theorem yi_53 (K : ar_OK n p R) (T : ar_T n p R yp ya yc yr) {w s : Nat} (hs : s < 2 ^ n) (ad : ar_ad n p R s) (sw : ar_sb s w) {J : Int32 → Prop} (h1 : ar_I n p R w s → post (nI s) (nI n, nI p, yh, yp, ya, yc, yr)) (hJ : ¬ ar_I n p R w s → J (nI s + (-1))) :
    ∀ d t, t + d = 2 ^ n → wY_ideal_53 post J (nI w) (nI s) (nI n) (nI p) yh yp ya yc yr (d + 1) (ar_fv (∀ u, u < t → ar_ad n p R u → ar_sb u w → ar_sb u s)) (nI t) := by
  have n8 := K.2.1
  have b8 := ar_p8 n8
  intro d
  induction d with
  | zero =>
    intro t ht
    have e : (∀ u, u < t → ar_ad n p R u → ar_sb u w → ar_sb u s) ↔ ar_I n p R w s := ⟨fun z => ⟨ad, sw, fun u hu => z u (by have := ar_pf_lt K hu.1; omega) hu⟩, fun z u _ => z.2.2 u⟩
    refine br_t ?_ ?_
    · rw [ar_2n n8]
      exact nI_le (by omega) (by omega)
    · by_cases z : ∀ u, u < t → ar_ad n p R u → ar_sb u w → ar_sb u s
      · exact br_f (ar_fv_n z) (h1 (e.mp z))
      · exact br_t (ar_fv_f z) (nm_e (hJ (fun y => z (e.mpr y))))
  | succ d ih =>
    intro t ht
    have bt : t < 2 ^ n := by omega
    have it : vp_in (nI t) 256 := vp_in_nI (by omega) (by decide)
    have et : (nI t).toNatClampNeg = t := ar_cl t (by omega)
    have st : (∀ u, u < t + 1 → ar_ad n p R u → ar_sb u w → ar_sb u s) = ((∀ u, u < t → ar_ad n p R u → ar_sb u w → ar_sb u s) ∧ (ar_ad n p R t → ar_sb t w → ar_sb t s)) := by
      refine propext ⟨fun z => ⟨fun u hu => z u (by omega), z t (by omega)⟩, fun z u hu => ?_⟩
      by_cases e : u = t
      · exact e ▸ z.2
      · exact z.1 u (by omega)
    have ih2 := ih (t + 1) (by omega)
    rw [st] at ih2
    have sm : (ar_ad n p R t → ar_sb t w → ar_sb t s) → wY_ideal_53 post J (nI w) (nI s) (nI n) (nI p) yh yp ya yc yr (d + 1) (ar_fv (∀ u, u < t → ar_ad n p R u → ar_sb u w → ar_sb u s)) (nI (t + 1)) := by
      intro z
      have e : ((∀ u, u < t → ar_ad n p R u → ar_sb u w → ar_sb u s) ∧ (ar_ad n p R t → ar_sb t w → ar_sb t s)) = (∀ u, u < t → ar_ad n p R u → ar_sb u w → ar_sb u s) := propext ⟨fun q => q.1, fun q => ⟨q, z⟩⟩
      rw [e] at ih2
      exact ih2
    rw [wY_ideal_53]
    dsimp only
    rw [et, (T t bt).2.1, ar_2n n8]
    refine br_f (nI_ge (by omega) (by omega)) (br_f (nI_ge (b := 256) (by omega) (by decide)) (And.intro it ?_))
    by_cases hc : ar_ad n p R t
    · refine br_f (ar_fv_n hc) (yb_part (ar_31 K bt) (fun z1 => br_f ar_n10 (yb_part (ar_31 K bt) (fun z2 => br_f ar_n10 (nm_r (nI_1 t) (sm (fun _ _ => z2)))) (fun z2 => br_t rfl (nm_r (nI_1 t) ?_)))) (fun z1 => br_t rfl (nm_r (nI_1 t) (sm (fun _ y => absurd y z1)))))
      rw [ar_fv_f (P := (∀ u, u < t → ar_ad n p R u → ar_sb u w → ar_sb u s) ∧ (ar_ad n p R t → ar_sb t w → ar_sb t s)) (fun q => z2 (q.2 hc z1))] at ih2
      exact ih2
    · exact br_t (ar_fv_f hc) (nm_r (nI_1 t) (sm (fun y => absurd y hc)))
theorem yi_19 (K : ar_OK n p R) (T : ar_T n p R yp ya yc yr) {w I : Nat} (hI : ar_I n p R w I) (h : post (nI I) (nI n, nI p, yh, yp, ya, yc, yr)) :
    ∀ d, I + d < 2 ^ n → wY_ideal_19 post (nI w) (nI n) (nI p) yh yp ya yc yr (d + 1) (nI (I + d)) := by
  have n8 := K.2.1
  have b8 := ar_p8 n8
  intro d
  induction d with
  | zero =>
    intro hd
    have bI : I < 2 ^ n := hd
    have q := yi_53 (yh := yh) (post := post) (J := wY_ideal_19 post (nI w) (nI n) (nI p) yh yp ya yc yr 0) K T bI hI.1 hI.2.1 (fun _ => h) (fun z => absurd hI z) (2 ^ n) 0 (by omega)
    rw [ar_fv_t (fun u hu => absurd hu (Nat.not_lt_zero u))] at q
    rw [wY_ideal_19]
    dsimp only
    rw [Nat.add_zero, ar_cl I (by omega), (T I bI).2.1]
    exact br_f (nI_pos (by omega)) (br_f (nI_ge (b := 256) (by omega) (by decide)) (And.intro (vp_in_nI (by omega) (by decide)) (br_f (ar_fv_n hI.1) (yb_part (ar_31 K bI) (fun z => br_f ar_n10 (Exists.intro (2 ^ n + 1) q)) (fun z => absurd hI.2.1 z)))))
  | succ d ih =>
    intro hd
    have ih2 := ih (by omega)
    have em : nI (I + (d + 1)) + (-1) = nI (I + d) := pk_m1 (I + d)
    have bs : I + (d + 1) < 2 ^ n := hd
    rw [wY_ideal_19]
    dsimp only
    rw [ar_cl (I + (d + 1)) (by omega), (T _ bs).2.1]
    refine br_f (nI_pos (by omega)) (br_f (nI_ge (b := 256) (by omega) (by decide)) (And.intro (vp_in_nI (by omega) (by decide)) ?_))
    by_cases hc : ar_ad n p R (I + (d + 1))
    · refine br_f (ar_fv_n hc) (yb_part (ar_31 K bs) (fun z => br_f ar_n10 (Exists.intro (2 ^ n + 1) ?_)) (fun z => br_t rfl (nm_r em ih2)))
      have q := yi_53 (yh := yh) (post := post) (J := wY_ideal_19 post (nI w) (nI n) (nI p) yh yp ya yc yr (d + 1)) K T bs hc z (fun y => by have := ar_I_un y hI; omega) (fun _ => em ▸ ih2) (2 ^ n) 0 (by omega)
      rw [ar_fv_t (fun u hu => absurd hu (Nat.not_lt_zero u))] at q
      exact q
    · exact br_t (ar_fv_f hc) (nm_r em ih2)
end
end
section
/-! the component's loops over its lists -/
def ar_bn : Nat → Nat
  | 0 => 256
  | q + 1 => ar_bn q / 2
theorem ar_bn10 : ar_bn 10 = 0 := by decide
theorem ar_ctle {S : Nat → Prop} {a b : Nat} (ha : S a) (hb : S b) (h : ar_ct S a ≤ ar_ct S b) : a ≤ b := by
  rcases Nat.lt_or_ge b a with z | z
  · have := ar_ct_lt hb z
    omega
  · exact z
section
variable {n p : Nat} {R : Nat → Nat → Prop} {cu fi fo fu gs pc : Int32} {gv xh xb ls sz pe hI hO hU pk tn : Nat → Int32} {post : Int32 → SX → Prop}
theorem xa_is_98 {k v l : Nat} (hk : k < 6) {S : Nat → Prop} (hS : ∀ s, S s → s < 256) (L : ar_LS ls sz k S) (hv : v < 2 ^ 31) (h1 : S v → post 1 (nI n, nI p, cu, fi, fo, fu, gs, pc, gv, xh, xb, ls, sz, pe, hI, hO, hU, pk, tn)) (h0 : ¬ S v → post 0 (nI n, nI p, cu, fi, fo, fu, gs, pc, gv, xh, xb, ls, sz, pe, hI, hO, hU, pk, tn))
    (b2 : l ≤ ar_ct S 256) (b4 : ∀ s, S s → (ar_ct S s < l → s < v) ∧ (l ≤ ar_ct S s → v ≤ s)) : wX_is_98 post (nI k) (nI v) (nI l) (nI n) (nI p) cu fi fo fu gs pc gv xh xb ls sz pe hI hO hU pk tn := by
  have c256 := ar_ct_le S 256
  have ek : (nI k).toNatClampNeg = k := ar_cl k (by omega)
  unfold wX_is_98
  rw [ek, L.1, ar_ix, ar_cl (256 * k + l) (by omega)]
  refine And.intro (vp_in_nI hk (by decide)) (ar_if (nI_leI (by omega) (by omega)) (fun z => h0 (fun y => ?_)) (fun z => ?_))
  · have a := ar_ct_lt y (hS v y)
    have b := (b4 v y).1 (by omega)
    omega
  · obtain ⟨s, hs, y, e⟩ := ar_ct_inv (S := S) (m := 256) (j := l) (by omega)
    have ev : ls (256 * k + l) = nI s := e ▸ L.2 s hs y
    rw [ev]
    refine And.intro (vp_in_nI (by omega) (by decide)) (ar_if (nI_eq (by omega) hv) (fun q => h1 (q ▸ y)) (fun q => h0 (fun w => q ?_)))
    have a := (b4 s y).2 (by omega)
    have b : l ≤ ar_ct S v := by
      rcases Nat.lt_or_ge (ar_ct S v) l with u | u
      · have := (b4 v w).1 u
        omega
      · exact u
    have c := ar_ctle y w (by omega)
    omega
theorem xa_is_39 {k v : Nat} (hk : k < 6) {S : Nat → Prop} (hS : ∀ s, S s → s < 256) (L : ar_LS ls sz k S) (hv : v < 2 ^ 31) (h1 : S v → post 1 (nI n, nI p, cu, fi, fo, fu, gs, pc, gv, xh, xb, ls, sz, pe, hI, hO, hU, pk, tn)) (h0 : ¬ S v → post 0 (nI n, nI p, cu, fi, fo, fu, gs, pc, gv, xh, xb, ls, sz, pe, hI, hO, hU, pk, tn)) :
    ∀ d q l h, q + d = 10 → l ≤ h → h ≤ ar_ct S 256 → h - l ≤ ar_bn q → (∀ s, S s → (ar_ct S s < l → s < v) ∧ (h ≤ ar_ct S s → v ≤ s)) → wX_is_39 post (nI k) (nI v) (nI n) (nI p) cu fi fo fu gs pc gv xh xb ls sz pe hI hO hU pk tn (d + 1) (nI l) (nI h) (nI q) := by
  have c256 := ar_ct_le S 256
  intro d
  induction d with
  | zero =>
    intro q l h hq b1 b2 b3 b4
    have e : q = 10 := by omega
    subst e
    rw [ar_bn10] at b3
    have e : h = l := by omega
    subst e
    exact br_t (nI_le (a := 10) (by omega) (by omega)) (xa_is_98 hk hS L hv h1 h0 b2 b4)
  | succ d ih =>
    intro q l h hq b1 b2 b3 b4
    refine br_f (nI_ge (b := 10) (by omega) (by decide)) (ar_if (nI_leI (by omega) (by omega)) (fun z => ?_) (fun z => ?_))
    · have e : h = l := by omega
      subst e
      exact xa_is_98 hk hS L hv h1 h0 b2 b4
    · obtain ⟨s, hs, y, e⟩ := ar_ct_inv (S := S) (m := 256) (j := (l + h) / 2) (by omega)
      have ev : ls (256 * k + (l + h) / 2) = nI s := e ▸ L.2 s hs y
      have b5 : ar_bn (q + 1) = ar_bn q / 2 := rfl
      refine nm_r (e' := nI ((l + h) / 2)) ?_ ?_
      · rw [nI_add]
        exact pk_shrN (by omega) _ 1 (by decide)
      · rw [ar_ix, ar_cl (256 * k + (l + h) / 2) (by omega), ev]
        refine And.intro (vp_in_nI (by omega) (by decide)) (ar_if (nI_leI (by omega) (by omega)) (fun w => nm_r (nI_1 q) (ih (q + 1) l ((l + h) / 2) (by omega) (by omega) (by omega) (by omega) (fun t ht => ⟨(b4 t ht).1, fun u => ?_⟩))) (fun w => nm_r (nI_1 _) (nm_r (nI_1 q) (ih (q + 1) ((l + h) / 2 + 1) h (by omega) (by omega) (by omega) (by omega) (fun t ht => ⟨fun u => ?_, (b4 t ht).2⟩)))))
        · have := ar_ctle y ht (by omega)
          omega
        · have := ar_ctle ht y (by omega)
          omega
theorem xa_is_s {k v : Nat} (hk : k < 6) {S : Nat → Prop} (hS : ∀ s, S s → s < 256) (L : ar_LS ls sz k S) (hv : v < 2 ^ 31) (h1 : S v → post 1 (nI n, nI p, cu, fi, fo, fu, gs, pc, gv, xh, xb, ls, sz, pe, hI, hO, hU, pk, tn)) (h0 : ¬ S v → post 0 (nI n, nI p, cu, fi, fo, fu, gs, pc, gv, xh, xb, ls, sz, pe, hI, hO, hU, pk, tn)) : ∃ n39 : Nat, wX_is_39 post (nI k) (nI v) (nI n) (nI p) cu fi fo fu gs pc gv xh xb ls sz pe hI hO hU pk tn n39 0 (nI (ar_ct S 256)) 0 :=
  ⟨11, xa_is_39 hk hS L hv h1 h0 10 0 0 (ar_ct S 256) (by omega) (by omega) (by omega) (ar_ct_le S 256) (fun s hs => ⟨fun z => absurd z (Nat.not_lt_zero _), fun z => by have := ar_ct_lt hs (hS s hs); omega⟩)⟩
theorem xa_possible_l {k c : Nat} (hk : k < 6) (hc : c < 8) {S : Nat → Prop} (hS : ∀ s, S s → s < 256) (L : ar_LS ls sz k S) (h1 : (∃ s, S s ∧ s.testBit c = true) → post 1 (nI n, nI p, cu, fi, fo, fu, gs, pc, gv, xh, xb, ls, sz, pe, hI, hO, hU, pk, tn)) (h0 : (¬ ∃ s, S s ∧ s.testBit c = true) → post 0 (nI n, nI p, cu, fi, fo, fu, gs, pc, gv, xh, xb, ls, sz, pe, hI, hO, hU, pk, tn)) :
    ∀ d j t, j + d = ar_ct S 256 → t < 256 → (∀ i, t.testBit i = true ↔ ∃ s, S s ∧ ar_ct S s < j ∧ s.testBit i = true) → wX_possible_29 post (nI k) (nI c) (nI n) (nI p) cu fi fo fu gs pc gv xh xb ls sz pe hI hO hU pk tn (d + 1) (nI t) (nI j) := by
  have c256 := ar_ct_le S 256
  have ek : (nI k).toNatClampNeg = k := ar_cl k (by omega)
  intro d
  induction d with
  | zero =>
    intro j t hj ht hb
    have e : t.testBit c = true ↔ ∃ s, S s ∧ s.testBit c = true := by
      rw [hb]
      exact ⟨fun ⟨s, a, _, b⟩ => ⟨s, a, b⟩, fun ⟨s, a, b⟩ => ⟨s, a, by have := ar_ct_lt a (hS s a); omega, b⟩⟩
    refine And.intro (vp_in_nI hk (by decide)) (br_t ?_ ?_)
    · rw [ek, L.1]
      exact nI_le (by omega) (by omega)
    · rw [ar_bit (by omega) (by omega)]
      cases z : t.testBit c
      · exact h0 (fun y => ar_nt z (e.mpr y))
      · exact h1 (e.mp z)
  | succ d ih =>
    intro j t hj ht hb
    obtain ⟨s, hs, y, e⟩ := ar_ct_inv (S := S) (m := 256) (j := j) (by omega)
    have ev : ls (256 * k + j) = nI s := e ▸ L.2 s hs y
    refine And.intro (vp_in_nI hk (by decide)) (br_f ?_ (And.intro ?_ (nm_r (e' := nI (t ||| s)) ?_ (nm_r (nI_1 j) (ih (j + 1) _ (by omega) (Nat.or_lt_two_pow (n := 8) ht hs) (fun i => ?_))))))
    · rw [ek, L.1]
      exact nI_ge (by omega) (by omega)
    · rw [ar_ix]
      exact vp_in_nI (by omega) (by decide)
    · rw [ar_ix, ar_cl (256 * k + j) (by omega), ev, ar_or]
    · rw [ar_or_tb, hb]
      constructor
      · rintro (⟨s', a, b, c⟩ | z)
        · exact ⟨s', a, by omega, c⟩
        · exact ⟨s, y, by omega, z⟩
      · rintro ⟨s', a, b, c⟩
        rcases Nat.lt_or_ge (ar_ct S s') j with u | u
        · exact Or.inl ⟨s', a, u, c⟩
        · exact Or.inr ((ar_ct_inj a y (by omega)) ▸ c)
theorem xa_ideal_l (K : ar_OK n p R) (D : ar_D n R xh xb) {w : Nat} (hw : ar_pf p R w) (h : ∀ s, ar_I n p R w s → post (nI s) (nI n, nI p, cu, fi, fo, fu, gs, pc, gv, xh, xb, ls, sz, pe, hI, hO, hU, pk, tn)) :
    ∀ d i s, i + d = 8 → ar_Ik n p R w i s → wX_ideal_12 post (nI n) (nI p) cu fi fo fu gs pc gv xh xb ls sz pe hI hO hU pk tn (d + 1) (nI s) (nI i) := by
  have bw := ar_pf_lt K hw
  intro d
  induction d with
  | zero =>
    intro i s hi G
    have e : i = 8 := by omega
    subst e
    exact br_t (nI_le (a := 8) (by omega) (by omega)) (h s (ar_Ik_e K hw G))
  | succ d ih =>
    intro i s hi G
    exact br_f (nI_ge (b := 8) (by omega) (by decide)) (xa_defendedBy K D (ar_31 K (ar_sb_lt G.1 bw)) (nm_r (nx_and s _) (nm_r (nI_1 i) (ih (i + 1) _ (by omega) (ar_Ik_s K bw G)))))
theorem ar_cm_tb (K : ar_OK n p R) (k i : Nat) : (ar_cm n (ar_K n p R k)).testBit i = true ↔ i < n ∧ ∀ s, ar_K n p R k s → s.testBit i = true := by
  unfold ar_cm
  rw [ar_mk_tb]
  exact and_congr_right fun _ => ⟨fun z s hs => z s (ar_256 K (ar_K_lt K hs)) hs, fun z s _ hs => z s hs⟩
theorem ar_cm_lt (k : Nat) : ar_cm n (ar_K n p R k) < 2 ^ n := ar_mk_lt _ _
theorem ar_cm_pf (K : ar_OK n p R) : ar_pf p R (ar_cm n (ar_K n p R 2)) := by
  obtain ⟨s, hs⟩ := ar_K2_ex K
  exact ar_pf_sub (ar_K_pf hs) (fun i hi => ((ar_cm_tb K 2 i).mp hi).2 s hs)
end
end
section
/-! the relation; the calls that need no lists -/
theorem ar_kd (v : Int32) (N : Nat) (hN : N < 2 ^ 31) : (v < 0 ∨ nI N ≤ v) ∨ ∃ j : Nat, j < N ∧ v = nI j := by
  rcases pk_ix v hN with h | h | h
  · exact Or.inl (Or.inl h)
  · exact Or.inl (Or.inr h)
  · exact Or.inr h
section
variable {n p : Nat} {yh yp ya yc yr : Nat → Int32} {post : Int32 → Prop}
theorem yb_bad_t {c : Nat} (h8 : n ≤ 8) (h : c < n) (hp : post 0) : wpY_bad post (nI n, nI p, yh, yp, ya, yc, yr) (nI c) := br_f (nI_pos (by omega)) (br_f (nI_ge h (by omega)) (br_t (nI_lt (b := 8) (by omega) (by decide)) hp))
theorem yb_bad_f {v : Int32} (h : v < 0 ∨ nI n ≤ v) (hp : post 1) : wpY_bad post (nI n, nI p, yh, yp, ya, yc, yr) v := by
  by_cases z : v < 0
  · exact br_t z hp
  · exact br_f z (br_t (h.resolve_left z) hp)
theorem yb_badSet_t {s : Nat} (h8 : n ≤ 8) (h : s < 2 ^ n) (hp : post 0) : wpY_badSet post (nI n, nI p, yh, yp, ya, yc, yr) (nI s) := by
  have b8 := ar_p8 h8
  refine br_f (nI_pos (by omega)) (br_t ?_ hp)
  rw [ar_2n h8]
  exact nI_lt h (by omega)
theorem yb_badSet_f {v : Int32} (h8 : n ≤ 8) (h : v < 0 ∨ nI (2 ^ n) ≤ v) (hp : post 1) : wpY_badSet post (nI n, nI p, yh, yp, ya, yc, yr) v := by
  by_cases z : v < 0
  · exact br_t z hp
  · refine br_f z (br_f ?_ hp)
    rw [ar_2n h8]
    exact Int32.not_lt.mpr (h.resolve_left z)
theorem yb_badKind_t {k : Nat} (h : k < 6) (hp : post 0) : wpY_badKind post (nI n, nI p, yh, yp, ya, yc, yr) (nI k) := br_f (nI_pos (by omega)) (br_t (nI_le (b := 5) (by omega) (by decide)) hp)
theorem yb_badKind_f {v : Int32} (h : v < 0 ∨ nI 6 ≤ v) (hp : post 1) : wpY_badKind post (nI n, nI p, yh, yp, ya, yc, yr) v := by
  by_cases z : v < 0
  · exact br_t z hp
  · exact br_f z (br_f (Int32.not_le.mpr (ar_56 (h.resolve_left z))) hp)
end
/-- what holds of the two states -/
def ar_Fa (n p : Nat) (cu gs : Int32) (gv xh xb ls sz yh : Nat → Int32) : Prop := 2 ≤ n ∧ n ≤ 8 ∧ p < 2 ^ n ∧ ar_gv n (ar_g yh) gv ∧ (¬ cu = 0 → ar_FR n p (ar_R p (ar_g yh)) gs xh xb ls sz)
/-- one number of claims, one set in play, the attacks given alike; and if the component holds its lists for current, they are right -/
def i_Rel (k : Nat) (u : SX) (v : SY) : Prop := match u, v with
  | (f_n, f_inPlay, f_current, _, _, _, f_groundedSet, _, a_given, a_hits, a_hitBy, a_lists, a_sizes, _, _, _, _, _, _), (g_n, g_playing, b_hits, _, _, _, _) => ∃ n p : Nat, f_n = nI n ∧ f_inPlay = nI p ∧ g_n = nI n ∧ g_playing = nI p ∧ ar_Fa n p f_current f_groundedSet a_given a_hits a_hitBy a_lists a_sizes b_hits
theorem i_up {k : Nat} {u : SX} {v : SY} (h : i_Rel k u v) : i_Rel (k + 4) u v := h
theorem ar_el {k : Nat} {u : SX} {v : SY} {P : SX → SY → Prop}
    (h : ∀ (n p : Nat) (cu fi fo fu gs pc : Int32) (gv xh xb ls sz pe hI hO hU pk tn yh yp ya yc yr : Nat → Int32), ar_Fa n p cu gs gv xh xb ls sz yh → P (nI n, nI p, cu, fi, fo, fu, gs, pc, gv, xh, xb, ls, sz, pe, hI, hO, hU, pk, tn) (nI n, nI p, yh, yp, ya, yc, yr)) (I : i_Rel k u v) : P u v := by
  obtain ⟨f_n, f_inPlay, cu, fi, fo, fu, gs, pc, gv, xh, xb, ls, sz, pe, hI, hO, hU, pk, tn⟩ := u
  obtain ⟨g_n, g_p, yh, yp, ya, yc, yr⟩ := v
  obtain ⟨n, p, e1, e2, e3, e4, F⟩ := I
  subst e1 e2 e3 e4
  exact h n p cu fi fo fu gs pc gv xh xb ls sz pe hI hO hU pk tn yh yp ya yc yr F
section
variable {n p : Nat} {cu fi fo fu gs pc : Int32} {gv xh xb ls sz pe hI hO hU pk tn : Nat → Int32} {yh yp ya yc yr : Nat → Int32}
theorem ar_in {k : Nat} (h : ar_Fa n p cu gs gv xh xb ls sz yh) : i_Rel k (nI n, nI p, cu, fi, fo, fu, gs, pc, gv, xh, xb, ls, sz, pe, hI, hO, hU, pk, tn) (nI n, nI p, yh, yp, ya, yc, yr) := Exists.intro n (Exists.intro p (And.intro rfl (And.intro rfl (And.intro rfl (And.intro rfl h)))))
theorem ar_in2 {k : Nat} {cu' : Int32} (h2 : 2 ≤ n) (h8 : n ≤ 8) (hp : p < 2 ^ n) (hg : ar_gv n (ar_g yh) gv) (hf : ar_FR n p (ar_R p (ar_g yh)) gs xh xb ls sz) : i_Rel k (nI n, nI p, cu', fi, fo, fu, gs, pc, gv, xh, xb, ls, sz, pe, hI, hO, hU, pk, tn) (nI n, nI p, yh, yp, ya, yc, yr) := ar_in ⟨h2, h8, hp, hg, fun _ => hf⟩
end
/-! the start -/
theorem ar_mk0 (n : Nat) : ar_mk (ar_g (fun _ => 0) 0) n = 0 := by
  apply ar_ext
  intro i
  rw [ar_mk_tb]
  exact ⟨fun z => absurd rfl z.2, fun z => absurd z ar_0_tb⟩
theorem ar_Fa0 {n : Nat} (h2 : 2 ≤ n) (h8 : n ≤ 8) (gs : Int32) (a b c d : Nat → Int32) : ar_Fa n (2 ^ n - 1) 0 gs (fun _ => 0) a b c d (fun _ => 0) := by
  refine ⟨h2, h8, Nat.sub_lt (Nat.two_pow_pos n) (by decide), fun a _ => ?_, fun z => absurd rfl z⟩
  have e : ar_mk (ar_g (fun _ => 0) a) n = 0 := ar_mk0 n
  rw [e]
  rfl
theorem i_vc0 (k0 : Int32) : wpX_init (fun u => wpY_init (fun v => i_Rel 1 u v) k0) k0 := by
  by_cases h2 : 2 ≤ k0
  · by_cases h8 : k0 ≤ 8
    · obtain ⟨n, hn, rfl⟩ := nI_of2 (x := k0) (M := 8) (n := 8) (by decide) (fun z => absurd (Int32.lt_of_le_of_lt h2 z) (by decide)) h8
      have n2 : 2 ≤ n := (nI_leI (a := 2) (by decide) (by omega)).mp h2
      exact br_t h2 (br_t h8 (nm_r (ar_all hn) (br_t h2 (br_t h8 (nm_r (ar_all hn) (ar_in (ar_Fa0 n2 hn _ _ _ _ _)))))))
    · exact br_t h2 (br_f h8 (nm_r (ar_all (n := 8) (by decide)) (br_t h2 (br_f h8 (nm_r (ar_all (n := 8) (by decide)) (ar_in (ar_Fa0 (by decide) (by decide) _ _ _ _ _)))))))
  · exact br_f h2 (br_t (by decide) (nm_r (ar_all (n := 2) (by decide)) (br_f h2 (nm_r (ar_all (n := 2) (by decide)) (ar_in (ar_Fa0 (by decide) (by decide) _ _ _ _ _))))))
theorem i_vc_claims {k : Nat} {u : SX} {v : SY} (I : i_Rel k u v) (hk : k + 4 ≤ 2049) : wpX_claims (fun r => wpY_claims (fun r' => r' = r ∧ i_Rel (k + 4) u v) v) u := by
  have h4 : i_Rel (k + 4) u v := I
  revert h4
  refine ar_el (P := fun u v => i_Rel (k + 4) u v → wpX_claims (fun r => wpY_claims (fun r' => r' = r ∧ i_Rel (k + 4) u v) v) u) ?_ I
  intro n p cu fi fo fu gs pc gv xh xb ls sz pe hI hO hU pk tn yh yp ya yc yr F h4
  exact And.intro rfl h4
/-! attack, attacks, play -/
theorem ar_idx {a b a' b' : Nat} (hb : b < 8) (hb' : b' < 8) : 8 * a' + b' = 8 * a + b ↔ a' = a ∧ b' = b := by omega
theorem ar_gv_1 {n a b : Nat} {gv yh : Nat → Int32} {w : Int32} (h8 : n ≤ 8) (hb : b < n) (hw : ¬ w = 0) (h : ar_gv n (ar_g yh) gv) : ar_gv n (ar_g (upd yh (8 * a + b) w)) (upd gv a (nI (ar_mk (ar_g yh a) n ||| 2 ^ b))) := by
  intro a' ha'
  by_cases e : a' = a
  · subst e
    rw [pk_us]
    apply congrArg nI
    apply ar_ext
    intro i
    rw [ar_ob_tb, ar_mk_tb, ar_mk_tb]
    unfold ar_g
    by_cases y : i = b
    · subst y
      rw [pk_us]
      exact ⟨fun _ => ⟨hb, hw⟩, fun _ => Or.inr rfl⟩
    · rw [pk_un (by omega)]
      exact ⟨fun z => z.elim id (fun q => absurd q.symm y), Or.inl⟩
  · rw [pk_un e, h a' ha']
    apply congrArg nI
    apply ar_ext
    intro i
    rw [ar_mk_tb, ar_mk_tb]
    refine and_congr_right fun hi => ?_
    unfold ar_g
    rw [pk_un (by omega)]
theorem ar_gv_0 {n a b : Nat} {gv yh : Nat → Int32} (h8 : n ≤ 8) (hb : b < n) (h : ar_gv n (ar_g yh) gv) : ar_gv n (ar_g (upd yh (8 * a + b) 0)) (upd gv a (nI (ar_dif (ar_mk (ar_g yh a) n) (2 ^ b)))) := by
  intro a' ha'
  by_cases e : a' = a
  · subst e
    rw [pk_us]
    apply congrArg nI
    apply ar_ext
    intro i
    rw [ar_dif_tb, ar_mk_tb, ar_mk_tb, ar_pow_tb]
    unfold ar_g
    by_cases y : i = b
    · subst y
      rw [pk_us]
      exact ⟨fun z => absurd rfl z.2, fun z => absurd rfl z.2⟩
    · rw [pk_un (by omega)]
      exact ⟨fun z => z.1, fun z => ⟨z, fun q => y q.symm⟩⟩
  · rw [pk_un e, h a' ha']
    apply congrArg nI
    apply ar_ext
    intro i
    rw [ar_mk_tb, ar_mk_tb]
    refine and_congr_right fun hi => ?_
    unfold ar_g
    rw [pk_un (by omega)]
/-- the bit of a given attack -/
theorem ar_gb {n a b : Nat} {gv yh : Nat → Int32} (h8 : n ≤ 8) (ha : a < n) (hb : b < n) (h : ar_gv n (ar_g yh) gv) :
    (yh (8 * a + b) = 0 → ((gv a) >>> (nI b &&& 31)) &&& 1 = 0) ∧ (¬ yh (8 * a + b) = 0 → ((gv a) >>> (nI b &&& 31)) &&& 1 = 1) := by
  have l := ar_mk_lt (ar_g yh a) n
  have b8 := ar_p8 h8
  rw [h a ha, ar_bit (by omega) (by omega)]
  constructor
  · intro z
    rw [show (ar_mk (ar_g yh a) n).testBit b = false from Bool.eq_false_iff.mpr (fun y => ((ar_mk_tb _ _ b).mp y).2 z)]
    rfl
  · intro z
    rw [(ar_mk_tb _ _ b).mpr ⟨hb, z⟩]
    rfl
theorem i_vc_attack {k : Nat} {u : SX} {v : SY} (I : i_Rel k u v) (hk : k + 4 ≤ 2049) (v1 : Int32) (v2 : Int32) (v3 : Int32) : wpX_attack (fun r u' => wpY_attack (fun r' v' => r' = r ∧ i_Rel (k + 4) u' v') v v1 v2 v3) u v1 v2 v3 := by
  refine ar_el (P := fun u v => wpX_attack (fun r u' => wpY_attack (fun r' v' => r' = r ∧ i_Rel (k + 4) u' v') v v1 v2 v3) u v1 v2 v3) ?_ I
  intro n p cu fi fo fu gs pc gv xh xb ls sz pe hI hO hU pk tn yh yp ya yc yr F
  have h8 := F.2.1
  unfold wpX_attack wpY_attack
  dsimp only
  rcases ar_kd v1 n (by omega) with hb | ⟨a, ha, rfl⟩
  · exact xa_isClaim_f hb (br_t rfl (yb_bad_f hb (br_f ar_n10 ⟨rfl, ar_in F⟩)))
  · rcases ar_kd v2 n (by omega) with hb | ⟨b, hb, rfl⟩
    · exact xa_isClaim_t h8 ha (br_f ar_n10 (xa_isClaim_f hb (br_t rfl (yb_bad_t h8 ha (br_t rfl (yb_bad_f hb (br_f ar_n10 ⟨rfl, ar_in F⟩)))))))
    · have G := ar_gb h8 ha hb F.2.2.2.1
      have l := ar_mk_lt (ar_g yh a) n
      have b8 := ar_p8 h8
      have ea : (nI a).toNatClampNeg = a := ar_cl a (by omega)
      have i8 : vp_in (nI a) 8 := vp_in_nI (by omega) (by decide)
      have i64 : vp_in (nI (8 * a + b)) 64 := vp_in_nI (by omega) (by decide)
      have ga := F.2.2.2.1 a ha
      refine xa_isClaim_t h8 ha (br_f ar_n10 (xa_isClaim_t h8 hb (br_f ar_n10 (And.intro i8 (nm_e (br_c (fun z3 => And.intro i8 (And.intro i8 (nm_r (e' := upd gv a (nI (ar_dif (ar_mk (ar_g yh a) n) (2 ^ b)))) ?_ (yb_bad_t h8 ha (br_t rfl (yb_bad_t h8 hb (br_t rfl ?_))))))) (fun z3 => And.intro i8 (And.intro i8 (nm_r (e' := upd gv a (nI (ar_mk (ar_g yh a) n ||| 2 ^ b))) ?_ (yb_bad_t h8 ha (br_t rfl (yb_bad_t h8 hb (br_t rfl ?_)))))))))))))
      · rw [ea, ga, ar_shl (by omega), ar_andn _ (by omega)]
      · unfold wY_attack_37
        rw [ar_i8, ar_cl (8 * a + b) (by omega), ea]
        refine And.intro i64 (br_c (fun y => br_t z3 (And.intro i64 (nm_e ⟨(G.1 y).symm, ar_in ⟨F.1, h8, F.2.2.1, ar_gv_0 h8 hb F.2.2.2.1, fun q => absurd rfl q⟩⟩))) (fun y => br_t z3 (And.intro i64 (nm_e ⟨(G.2 y).symm, ar_in ⟨F.1, h8, F.2.2.1, ar_gv_0 h8 hb F.2.2.2.1, fun q => absurd rfl q⟩⟩))))
      · rw [ea, ga, ar_shl (by omega), ar_or]
      · unfold wY_attack_37
        rw [ar_i8, ar_cl (8 * a + b) (by omega), ea]
        refine And.intro i64 (br_c (fun y => br_f z3 (And.intro i64 (nm_e ⟨(G.1 y).symm, ar_in ⟨F.1, h8, F.2.2.1, ar_gv_1 h8 hb ar_n10 F.2.2.2.1, fun q => absurd rfl q⟩⟩))) (fun y => br_f z3 (And.intro i64 (nm_e ⟨(G.2 y).symm, ar_in ⟨F.1, h8, F.2.2.1, ar_gv_1 h8 hb ar_n10 F.2.2.2.1, fun q => absurd rfl q⟩⟩))))
theorem i_vc_attacks {k : Nat} {u : SX} {v : SY} (I : i_Rel k u v) (hk : k + 4 ≤ 2049) (v1 : Int32) (v2 : Int32) : wpX_attacks (fun r => wpY_attacks (fun r' => r' = r ∧ i_Rel (k + 4) u v) v v1 v2) u v1 v2 := by
  have h4 : i_Rel (k + 4) u v := I
  revert h4
  refine ar_el (P := fun u v => i_Rel (k + 4) u v → wpX_attacks (fun r => wpY_attacks (fun r' => r' = r ∧ i_Rel (k + 4) u v) v v1 v2) u v1 v2) ?_ I
  intro n p cu fi fo fu gs pc gv xh xb ls sz pe hI hO hU pk tn yh yp ya yc yr F h4
  have h8 := F.2.1
  unfold wpX_attacks wpY_attacks
  dsimp only
  rcases ar_kd v1 n (by omega) with hb | ⟨a, ha, rfl⟩
  · exact xa_isClaim_f hb (br_t rfl (yb_bad_f hb (br_f ar_n10 ⟨rfl, h4⟩)))
  · rcases ar_kd v2 n (by omega) with hb | ⟨b, hb, rfl⟩
    · exact xa_isClaim_t h8 ha (br_f ar_n10 (xa_isClaim_f hb (br_t rfl (yb_bad_t h8 ha (br_t rfl (yb_bad_f hb (br_f ar_n10 ⟨rfl, h4⟩)))))))
    · have G := ar_gb h8 ha hb F.2.2.2.1
      have i64 : vp_in (nI (8 * a + b)) 64 := vp_in_nI (by omega) (by decide)
      rw [ar_i8, ar_cl (8 * a + b) (by omega), ar_cl a (by omega)]
      exact xa_isClaim_t h8 ha (br_f ar_n10 (xa_isClaim_t h8 hb (br_f ar_n10 (And.intro (vp_in_nI (by omega) (by decide)) (yb_bad_t h8 ha (br_t rfl (yb_bad_t h8 hb (br_t rfl (And.intro i64 (br_c (fun y => ⟨(G.1 y).symm, h4⟩) (fun y => ⟨(G.2 y).symm, h4⟩)))))))))))
theorem i_vc_play {k : Nat} {u : SX} {v : SY} (I : i_Rel k u v) (hk : k + 4 ≤ 2049) (v1 : Int32) (v2 : Int32) : wpX_play (fun r u' => wpY_play (fun r' v' => r' = r ∧ i_Rel (k + 4) u' v') v v1 v2) u v1 v2 := by
  refine ar_el (P := fun u v => wpX_play (fun r u' => wpY_play (fun r' v' => r' = r ∧ i_Rel (k + 4) u' v') v v1 v2) u v1 v2) ?_ I
  intro n p cu fi fo fu gs pc gv xh xb ls sz pe hI hO hU pk tn yh yp ya yc yr F
  have h8 := F.2.1
  have b8 := ar_p8 h8
  have bp := F.2.2.1
  unfold wpX_play wpY_play
  dsimp only
  rcases ar_kd v1 n (by omega) with hb | ⟨c, hc, rfl⟩
  · exact xa_isClaim_f hb (br_t rfl (yb_bad_f hb (br_f ar_n10 ⟨rfl, ar_in F⟩)))
  · have e0 : nI p &&& (((1 : Int32) <<< (nI c &&& 31)) ^^^ (-1)) = nI (ar_dif p (2 ^ c)) := by rw [ar_shl (by omega), ar_andn _ (by omega)]
    have e1 : nI p ||| ((1 : Int32) <<< (nI c &&& 31)) = nI (p ||| 2 ^ c) := by rw [ar_shl (by omega), ar_or]
    have l1 : p ||| 2 ^ c < 2 ^ n := Nat.or_lt_two_pow bp (Nat.pow_lt_pow_right (by decide) hc)
    exact xa_isClaim_t h8 hc (br_f ar_n10 (nm_e (br_c (fun z => nm_r e0 (yb_bad_t h8 hc (br_t rfl (nm_e (br_t z (nm_r e0 ⟨rfl, ar_in ⟨F.1, h8, ar_dif_lt bp, F.2.2.2.1, fun q => absurd rfl q⟩⟩)))))) (fun z => nm_r e1 (yb_bad_t h8 hc (br_t rfl (nm_e (br_f z (nm_r e1 ⟨rfl, ar_in ⟨F.1, h8, l1, F.2.2.2.1, fun q => absurd rfl q⟩⟩)))))))))
end
section
/-! the calls over the lists -/
theorem i_vc_grounded {k : Nat} {u : SX} {v : SY} (I : i_Rel k u v) (hk : k + 4 ≤ 2049) : wpX_grounded (fun r u' => wpY_grounded (fun r' v' => r' = r ∧ i_Rel (k + 4) u' v') v) u := by
  refine ar_el (P := fun u v => wpX_grounded (fun r u' => wpY_grounded (fun r' v' => r' = r ∧ i_Rel (k + 4) u' v') v) u) ?_ I
  rintro n p cu fi fo fu gs pc gv xh xb ls sz pe hI hO hU pk tn yh yp ya yc yr ⟨h2, h8, hp, hg, hf⟩
  have K := ar_OK_R (g := ar_g yh) h2 h8 hp
  unfold wpX_grounded wpY_grounded
  dsimp only
  refine xa_refresh K rfl hg hf ?_
  rintro cu fi fo fu gs pc xh xb ls sz pe hI hO hU pk tn ⟨D, ⟨G, rfl, hG⟩, L⟩
  exact yb_tabulate K (fun yp ya yc yr T => yb_least K T hG ⟨rfl, ar_in2 h2 h8 hp hg ⟨D, ⟨G, rfl, hG⟩, L⟩⟩)
theorem i_vc_groundedLabel {k : Nat} {u : SX} {v : SY} (I : i_Rel k u v) (hk : k + 4 ≤ 2049) (v1 : Int32) : wpX_groundedLabel (fun r u' => wpY_groundedLabel (fun r' v' => r' = r ∧ i_Rel (k + 4) u' v') v v1) u v1 := by
  refine ar_el (P := fun u v => wpX_groundedLabel (fun r u' => wpY_groundedLabel (fun r' v' => r' = r ∧ i_Rel (k + 4) u' v') v v1) u v1) ?_ I
  rintro n p cu fi fo fu gs pc gv xh xb ls sz pe hI hO hU pk tn yh yp ya yc yr F
  obtain ⟨h2, h8, hp, hg, hf⟩ := F
  have K := ar_OK_R (g := ar_g yh) h2 h8 hp
  unfold wpX_groundedLabel
  dsimp only
  rcases ar_kd v1 n (by omega) with hb | ⟨c, hc, rfl⟩
  · refine xa_isClaim_f hb (br_t rfl ?_)
    unfold wpY_groundedLabel
    dsimp only
    exact yb_bad_f hb (br_f ar_n10 ⟨rfl, ar_in ⟨h2, h8, hp, hg, hf⟩⟩)
  · by_cases pc : p.testBit c = true
    rotate_left
    · refine xa_isClaim_t h8 hc (br_f ar_n10 (xa_has (ar_p31 K) (by omega) (fun z => absurd z pc) (fun _ => br_t rfl ?_)))
      unfold wpY_groundedLabel
      dsimp only
      exact yb_bad_t h8 hc (br_t rfl (yb_in (ar_p31 K) (by omega) (fun z => absurd z pc) (fun _ => br_t rfl ⟨rfl, ar_in ⟨h2, h8, hp, hg, hf⟩⟩)))
    refine xa_isClaim_t h8 hc (br_f ar_n10 (xa_has (ar_p31 K) (by omega) (fun _ => br_f ar_n10 (xa_refresh K rfl hg hf ?_)) (fun z => absurd pc z)))
    rintro cu fi fo fu gs pc' xh xb ls sz pe hI hO hU pk tn ⟨D, ⟨G, rfl, hG⟩, L⟩
    dsimp only
    have bG := ar_31 K (ar_pf_lt K hG.1.1.1)
    have ec : (nI c).toNatClampNeg = c := ar_cl c (by omega)
    have dj : ar_dj (ar_B n (ar_R p (ar_g yh)) c) G ↔ ¬ (ar_at n (ar_R p (ar_g yh)) G).testBit c = true := by
      rw [ar_at_tb K]
      exact ⟨fun z ⟨a, x, y⟩ => z a ((ar_B_tb K c a).mpr y) x, fun z a x y => z ⟨a, y, (ar_B_tb K c a).mp x⟩⟩
    have yy : ∀ {P : Int32 → SY → Prop}, ((ar_at n (ar_R p (ar_g yh)) G).testBit c = true → ¬ G.testBit c = true → ∀ yp ya yc yr, P 1 (nI n, nI p, yh, yp, ya, yc, yr)) → (¬ (ar_at n (ar_R p (ar_g yh)) G).testBit c = true → ¬ G.testBit c = true → ∀ yp ya yc yr, P 2 (nI n, nI p, yh, yp, ya, yc, yr)) → (G.testBit c = true → ∀ yp ya yc yr, P 0 (nI n, nI p, yh, yp, ya, yc, yr)) → wpY_groundedLabel P (nI n, nI p, yh, yp, ya, yc, yr) (nI c) := by
      intro P q1 q2 q0
      unfold wpY_groundedLabel
      dsimp only
      exact yb_bad_t h8 hc (br_t rfl (yb_in (ar_p31 K) (by omega) (fun _ => br_f ar_n10 (yb_tabulate K (fun yp ya yc yr T => yb_least K T hG (yb_in bG (by omega) (fun z => br_f ar_n10 (q0 z yp ya yc yr)) (fun z => br_t rfl (yb_attacked K bG (yb_in (ar_31 K (ar_at_lt G)) (by omega) (fun w => br_f ar_n10 (q1 w z yp ya yc yr)) (fun w => br_t rfl (q2 w z yp ya yc yr))))))))) (fun z => absurd pc z)))
    have fin : ∀ (yp ya yc yr : Nat → Int32), i_Rel (k + 4) (nI n, nI p, cu, fi, fo, fu, nI G, pc', gv, xh, xb, ls, sz, pe, hI, hO, hU, pk, tn) (nI n, nI p, yh, yp, ya, yc, yr) := fun yp ya yc yr => ar_in2 h2 h8 hp hg ⟨D, ⟨G, rfl, hG⟩, L⟩
    refine xa_has bG (by omega) (fun z => br_f ar_n10 ?_) (fun z => br_t rfl (And.intro (vp_in_nI (by omega) (by decide)) (ar_if (d := ar_dj (ar_B n (ar_R p (ar_g yh)) c) G) ?_ (fun w => ?_) (fun w => ?_))))
    · exact yy (fun _ q => absurd z q) (fun _ q => absurd z q) (fun _ yp ya yc yr => ⟨rfl, fin yp ya yc yr⟩)
    · rw [ec, (D c hc).2, ar_and_z _ (ar_31 K (ar_B_lt c))]
    · exact yy (fun q => absurd q (dj.mp w)) (fun _ _ yp ya yc yr => ⟨rfl, fin yp ya yc yr⟩) (fun q => absurd q z)
    · exact yy (fun _ _ yp ya yc yr => ⟨rfl, fin yp ya yc yr⟩) (fun q => absurd (dj.mpr q) w) (fun q => absurd q z)
theorem i_vc_is {k : Nat} {u : SX} {v : SY} (I : i_Rel k u v) (hk : k + 4 ≤ 2049) (v1 : Int32) (v2 : Int32) : wpX_is (fun r u' => wpY_is (fun r' v' => r' = r ∧ i_Rel (k + 4) u' v') v v1 v2) u v1 v2 := by
  refine ar_el (P := fun u v => wpX_is (fun r u' => wpY_is (fun r' v' => r' = r ∧ i_Rel (k + 4) u' v') v v1 v2) u v1 v2) ?_ I
  rintro n p cu fi fo fu gs pc gv xh xb ls sz pe hI hO hU pk tn yh yp ya yc yr F
  obtain ⟨h2, h8, hp, hg, hf⟩ := F
  have K := ar_OK_R (g := ar_g yh) h2 h8 hp
  have b8 := ar_p8 h8
  unfold wpX_is wpY_is
  dsimp only
  rcases ar_kd v1 6 (by decide) with hb | ⟨j, hj, rfl⟩
  · exact xa_isKind_f hb (br_t rfl (yb_badKind_f hb (br_f ar_n10 ⟨rfl, ar_in ⟨h2, h8, hp, hg, hf⟩⟩)))
  · rcases ar_kd v2 (2 ^ n) (by omega) with hb | ⟨s, hs, rfl⟩
    · exact xa_isKind_t hj (br_f ar_n10 (xa_refused_2 K hb (br_f (by decide) (yb_badKind_t hj (br_t rfl (yb_badSet_f h8 hb (br_f ar_n10 ⟨rfl, ar_in ⟨h2, h8, hp, hg, hf⟩⟩)))))))
    · by_cases sp : ar_sb s p
      · refine xa_isKind_t hj (br_f ar_n10 (xa_refused_ok K hs sp (br_t (by decide) (xa_refresh K rfl hg hf ?_))))
        rintro cu fi fo fu gs pc xh xb ls sz pe hI hO hU pk tn ⟨D, G, L⟩
        have Lj := L j hj
        dsimp only
        refine And.intro (vp_in_nI hj (by decide)) (nm_r (e' := nI (ar_ct (ar_K n p (ar_R p (ar_g yh)) j) 256)) (by rw [ar_cl j (by omega), Lj.1]) (xa_is_s hj (fun t ht => ar_256 K (ar_K_lt K ht)) Lj (by omega) (fun z => ?_) (fun z => ?_)))
        · exact yb_badKind_t hj (br_t rfl (yb_badSet_t h8 hs (br_t rfl (yb_part (by omega) (fun _ => br_f ar_n10 (yb_tabulate K (fun yp ya yc yr T => yb_of K T hj hs (fun _ => br_f ar_n10 ⟨rfl, ar_in2 h2 h8 hp hg ⟨D, G, L⟩⟩) (fun q => absurd z q)))) (fun q => absurd sp q)))))
        · exact yb_badKind_t hj (br_t rfl (yb_badSet_t h8 hs (br_t rfl (yb_part (by omega) (fun _ => br_f ar_n10 (yb_tabulate K (fun yp ya yc yr T => yb_of K T hj hs (fun q => absurd q z) (fun _ => br_t rfl ⟨rfl, ar_in2 h2 h8 hp hg ⟨D, G, L⟩⟩)))) (fun q => absurd sp q)))))
      · exact xa_isKind_t hj (br_f ar_n10 (xa_refused_3 K hs sp (br_f (by decide) (yb_badKind_t hj (br_t rfl (yb_badSet_t h8 hs (br_t rfl (yb_part (by omega) (fun q => absurd q sp) (fun _ => br_t rfl ⟨rfl, ar_in ⟨h2, h8, hp, hg, hf⟩⟩)))))))))
theorem i_vc_count {k : Nat} {u : SX} {v : SY} (I : i_Rel k u v) (hk : k + 4 ≤ 2049) (v1 : Int32) : wpX_count (fun r u' => wpY_count (fun r' v' => r' = r ∧ i_Rel (k + 4) u' v') v v1) u v1 := by
  refine ar_el (P := fun u v => wpX_count (fun r u' => wpY_count (fun r' v' => r' = r ∧ i_Rel (k + 4) u' v') v v1) u v1) ?_ I
  rintro n p cu fi fo fu gs pc gv xh xb ls sz pe hI hO hU pk tn yh yp ya yc yr F
  obtain ⟨h2, h8, hp, hg, hf⟩ := F
  have K := ar_OK_R (g := ar_g yh) h2 h8 hp
  unfold wpX_count wpY_count
  dsimp only
  rcases ar_kd v1 6 (by decide) with hb | ⟨j, hj, rfl⟩
  · exact xa_isKind_f hb (br_t rfl (yb_badKind_f hb (br_f ar_n10 ⟨rfl, ar_in ⟨h2, h8, hp, hg, hf⟩⟩)))
  · refine xa_isKind_t hj (br_f ar_n10 (xa_refresh K rfl hg hf ?_))
    rintro cu fi fo fu gs pc xh xb ls sz pe hI hO hU pk tn ⟨D, G, L⟩
    have Lj : sz (nI j).toNatClampNeg = nI (ar_ct (ar_K n p (ar_R p (ar_g yh)) j) 256) := by rw [ar_cl j (by omega), (L j hj).1]
    dsimp only
    rw [Lj]
    exact And.intro (vp_in_nI hj (by decide)) (yb_badKind_t hj (br_t rfl (yb_tabulate K (fun yp ya yc yr T => Exists.intro (2 ^ n + 1) (yb_count_l K T hj ⟨rfl, ar_in2 h2 h8 hp hg ⟨D, G, L⟩⟩ (2 ^ n) 0 (by omega))))))
theorem i_vc_nth {k : Nat} {u : SX} {v : SY} (I : i_Rel k u v) (hk : k + 4 ≤ 2049) (v1 : Int32) (v2 : Int32) : wpX_nth (fun r u' => wpY_nth (fun r' v' => r' = r ∧ i_Rel (k + 4) u' v') v v1 v2) u v1 v2 := by
  refine ar_el (P := fun u v => wpX_nth (fun r u' => wpY_nth (fun r' v' => r' = r ∧ i_Rel (k + 4) u' v') v v1 v2) u v1 v2) ?_ I
  rintro n p cu fi fo fu gs pc gv xh xb ls sz pe hI hO hU pk tn yh yp ya yc yr F
  obtain ⟨h2, h8, hp, hg, hf⟩ := F
  have K := ar_OK_R (g := ar_g yh) h2 h8 hp
  unfold wpX_nth
  dsimp only
  rcases ar_kd v1 6 (by decide) with hb | ⟨j, hj, rfl⟩
  · unfold wpY_nth
    dsimp only
    exact xa_isKind_f hb (br_t rfl (yb_badKind_f hb (br_f ar_n10 ⟨rfl, ar_in ⟨h2, h8, hp, hg, hf⟩⟩)))
  · refine xa_isKind_t hj (br_f ar_n10 (xa_refresh K rfl hg hf ?_))
    rintro cu fi fo fu gs pc xh xb ls sz pe hI hO hU pk tn ⟨D, G, L⟩
    have Lj := L j hj
    have c256 := ar_ct_le (ar_K n p (ar_R p (ar_g yh)) j) 256
    have fin : ∀ (yp ya yc yr : Nat → Int32), i_Rel (k + 4) (nI n, nI p, cu, fi, fo, fu, gs, pc, gv, xh, xb, ls, sz, pe, hI, hO, hU, pk, tn) (nI n, nI p, yh, yp, ya, yc, yr) := fun yp ya yc yr => ar_in2 h2 h8 hp hg ⟨D, G, L⟩
    have yy : ∀ {P : Int32 → SY → Prop}, (∀ s, ar_K n p (ar_R p (ar_g yh)) j s → v2 = nI (ar_ct (ar_K n p (ar_R p (ar_g yh)) j) s) → ∀ yp ya yc yr, P (nI s) (nI n, nI p, yh, yp, ya, yc, yr)) → ((∀ s, ar_K n p (ar_R p (ar_g yh)) j s → ¬ v2 = nI (ar_ct (ar_K n p (ar_R p (ar_g yh)) j) s)) → ∀ yp ya yc yr, P (-2) (nI n, nI p, yh, yp, ya, yc, yr)) → wpY_nth P (nI n, nI p, yh, yp, ya, yc, yr) (nI j) v2 := by
      intro P q1 q0
      unfold wpY_nth
      dsimp only
      exact yb_badKind_t hj (br_t rfl (yb_tabulate K (fun yp ya yc yr T => Exists.intro (2 ^ n + 1) (yb_nth_l K T hj (fun s a b => q1 s a b yp ya yc yr) (fun a => q0 a yp ya yc yr) (2 ^ n) 0 (by omega) (fun t ht => absurd ht (Nat.not_lt_zero t))))))
    dsimp only
    rw [ar_cl j (by omega), Lj.1]
    rcases ar_kd v2 (ar_ct (ar_K n p (ar_R p (ar_g yh)) j) 256) (by omega) with hb | ⟨i, hi, rfl⟩
    · have no : ∀ s, ar_K n p (ar_R p (ar_g yh)) j s → ¬ v2 = nI (ar_ct (ar_K n p (ar_R p (ar_g yh)) j) s) := by
        rintro s hs rfl
        have l := ar_ct_lt hs (ar_256 K (ar_K_lt K hs))
        rcases hb with z | z
        · exact nI_pos (by omega) z
        · exact nI_ge l (by omega) z
      have q := yy (P := fun r' v' => r' = -2 ∧ i_Rel (k + 4) (nI n, nI p, cu, fi, fo, fu, gs, pc, gv, xh, xb, ls, sz, pe, hI, hO, hU, pk, tn) v') (fun s a b => absurd b (no s a)) (fun _ yp ya yc yr => ⟨rfl, fin yp ya yc yr⟩)
      by_cases z : v2 < 0
      · exact br_t z q
      · exact br_f z (And.intro (vp_in_nI hj (by decide)) (br_t (hb.resolve_left z) q))
    · obtain ⟨s, hs, y, e⟩ := ar_ct_inv (S := ar_K n p (ar_R p (ar_g yh)) j) (m := 256) (j := i) hi
      have ev : ls (256 * j + i) = nI s := e ▸ Lj.2 s hs y
      rw [ar_ix, ar_cl (256 * j + i) (by omega), ev]
      refine br_f (nI_pos (by omega)) (And.intro (vp_in_nI hj (by decide)) (br_f (nI_ge hi (by omega)) (And.intro (vp_in_nI (by omega) (by decide)) (yy (fun s' a b yp ya yc yr => ⟨?_, fin yp ya yc yr⟩) (fun a => absurd (congrArg nI e.symm) (a s y))))))
      have l := ar_ct_lt a (ar_256 K (ar_K_lt K a))
      have := (nI_eq (by omega) (by omega)).mp b
      exact congrArg nI (ar_ct_inj a y (by omega))
theorem i_vc_possible {k : Nat} {u : SX} {v : SY} (I : i_Rel k u v) (hk : k + 4 ≤ 2049) (v1 : Int32) (v2 : Int32) : wpX_possible (fun r u' => wpY_possible (fun r' v' => r' = r ∧ i_Rel (k + 4) u' v') v v1 v2) u v1 v2 := by
  refine ar_el (P := fun u v => wpX_possible (fun r u' => wpY_possible (fun r' v' => r' = r ∧ i_Rel (k + 4) u' v') v v1 v2) u v1 v2) ?_ I
  rintro n p cu fi fo fu gs pc gv xh xb ls sz pe hI hO hU pk tn yh yp ya yc yr F
  obtain ⟨h2, h8, hp, hg, hf⟩ := F
  have K := ar_OK_R (g := ar_g yh) h2 h8 hp
  unfold wpX_possible wpY_possible
  dsimp only
  rcases ar_kd v1 6 (by decide) with hb | ⟨j, hj, rfl⟩
  · exact xa_isKind_f hb (br_t rfl (yb_badKind_f hb (br_f ar_n10 ⟨rfl, ar_in ⟨h2, h8, hp, hg, hf⟩⟩)))
  · rcases ar_kd v2 n (by omega) with hb | ⟨c, hc, rfl⟩
    · exact xa_isKind_t hj (br_f ar_n10 (xa_isClaim_f hb (br_t rfl (yb_badKind_t hj (br_t rfl (yb_bad_f hb (br_f ar_n10 ⟨rfl, ar_in ⟨h2, h8, hp, hg, hf⟩⟩)))))))
    · refine xa_isKind_t hj (br_f ar_n10 (xa_isClaim_t h8 hc (br_f ar_n10 (xa_refresh K rfl hg hf ?_))))
      rintro cu fi fo fu gs pc xh xb ls sz pe hI hO hU pk tn ⟨D, G, L⟩
      refine Exists.intro (ar_ct (ar_K n p (ar_R p (ar_g yh)) j) 256 + 1) (xa_possible_l (S := ar_K n p (ar_R p (ar_g yh)) j) hj (by omega) (fun t ht => ar_256 K (ar_K_lt K ht)) (L j hj) (fun z => ?_) (fun z => ?_) _ 0 0 (by omega) (by decide) (fun i => ⟨fun q => absurd q ar_0_tb, fun ⟨s, _, q, _⟩ => absurd q (Nat.not_lt_zero _)⟩))
      · exact yb_badKind_t hj (br_t rfl (yb_bad_t h8 hc (br_t rfl (yb_tabulate K (fun yp ya yc yr T => Exists.intro (2 ^ n + 1) (yb_possible_l K T hj hc (fun _ => ⟨rfl, ar_in2 h2 h8 hp hg ⟨D, G, L⟩⟩) (fun q => absurd z q) (2 ^ n) 0 (by omega) (fun t ht => absurd ht (Nat.not_lt_zero t))))))))
      · exact yb_badKind_t hj (br_t rfl (yb_bad_t h8 hc (br_t rfl (yb_tabulate K (fun yp ya yc yr T => Exists.intro (2 ^ n + 1) (yb_possible_l K T hj hc (fun q => absurd q z) (fun _ => ⟨rfl, ar_in2 h2 h8 hp hg ⟨D, G, L⟩⟩) (2 ^ n) 0 (by omega) (fun t ht => absurd ht (Nat.not_lt_zero t))))))))
theorem i_vc_certain {k : Nat} {u : SX} {v : SY} (I : i_Rel k u v) (hk : k + 4 ≤ 2049) (v1 : Int32) (v2 : Int32) : wpX_certain (fun r u' => wpY_certain (fun r' v' => r' = r ∧ i_Rel (k + 4) u' v') v v1 v2) u v1 v2 := by
  refine ar_el (P := fun u v => wpX_certain (fun r u' => wpY_certain (fun r' v' => r' = r ∧ i_Rel (k + 4) u' v') v v1 v2) u v1 v2) ?_ I
  rintro n p cu fi fo fu gs pc gv xh xb ls sz pe hI hO hU pk tn yh yp ya yc yr F
  obtain ⟨h2, h8, hp, hg, hf⟩ := F
  have K := ar_OK_R (g := ar_g yh) h2 h8 hp
  unfold wpX_certain wpY_certain
  dsimp only
  rcases ar_kd v1 6 (by decide) with hb | ⟨j, hj, rfl⟩
  · exact xa_isKind_f hb (br_t rfl (yb_badKind_f hb (br_f ar_n10 ⟨rfl, ar_in ⟨h2, h8, hp, hg, hf⟩⟩)))
  · rcases ar_kd v2 n (by omega) with hb | ⟨c, hc, rfl⟩
    · exact xa_isKind_t hj (br_f ar_n10 (xa_isClaim_f hb (br_t rfl (yb_badKind_t hj (br_t rfl (yb_bad_f hb (br_f ar_n10 ⟨rfl, ar_in ⟨h2, h8, hp, hg, hf⟩⟩)))))))
    · refine xa_isKind_t hj (br_f ar_n10 (xa_isClaim_t h8 hc (br_f ar_n10 (xa_refresh K rfl hg hf ?_))))
      rintro cu fi fo fu gs pc xh xb ls sz pe hI hO hU pk tn ⟨D, G, L⟩
      refine xa_common h8 hj (L j hj) ?_
      rw [ar_bit (ar_31 K (ar_cm_lt j)) (by omega)]
      have e := ar_cm_tb K j c
      cases z : (ar_cm n (ar_K n p (ar_R p (ar_g yh)) j)).testBit c
      · refine yb_badKind_t hj (br_t rfl (yb_bad_t h8 hc (br_t rfl (yb_tabulate K (fun yp ya yc yr T => Exists.intro (2 ^ n + 1) (yb_certain_l K T hj hc (fun q => absurd (e.mpr ⟨hc, q⟩) (ar_nt z)) (fun _ => ⟨rfl, ar_in2 h2 h8 hp hg ⟨D, G, L⟩⟩) (2 ^ n) 0 (by omega) (fun t ht => absurd ht (Nat.not_lt_zero t))))))))
      · refine yb_badKind_t hj (br_t rfl (yb_bad_t h8 hc (br_t rfl (yb_tabulate K (fun yp ya yc yr T => Exists.intro (2 ^ n + 1) (yb_certain_l K T hj hc (fun _ => ⟨rfl, ar_in2 h2 h8 hp hg ⟨D, G, L⟩⟩) (fun q => absurd (e.mp z).2 q) (2 ^ n) 0 (by omega) (fun t ht => absurd ht (Nat.not_lt_zero t))))))))
theorem i_vc_core {k : Nat} {u : SX} {v : SY} (I : i_Rel k u v) (hk : k + 4 ≤ 2049) (v1 : Int32) : wpX_core (fun r u' => wpY_core (fun r' v' => r' = r ∧ i_Rel (k + 4) u' v') v v1) u v1 := by
  refine ar_el (P := fun u v => wpX_core (fun r u' => wpY_core (fun r' v' => r' = r ∧ i_Rel (k + 4) u' v') v v1) u v1) ?_ I
  rintro n p cu fi fo fu gs pc gv xh xb ls sz pe hI hO hU pk tn yh yp ya yc yr F
  obtain ⟨h2, h8, hp, hg, hf⟩ := F
  have K := ar_OK_R (g := ar_g yh) h2 h8 hp
  unfold wpX_core wpY_core
  dsimp only
  rcases ar_kd v1 6 (by decide) with hb | ⟨j, hj, rfl⟩
  · exact xa_isKind_f hb (br_t rfl (yb_badKind_f hb (br_f ar_n10 ⟨rfl, ar_in ⟨h2, h8, hp, hg, hf⟩⟩)))
  · refine xa_isKind_t hj (br_f ar_n10 (xa_refresh K rfl hg hf ?_))
    rintro cu fi fo fu gs pc xh xb ls sz pe hI hO hU pk tn ⟨D, G, L⟩
    have c256 := ar_ct_le (ar_K n p (ar_R p (ar_g yh)) j) 256
    dsimp only
    rw [ar_cl j (by omega), (L j hj).1]
    have e : ar_ct (ar_K n p (ar_R p (ar_g yh)) j) 256 = 0 ↔ ¬ ∃ s, ar_K n p (ar_R p (ar_g yh)) j s := by
      constructor
      · rintro z ⟨s, hs⟩
        have := ar_ct_lt hs (ar_256 K (ar_K_lt K hs))
        omega
      · intro z
        exact ar_ct_0 (fun i _ q => z ⟨i, q⟩)
    refine And.intro (vp_in_nI hj (by decide)) (ar_if (ar_z (by omega)) (fun z => ?_) (fun z => xa_common h8 hj (L j hj) ?_))
    · exact yb_badKind_t hj (br_t rfl (yb_tabulate K (fun yp ya yc yr T => yb_shared K T hj (fun q => absurd q (e.mp z)) (fun _ => ⟨rfl, ar_in2 h2 h8 hp hg ⟨D, G, L⟩⟩))))
    · exact yb_badKind_t hj (br_t rfl (yb_tabulate K (fun yp ya yc yr T => yb_shared K T hj (fun _ => ⟨rfl, ar_in2 h2 h8 hp hg ⟨D, G, L⟩⟩) (fun q => absurd (e.mpr q) z))))
theorem i_vc_range {k : Nat} {u : SX} {v : SY} (I : i_Rel k u v) (hk : k + 4 ≤ 2049) (v1 : Int32) : wpX_range (fun r u' => wpY_range (fun r' => r' = r ∧ i_Rel (k + 4) u' v) v v1) u v1 := by
  refine ar_el (P := fun u v => wpX_range (fun r u' => wpY_range (fun r' => r' = r ∧ i_Rel (k + 4) u' v) v v1) u v1) ?_ I
  rintro n p cu fi fo fu gs pc gv xh xb ls sz pe hI hO hU pk tn yh yp ya yc yr F
  obtain ⟨h2, h8, hp, hg, hf⟩ := F
  have K := ar_OK_R (g := ar_g yh) h2 h8 hp
  have b8 := ar_p8 h8
  unfold wpX_range wpY_range
  dsimp only
  rcases ar_kd v1 (2 ^ n) (by omega) with hb | ⟨s, hs, rfl⟩
  · exact xa_refused_2 K hb (br_f (by decide) (yb_badSet_f h8 hb (br_f ar_n10 ⟨rfl, ar_in ⟨h2, h8, hp, hg, hf⟩⟩)))
  · by_cases sp : ar_sb s p
    · refine xa_refused_ok K hs sp (br_t (by decide) (xa_refresh K rfl hg hf ?_))
      rintro cu fi fo fu gs pc xh xb ls sz pe hI hO hU pk tn ⟨D, G, L⟩
      exact xa_hitsOf K D (by omega) (yb_badSet_t h8 hs (br_t rfl (yb_part (by omega) (fun _ => br_f ar_n10 (yb_attacked K (by omega) ⟨rfl, ar_in2 h2 h8 hp hg ⟨D, G, L⟩⟩)) (fun q => absurd sp q))))
    · exact xa_refused_3 K hs sp (br_f (by decide) (yb_badSet_t h8 hs (br_t rfl (yb_part (by omega) (fun q => absurd q sp) (fun _ => br_t rfl ⟨rfl, ar_in ⟨h2, h8, hp, hg, hf⟩⟩)))))
theorem i_vc_defended {k : Nat} {u : SX} {v : SY} (I : i_Rel k u v) (hk : k + 4 ≤ 2049) (v1 : Int32) : wpX_defended (fun r u' => wpY_defended (fun r' => r' = r ∧ i_Rel (k + 4) u' v) v v1) u v1 := by
  refine ar_el (P := fun u v => wpX_defended (fun r u' => wpY_defended (fun r' => r' = r ∧ i_Rel (k + 4) u' v) v v1) u v1) ?_ I
  rintro n p cu fi fo fu gs pc gv xh xb ls sz pe hI hO hU pk tn yh yp ya yc yr F
  obtain ⟨h2, h8, hp, hg, hf⟩ := F
  have K := ar_OK_R (g := ar_g yh) h2 h8 hp
  have b8 := ar_p8 h8
  unfold wpX_defended wpY_defended
  dsimp only
  rcases ar_kd v1 (2 ^ n) (by omega) with hb | ⟨s, hs, rfl⟩
  · exact xa_refused_2 K hb (br_f (by decide) (yb_badSet_f h8 hb (br_f ar_n10 ⟨rfl, ar_in ⟨h2, h8, hp, hg, hf⟩⟩)))
  · by_cases sp : ar_sb s p
    · refine xa_refused_ok K hs sp (br_t (by decide) (xa_refresh K rfl hg hf ?_))
      rintro cu fi fo fu gs pc xh xb ls sz pe hI hO hU pk tn ⟨D, G, L⟩
      exact xa_defendedBy K D (by omega) (yb_badSet_t h8 hs (br_t rfl (yb_part (by omega) (fun _ => br_f ar_n10 (yb_defends K (by omega) ⟨rfl, ar_in2 h2 h8 hp hg ⟨D, G, L⟩⟩)) (fun q => absurd sp q))))
    · exact xa_refused_3 K hs sp (br_f (by decide) (yb_badSet_t h8 hs (br_t rfl (yb_part (by omega) (fun q => absurd q sp) (fun _ => br_t rfl ⟨rfl, ar_in ⟨h2, h8, hp, hg, hf⟩⟩)))))
theorem i_vc_ideal {k : Nat} {u : SX} {v : SY} (I : i_Rel k u v) (hk : k + 4 ≤ 2049) : wpX_ideal (fun r u' => wpY_ideal (fun r' v' => r' = r ∧ i_Rel (k + 4) u' v') v) u := by
  refine ar_el (P := fun u v => wpX_ideal (fun r u' => wpY_ideal (fun r' v' => r' = r ∧ i_Rel (k + 4) u' v') v) u) ?_ I
  rintro n p cu fi fo fu gs pc gv xh xb ls sz pe hI hO hU pk tn yh yp ya yc yr F
  obtain ⟨h2, h8, hp, hg, hf⟩ := F
  have K := ar_OK_R (g := ar_g yh) h2 h8 hp
  have b8 := ar_p8 h8
  unfold wpX_ideal wpY_ideal
  dsimp only
  refine xa_refresh K rfl hg hf ?_
  rintro cu fi fo fu gs pc xh xb ls sz pe hI hO hU pk tn ⟨D, G, L⟩
  have pw := ar_cm_pf K
  refine xa_common (k := 2) h8 (by decide) (L 2 (by decide)) (Exists.intro 9 (xa_ideal_l K D pw (fun s hs => ?_) 8 0 _ (by omega) (ar_Ik_0 _)))
  have bs := ar_pf_lt K hs.1.1
  refine yb_tabulate K (fun yp ya yc yr T => yb_shared (k := 2) K T (by decide) (fun _ => nm_r (ar_all h8) (Exists.intro (2 ^ n - 1 - s + 1) ?_)) (fun q => absurd (ar_K2_ex K) q))
  have q := yi_19 (yh := yh) (post := fun r' v' => r' = nI s ∧ i_Rel (k + 4) (nI n, nI p, cu, fi, fo, fu, gs, pc, gv, xh, xb, ls, sz, pe, hI, hO, hU, pk, tn) v') K T hs ⟨rfl, ar_in2 h2 h8 hp hg ⟨D, G, L⟩⟩ (2 ^ n - 1 - s) (by omega)
  rw [show s + (2 ^ n - 1 - s) = 2 ^ n - 1 by omega] at q
  exact q
end
