section
theorem pk_us {f : Nat → Int32} {k : Nat} {x : Int32} : upd f k x k = x := if_pos rfl
theorem pk_un {f : Nat → Int32} {k j : Nat} {x : Int32} (h : j ≠ k) : upd f k x j = f j := if_neg h
theorem pk_uLs {f : Nat → Int64} {k : Nat} {x : Int64} : vp_updL f k x k = x := if_pos rfl
theorem pk_uLn {f : Nat → Int64} {k j : Nat} {x : Int64} (h : j ≠ k) : vp_updL f k x j = f j := if_neg h
theorem pk_sub {a b : Nat} (h : b ≤ a) : nI a - nI b = nI (a - b) := by
  obtain ⟨c, rfl⟩ : ∃ c, a = c + b := ⟨a - b, by omega⟩
  rw [← nI_add, Int32.add_sub_cancel, Nat.add_sub_cancel]
theorem pk_m1 (n : Nat) : nI (n + 1) + (-1) = nI n := by
  rw [← nI_1, Int32.add_assoc, show (1 : Int32) + (-1) = 0 from rfl, Int32.add_zero]
theorem pk_mul (a b : Nat) : nI a * nI b = nI (a * b) := (Int32.ofNat_mul a b).symm
theorem pk_div {a d : Nat} (ha : a < 2 ^ 31) (h0 : 0 < d) (hd : d < 2 ^ 31) : nI a / nI d = nI (a / d) := by
  apply Int32.toInt_inj.mp
  rw [lg_idiv_nonneg (by rw [nI_toInt ha]; omega) (by rw [nI_toInt hd]; omega), nI_toInt ha, nI_toInt hd, nI_toInt (Nat.lt_of_le_of_lt (Nat.div_le_self a d) ha)]
  first | rfl | exact (Int.natCast_ediv _ _).symm
theorem pk_rem {a d : Nat} (ha : a < 2 ^ 31) (h0 : 0 < d) (hd : d < 2 ^ 31) : nI a - nI a / nI d * nI d = nI (a % d) := by
  rw [pk_div ha h0 hd, pk_mul, pk_sub (Nat.div_mul_le_self a d)]
  exact congrArg nI (by have := Nat.div_add_mod' a d; omega)
theorem pk_sub_toInt {a b : Nat} (ha : a < 2 ^ 30) (hb : b < 2 ^ 30) : (nI a - nI b).toInt = (a : Int) - b := by
  rw [Int32.toInt_sub, nI_toInt (by omega), nI_toInt (by omega)]
  exact Int.bmod_eq_of_le (by omega) (by omega)
theorem pk_sneg {a b : Nat} (hb : b < 2 ^ 30) (h : a < b) : nI a - nI b < 0 := by
  rw [Int32.lt_iff_toInt_lt, pk_sub_toInt (by omega) hb, show (0 : Int32).toInt = 0 from by decide]
  omega
theorem pk_ix (x : Int32) {n : Nat} (hn : n < 2 ^ 31) : x < 0 ∨ nI n ≤ x ∨ ∃ j : Nat, j < n ∧ x = nI j := by
  by_cases h : x < 0
  · exact Or.inl h
  · obtain ⟨j, hj, rfl⟩ := nI_of h
    by_cases h2 : j < n
    · exact Or.inr (Or.inr ⟨j, h2, rfl⟩)
    · exact Or.inr (Or.inl (nI_le (by omega) hj))
theorem pk_le {x y : Int32} {A B : Prop} (a b : Nat) (f : a ≤ b → A) (g : b < a → B) (hx : x = nI a := by rfl) (hy : y = nI b := by rfl) (ha : a < 2 ^ 31 := by omega) (hb : b < 2 ^ 31 := by omega) : (x ≤ y → A) ∧ (¬ x ≤ y → B) := by
  subst hx hy
  rw [nI_leI ha hb]
  exact ⟨f, fun z => g (by omega)⟩
theorem pk_lt {x y : Int32} {A B : Prop} (a b : Nat) (f : a < b → A) (g : b ≤ a → B) (hx : x = nI a := by rfl) (hy : y = nI b := by rfl) (ha : a < 2 ^ 31 := by omega) (hb : b < 2 ^ 31 := by omega) : (x < y → A) ∧ (¬ x < y → B) := by
  subst hx hy
  rw [nI_ltI ha hb]
  exact ⟨f, fun z => g (by omega)⟩
theorem pk_eq {x y : Int32} {A B : Prop} (a b : Nat) (f : a = b → A) (g : a ≠ b → B) (hx : x = nI a := by rfl) (hy : y = nI b := by rfl) (ha : a < 2 ^ 31 := by omega) (hb : b < 2 ^ 31 := by omega) : (x = y → A) ∧ (¬ x = y → B) := by
  subst hx hy
  rw [nI_eq ha hb]
  exact ⟨f, g⟩
theorem pk_in {x : Int32} (n N : Nat) (h : n < N) (hx : x = nI n := by rfl) (hN : N < 2 ^ 31 := by omega) : vp_in x N := by
  subst hx
  exact vp_in_nI h hN
theorem pk_cl {x : Int32} (n : Nat) (hx : x = nI n := by rfl) (h : n < 2 ^ 31 := by omega) : x.toNatClampNeg = n := by
  subst hx
  exact nI_clamp h
theorem pk_tn {n : Nat} (h : n < 2 ^ 32) : (nI n).toBitVec.toNat = n := Nat.mod_eq_of_lt h
theorem pk_and (x : Int32) {m : Int32} (k : Nat) (hm : m.toBitVec.toNat = 2 ^ k - 1) : x &&& m = nI (x.toBitVec.toNat % 2 ^ k) := by
  apply Int32.toBitVec_inj.mp
  apply BitVec.eq_of_toNat_eq
  rw [Int32.toBitVec_and, BitVec.toNat_and, hm, Nat.and_two_pow_sub_one_eq_mod]
  show _ = (BitVec.ofNat 32 _).toNat
  rw [BitVec.toNat_ofNat]
  exact (Nat.mod_eq_of_lt (Nat.lt_of_le_of_lt (Nat.mod_le _ _) x.toBitVec.isLt)).symm
theorem pk_andN {n : Nat} (h : n < 2 ^ 32) {m : Int32} (k : Nat) (hm : m.toBitVec.toNat = 2 ^ k - 1) : nI n &&& m = nI (n % 2 ^ k) := by
  rw [pk_and _ k hm, pk_tn h]
theorem pk_andE (x : Int32) {m : Int32} (k : Nat) (hm : m.toBitVec.toNat = 2 ^ k - 1) : ∃ j : Nat, j < 2 ^ k ∧ x &&& m = nI j := ⟨_, Nat.mod_lt _ (Nat.two_pow_pos k), pk_and x k hm⟩
theorem pk_andIn (x : Int32) {m : Int32} (k : Nat) (hm : m.toBitVec.toNat = 2 ^ k - 1) (hk : k ≤ 30) : vp_in (x &&& m) (2 ^ k) := by
  obtain ⟨j, hj, e⟩ := pk_andE x k hm
  rw [e]
  exact vp_in_nI hj (Nat.lt_of_le_of_lt (Nat.pow_le_pow_right (by decide) hk) (by decide))
theorem pk_shl (a s : Int32) (k : Nat) (hs : (s.toBitVec.smod 32).toNat = k) : (a <<< s).toBitVec.toNat = a.toBitVec.toNat * 2 ^ k % 2 ^ 32 := by
  show (a.toBitVec <<< (s.toBitVec.smod 32).toNat).toNat = _
  rw [hs, BitVec.toNat_shiftLeft, Nat.shiftLeft_eq]
theorem pk_shlN {n : Nat} (s : Int32) (k : Nat) (hs : (s.toBitVec.smod 32).toNat = k) (h : n * 2 ^ k < 2 ^ 32) : nI n <<< s = nI (n * 2 ^ k) := by
  apply Int32.toBitVec_inj.mp
  apply BitVec.eq_of_toNat_eq
  have hn : n < 2 ^ 32 := Nat.lt_of_le_of_lt (Nat.le_mul_of_pos_right n (Nat.two_pow_pos k)) h
  rw [pk_shl _ _ k hs, pk_tn hn, pk_tn h, Nat.mod_eq_of_lt h]
theorem pk_shr (a s : Int32) (k : Nat) (hs : (s.toBitVec.smod 32).toNat = k) : (a >>> s).toInt = a.toInt >>> k := by
  show (a.toBitVec.sshiftRight (s.toBitVec.smod 32).toNat).toInt = _
  rw [hs, BitVec.toInt_sshiftRight]
  rfl
theorem pk_shrN {n : Nat} (h : n < 2 ^ 31) (s : Int32) (k : Nat) (hs : (s.toBitVec.smod 32).toNat = k) : nI n >>> s = nI (n / 2 ^ k) := by
  apply Int32.toInt_inj.mp
  have h2 : n / 2 ^ k ≤ n := Nat.div_le_self _ _
  rw [pk_shr _ _ k hs, nI_toInt h, nI_toInt (by omega), Int.shiftRight_eq_div_pow]
  rfl
theorem nx_and (a b : Nat) : nI a &&& nI b = nI (a &&& b) := by
  apply Int32.toBitVec_inj.1
  show BitVec.ofNat 32 a &&& BitVec.ofNat 32 b = BitVec.ofNat 32 (a &&& b)
  apply BitVec.eq_of_getLsbD_eq
  intro i hi
  simp [hi]
theorem nx_xor (a b : Nat) : nI a ^^^ nI b = nI (a ^^^ b) := by
  apply Int32.toBitVec_inj.1
  show BitVec.ofNat 32 a ^^^ BitVec.ofNat 32 b = BitVec.ofNat 32 (a ^^^ b)
  apply BitVec.eq_of_getLsbD_eq
  intro i hi
  simp [hi]
theorem s_l : ∀ n, n < 32 → ((nI n &&& 31).toBitVec.smod 32).toNat = n := by decide +kernel
end
section
/-! masks as naturals: members, sums, weights -/
def mb (s p : Nat) : Prop := s.testBit p = true
theorem mb_t {s p : Nat} (h : mb s p) : s.testBit p = true := h
theorem mb_f {s p : Nat} (h : ¬ mb s p) : ¬ s.testBit p = true := h
def nd (a b : Nat) : Nat := a ^^^ (a &&& b)
theorem gb_and {a b p : Nat} : mb (a &&& b) p ↔ mb a p ∧ mb b p := by
  unfold mb; rw [Nat.testBit_and, Bool.and_eq_true]
theorem gb_or {a b p : Nat} : mb (a ||| b) p ↔ mb a p ∨ mb b p := by
  unfold mb; rw [Nat.testBit_or, Bool.or_eq_true]
theorem gb_nd {a b p : Nat} : mb (nd a b) p ↔ mb a p ∧ ¬ mb b p := by
  unfold mb nd
  rw [Nat.testBit_xor, Nat.testBit_and]
  cases a.testBit p <;> cases b.testBit p <;> decide
theorem gb_pw {q p : Nat} : mb (2 ^ q) p ↔ p = q := by
  unfold mb; rw [Nat.testBit_two_pow, decide_eq_true_eq]; exact eq_comm
theorem gb_al {n p : Nat} : mb (2 ^ n - 1) p ↔ p < n := by
  unfold mb; rw [Nat.testBit_two_pow_sub_one, decide_eq_true_eq]
theorem gb_0 {p : Nat} : ¬ mb 0 p := by unfold mb; simp
theorem gb_0i {p : Nat} : mb 0 p ↔ False := ⟨fun h => gb_0 h, False.elim⟩
theorem gb_ext {a b : Nat} (h : ∀ p, mb a p ↔ mb b p) : a = b := by
  apply Nat.eq_of_testBit_eq
  intro i
  exact Bool.eq_iff_iff.mpr (h i)
theorem gb_lt {a n p : Nat} (h : a < 2 ^ n) (hp : mb a p) : p < n := by
  rcases Nat.lt_or_ge p n with z | z
  · exact z
  · have e : a.testBit p = false := Nat.testBit_lt_two_pow (Nat.lt_of_lt_of_le h (Nat.pow_le_pow_right (by decide) z))
    unfold mb at hp; rw [e] at hp; exact absurd hp (by decide)
theorem gb_ltI {a n : Nat} (h : ∀ p, mb a p → p < n) : a < 2 ^ n := by
  apply Nat.lt_pow_two_of_testBit
  intro i hi
  cases e : a.testBit i with
  | false => rfl
  | true => have := h i e; omega
theorem gb_ne {a : Nat} (h : a ≠ 0) : ∃ p, mb a p := by
  obtain ⟨i, hi⟩ := Nat.exists_testBit_of_ne_zero h
  exact ⟨i, hi⟩
theorem gb_ne0 {a p : Nat} (h : mb a p) : a ≠ 0 := fun z => gb_0 (z ▸ h)
theorem gb_z {a : Nat} (h : ∀ p, ¬ mb a p) : a = 0 := gb_ext (fun p => ⟨fun z => absurd z (h p), fun z => absurd z gb_0⟩)
theorem gb_le {a b : Nat} (h : ∀ p, mb a p → mb b p) : a ≤ b := by
  have e : a = a &&& b := gb_ext (fun p => ⟨fun z => gb_and.mpr ⟨z, h p z⟩, fun z => (gb_and.mp z).1⟩)
  rw [e]; exact Nat.and_le_right
theorem gb_slt {a b p : Nat} (h : ∀ p, mb a p → mb b p) (hp : mb b p) (hn : ¬ mb a p) : a < b := by
  rcases Nat.lt_or_ge a b with z | z
  · exact z
  · have e : a = b := Nat.le_antisymm (gb_le h) z
    exact absurd (e ▸ hp) hn
theorem gb_pwlt {p n : Nat} (h : p < n) : 2 ^ p < 2 ^ n := Nat.pow_lt_pow_right (by decide) h
theorem gb_ndle (a b : Nat) : nd a b ≤ a := gb_le (fun _ h => (gb_nd.mp h).1)
theorem gb_delt {a p : Nat} (h : mb a p) : nd a (2 ^ p) < a := gb_slt (p := p) (fun _ z => (gb_nd.mp z).1) h (fun z => (gb_nd.mp z).2 (gb_pw.mpr rfl))
theorem gb_512 {n s : Nat} (hn : n ≤ 9) (h : s < 2 ^ n) : s < 512 := Nat.lt_of_lt_of_le h (Nat.pow_le_pow_right (by decide) hn : 2 ^ n ≤ 2 ^ 9)
theorem gb_p2 {n : Nat} (hn : n ≤ 9) : 2 ^ n ≤ 512 := (Nat.pow_le_pow_right (by decide) hn : 2 ^ n ≤ 2 ^ 9)
/-- a submask: subtraction takes its members away -/
theorem gb_sub : ∀ (a b : Nat), (∀ p, mb b p → mb a p) → a = b + nd a b := by
  intro a
  induction a using Nat.strongRecOn with
  | ind a ih =>
    intro b h
    by_cases z : a = 0
    · subst z
      have e : b = 0 := gb_z (fun p hp => gb_0 (h p hp))
      subst e; rfl
    · have h2 : ∀ p, mb (b / 2) p → mb (a / 2) p := by
        intro p hp
        have := h (p + 1) (by unfold mb at *; rw [Nat.testBit_add_one]; exact hp)
        unfold mb at *; rw [Nat.testBit_add_one] at this; exact this
      have i1 := ih (a / 2) (by omega) (b / 2) h2
      have e1 : nd a b / 2 = nd (a / 2) (b / 2) := by
        apply Nat.eq_of_testBit_eq
        intro i
        rw [← Nat.testBit_add_one]
        unfold nd
        rw [Nat.testBit_xor, Nat.testBit_and, Nat.testBit_xor, Nat.testBit_and, Nat.testBit_add_one, Nat.testBit_add_one]
      have h0 := h 0
      have e0 : mb (nd a b) 0 ↔ mb a 0 ∧ ¬ mb b 0 := gb_nd
      unfold mb at h0 e0
      rw [Nat.testBit_zero, Nat.testBit_zero, decide_eq_true_eq, decide_eq_true_eq] at h0
      rw [Nat.testBit_zero, Nat.testBit_zero, Nat.testBit_zero, decide_eq_true_eq, decide_eq_true_eq, decide_eq_true_eq] at e0
      rw [← e1] at i1
      rcases Nat.mod_two_eq_zero_or_one (nd a b) with z1 | z1
      · have : ¬ (a % 2 = 1 ∧ ¬ b % 2 = 1) := fun q => by have := e0.mpr q; omega
        omega
      · have := e0.mp z1
        omega
theorem gb_subm {a b : Nat} (h : ∀ p, mb b p → mb a p) : a - b = nd a b := by
  have := gb_sub a b h
  omega
/-- the next smaller submask -/
theorem gb_next : ∀ (t a q : Nat), 0 < a → (∀ p, mb a p → mb t p) → (∀ p, mb q p → mb t p) → q < a → q ≤ (a - 1) &&& t := by
  intro t
  induction t using Nat.strongRecOn with
  | ind t ih =>
    intro a q ha hat hqt hq
    have hl : ∀ {x : Nat}, (∀ p, mb x p → mb t p) → ∀ p, mb (x / 2) p → mb (t / 2) p := by
      intro x hx p hp
      have := hx (p + 1) (by unfold mb at *; rw [Nat.testBit_add_one]; exact hp)
      unfold mb at *; rw [Nat.testBit_add_one] at this; exact this
    by_cases z : t = 0
    · subst z
      have e : a = 0 := gb_z (fun p hp => gb_0 (hat p hp))
      omega
    rcases Nat.mod_two_eq_zero_or_one a with z1 | z1
    · have e := ih (t / 2) (by omega) (a / 2) (q / 2) (by omega) (hl hat) (hl hqt) (by omega)
      have e1 : ((a - 1) &&& t) / 2 = (a / 2 - 1) &&& (t / 2) := by
        have e2 : (a - 1) / 2 = a / 2 - 1 := by omega
        rw [← e2]
        apply Nat.eq_of_testBit_eq
        intro i
        rw [← Nat.testBit_add_one, Nat.testBit_and, Nat.testBit_and, Nat.testBit_add_one, Nat.testBit_add_one]
      have h0 := hqt 0
      have e0 : mb ((a - 1) &&& t) 0 ↔ mb (a - 1) 0 ∧ mb t 0 := gb_and
      unfold mb at h0 e0
      rw [Nat.testBit_zero, Nat.testBit_zero, decide_eq_true_eq, decide_eq_true_eq] at h0
      rw [Nat.testBit_zero, Nat.testBit_zero, Nat.testBit_zero, decide_eq_true_eq, decide_eq_true_eq, decide_eq_true_eq] at e0
      rw [← e1] at e
      rcases Nat.mod_two_eq_zero_or_one q with z2 | z2
      · omega
      · have := e0.mpr ⟨by omega, h0 z2⟩
        omega
    · have e : (a - 1) &&& t = a - 1 := by
        apply gb_ext
        intro p
        rw [gb_and]
        refine ⟨fun z => z.1, fun z => ⟨z, hat p ?_⟩⟩
        cases p with
        | zero => unfold mb; rw [Nat.testBit_zero, decide_eq_true_eq]; exact z1
        | succ p =>
          unfold mb at *
          rw [Nat.testBit_add_one] at *
          rw [show (a - 1) / 2 = a / 2 from by omega] at z
          exact z
      rw [e]; omega
/-! finite sums -/
def sm (f : Nat → Nat) : Nat → Nat
  | 0 => 0
  | k + 1 => sm f k + f k
theorem sm_c {f g : Nat → Nat} : ∀ {k : Nat}, (∀ i, i < k → f i = g i) → sm f k = sm g k
  | 0, _ => rfl
  | k + 1, h => by
    have a := sm_c (f := f) (g := g) (k := k) (fun i hi => h i (by omega))
    simp only [sm]; rw [a, h k (by omega)]
theorem sm_add (f g : Nat → Nat) : ∀ k, sm (fun i => f i + g i) k = sm f k + sm g k
  | 0 => rfl
  | k + 1 => by simp only [sm]; rw [sm_add f g k]; omega
theorem sm_mul (c : Nat) (f : Nat → Nat) : ∀ k, sm (fun i => c * f i) k = c * sm f k
  | 0 => rfl
  | k + 1 => by simp only [sm]; rw [sm_mul c f k, Nat.mul_add]
theorem sm_0 {f : Nat → Nat} : ∀ {k : Nat}, (∀ i, i < k → f i = 0) → sm f k = 0
  | 0, _ => rfl
  | k + 1, h => by
    have a := sm_0 (f := f) (k := k) (fun i hi => h i (by omega))
    simp only [sm]; rw [a, h k (by omega)]
theorem sm_le {f g : Nat → Nat} : ∀ {k : Nat}, (∀ i, i < k → f i ≤ g i) → sm f k ≤ sm g k
  | 0, _ => Nat.le_refl _
  | k + 1, h => by
    have a := sm_le (f := f) (g := g) (k := k) (fun i hi => h i (by omega))
    have b := h k (by omega)
    simp only [sm]; omega
theorem sm_sw (f : Nat → Nat → Nat) (b : Nat) : ∀ a, sm (fun i => sm (f i) b) a = sm (fun j => sm (fun i => f i j) a) b
  | 0 => (sm_0 (fun _ _ => rfl)).symm
  | a + 1 => by simp only [sm]; rw [sm_sw f b a, sm_add]
theorem sm_split (f : Nat → Nat) (a : Nat) : ∀ b, sm f (a + b) = sm f a + sm (fun i => f (a + i)) b
  | 0 => rfl
  | b + 1 => by
    have e := sm_split f a b
    show sm f (a + b) + f (a + b) = _ + (sm (fun i => f (a + i)) b + f (a + b))
    omega
theorem sm_ext {f : Nat → Nat} {a b : Nat} (h : a ≤ b) (hz : ∀ i, a ≤ i → i < b → f i = 0) : sm f b = sm f a := by
  obtain ⟨c, rfl⟩ : ∃ c, b = a + c := ⟨b - a, by omega⟩
  rw [sm_split, sm_0 (fun i hi => hz (a + i) (by omega) (by omega))]; rfl
theorem sm_one {f : Nat → Nat} {k p : Nat} (hp : p < k) (h : ∀ i, i < k → i ≠ p → f i = 0) : sm f k = f p := by
  rw [sm_ext (a := p + 1) (by omega) (fun i h1 h2 => h i h2 (by omega))]
  simp only [sm]
  rw [sm_0 (fun i hi => h i (by omega) (by omega)), Nat.zero_add]
theorem sm_pos {f : Nat → Nat} : ∀ {k : Nat}, 0 < sm f k ↔ ∃ i, i < k ∧ 0 < f i
  | 0 => ⟨fun h => absurd h (by simp [sm]), fun ⟨i, hi, _⟩ => absurd hi (by omega)⟩
  | k + 1 => by
    simp only [sm]
    constructor
    · intro h
      by_cases z : 0 < f k
      · exact ⟨k, by omega, z⟩
      · obtain ⟨i, hi, hf⟩ := (sm_pos (f := f) (k := k)).mp (by omega)
        exact ⟨i, by omega, hf⟩
    · rintro ⟨i, hi, hf⟩
      by_cases z : i = k
      · subst z; omega
      · have := (sm_pos (f := f) (k := k)).mpr ⟨i, by omega, hf⟩
        omega
/-! weight and size of a set -/
def wt (w : Nat → Nat) (s : Nat) : Nat := sm (fun p => if s.testBit p then w p else 0) 9
def pc (s : Nat) : Nat := wt (fun _ => 1) s
theorem wt_split (w : Nat → Nat) (a b : Nat) : wt w (a &&& b) + wt w (nd a b) = wt w a := by
  unfold wt
  rw [← sm_add]
  apply sm_c
  intro i _
  unfold nd
  rw [Nat.testBit_xor, Nat.testBit_and]
  cases a.testBit i <;> cases b.testBit i <;> simp
theorem wt_mono (w : Nat → Nat) {a b : Nat} (h : ∀ p, mb a p → mb b p) : wt w a ≤ wt w b := by
  apply sm_le
  intro i _
  have := h i
  unfold mb at this
  cases e : a.testBit i with
  | false => simp
  | true => rw [this e]; simp
theorem wt_pw (w : Nat → Nat) {p : Nat} (hp : p < 9) : wt w (2 ^ p) = w p := by
  unfold wt
  rw [sm_one hp]
  · rw [Nat.testBit_two_pow_self]; simp
  · intro i _ hi
    rw [Nat.testBit_two_pow_of_ne (fun z => hi z.symm)]; simp
theorem wt_del (w : Nat → Nat) {a p : Nat} (hp : p < 9) (h : mb a p) : wt w (nd a (2 ^ p)) + w p = wt w a := by
  have e : a &&& 2 ^ p = 2 ^ p := gb_ext (fun i => by
    rw [gb_and, gb_pw]
    exact ⟨fun z => z.2, fun z => ⟨z ▸ h, z⟩⟩)
  have s := wt_split w a (2 ^ p)
  rw [e, wt_pw w hp] at s
  omega
theorem wt_ins (w : Nat → Nat) {a p : Nat} (hp : p < 9) (h : ¬ mb a p) : wt w (a ||| 2 ^ p) = wt w a + w p := by
  have e : nd (a ||| 2 ^ p) (2 ^ p) = a := gb_ext (fun i => by
    rw [gb_nd, gb_or, gb_pw]
    refine ⟨fun ⟨z1, z2⟩ => z1.resolve_right z2, fun z => ⟨Or.inl z, fun q => h (q ▸ z)⟩⟩)
  have s := wt_del w (a := a ||| 2 ^ p) hp (gb_or.mpr (Or.inr (gb_pw.mpr rfl)))
  rw [e] at s
  omega
theorem wt_z (w : Nat → Nat) : wt w 0 = 0 := sm_0 (fun i _ => by simp)
theorem wt_20 {w : Nat → Nat} (h : ∀ p, p < 9 → w p ≤ 20) (s : Nat) : wt w s ≤ 180 := by
  have a : wt w s ≤ sm (fun _ => 20) 9 := sm_le (fun i hi => by have := h i hi; cases s.testBit i <;> simp <;> omega)
  exact a
theorem pc_9 (s : Nat) : pc s ≤ 9 := by
  have a : pc s ≤ sm (fun _ => 1) 9 := sm_le (fun i hi => by cases s.testBit i <;> simp)
  exact a
theorem pc_pos {a p : Nat} (hp : p < 9) (h : mb a p) : 0 < pc a := by
  have := wt_del (fun _ => 1) hp h
  unfold pc; omega
theorem pc_del {a p : Nat} (hp : p < 9) (h : mb a p) : pc (nd a (2 ^ p)) + 1 = pc a := wt_del (fun _ => 1) hp h
theorem pc_ins {a p : Nat} (hp : p < 9) (h : ¬ mb a p) : pc (a ||| 2 ^ p) = pc a + 1 := wt_ins (fun _ => 1) hp h
theorem pc_split (a b : Nat) : pc (a &&& b) + pc (nd a b) = pc a := wt_split _ a b
theorem pc_mono {a b : Nat} (h : ∀ p, mb a p → mb b p) : pc a ≤ pc b := wt_mono _ h
theorem pc_0 : pc 0 = 0 := wt_z _
theorem pc_nz {a : Nat} (h : a < 512) (hz : a ≠ 0) : 0 < pc a := by
  obtain ⟨p, hp⟩ := gb_ne hz
  exact pc_pos (gb_lt (n := 9) h hp) hp
/-! ints -/
theorem cv_or (a b : Nat) : nI a ||| nI b = nI (a ||| b) := by
  apply Int32.toBitVec_inj.1
  show BitVec.ofNat 32 a ||| BitVec.ofNat 32 b = BitVec.ofNat 32 (a ||| b)
  apply BitVec.eq_of_getLsbD_eq
  intro i hi
  simp [hi]
theorem cv_nd (a b : Nat) : nI a &&& (nI b ^^^ (-1)) = nI (nd a b) := by
  apply Int32.toBitVec_inj.1
  show BitVec.ofNat 32 a &&& (BitVec.ofNat 32 b ^^^ BitVec.allOnes 32) = BitVec.ofNat 32 (nd a b)
  apply BitVec.eq_of_getLsbD_eq
  intro i hi
  unfold nd
  simp only [BitVec.getLsbD_and, BitVec.getLsbD_xor, BitVec.getLsbD_ofNat, BitVec.getLsbD_allOnes, hi, decide_true, Bool.true_and, Nat.testBit_xor, Nat.testBit_and]
  cases a.testBit i <;> cases b.testBit i <;> rfl
theorem cv_bit {p : Nat} (h : p < 31) : (1 : Int32) <<< (nI p &&& 31) = nI (2 ^ p) := by
  have e := pk_shlN (n := 1) (nI p &&& 31) p (s_l p (by omega)) (by rw [Nat.one_mul]; exact Nat.pow_lt_pow_right (by decide) (by omega))
  rw [Nat.one_mul] at e
  exact e
theorem cv_all {n : Nat} (h : n < 31) : ((1 : Int32) <<< (nI n &&& 31)) - 1 = nI (2 ^ n - 1) := by
  rw [cv_bit h]
  exact pk_sub (b := 1) (Nat.two_pow_pos n)
theorem cv_tb {s p : Nat} (hs : s < 2 ^ 31) (hp : p < 32) : (nI s >>> (nI p &&& 31)) &&& 1 = nI (if s.testBit p then 1 else 0) := by
  rw [pk_shrN hs _ p (s_l p hp)]
  show nI _ &&& nI 1 = _
  rw [nx_and, Nat.and_one_is_mod, Nat.testBit_eq_decide_div_mod_eq]
  apply congrArg nI
  generalize s / 2 ^ p = z
  rcases Nat.mod_two_eq_zero_or_one z with h | h <;> rw [h] <;> rfl
theorem cv_t1 {s p : Nat} (hs : s < 2 ^ 31) (hp : p < 32) : (nI s >>> (nI p &&& 31)) &&& 1 = 1 ↔ mb s p := by
  rw [cv_tb hs hp]
  unfold mb
  cases s.testBit p <;> decide
theorem cv_t0 {s p : Nat} (hs : s < 2 ^ 31) (hp : p < 32) : (nI s >>> (nI p &&& 31)) &&& 1 = 0 ↔ ¬ mb s p := by
  rw [cv_tb hs hp]
  unfold mb
  cases s.testBit p <;> decide
theorem cv_low : ∀ s, s < 512 → ∀ p, p < 9 → s.testBit p = true → (∀ j, j < p → s.testBit j = false) → nI s &&& (- nI s) = nI (2 ^ p) := by
  decide +kernel
end
section
/-! the graph: cliques, independent sets, full cliques -/
def Gr (n : Nat) (N : Nat → Nat) : Prop := 2 ≤ n ∧ n ≤ 9 ∧ (∀ p q, mb (N p) q → p < n ∧ q < n) ∧ (∀ p, ¬ mb (N p) p) ∧ (∀ p q, mb (N p) q → mb (N q) p)
def Cq (N : Nat → Nat) (s : Nat) : Prop := ∀ p q, mb s p → mb s q → p ≠ q → mb (N p) q
def Ind (N : Nat → Nat) (s : Nat) : Prop := ∀ p q, mb s p → mb s q → ¬ mb (N p) q
def Sbq (N : Nat → Nat) (R P s : Nat) : Prop := (∀ p, mb R p → mb s p) ∧ (∀ p, mb s p → mb R p ∨ mb P p) ∧ Cq N s
def Mx (N : Nat → Nat) (R P X s : Nat) : Prop := Sbq N R P s ∧ ∀ v, mb P v ∨ mb X v → ¬ mb s v → ∃ c, mb s c ∧ ¬ mb (N v) c
def Fl (n : Nat) (N : Nat → Nat) (s : Nat) : Prop := Cq N s ∧ ∀ p, p < n → ¬ mb s p → ¬ Cq N (s ||| 2 ^ p)
theorem gr_lt {n : Nat} {N : Nat → Nat} (G : Gr n N) (p : Nat) : N p < 2 ^ n := gb_ltI (fun q h => (G.2.2.1 p q h).2)
theorem gr_512 {n : Nat} {N : Nat → Nat} (G : Gr n N) (p : Nat) : N p < 512 := gb_512 G.2.1 (gr_lt G p)
theorem cq_0 (N : Nat → Nat) : Cq N 0 := fun _ _ h => absurd h gb_0
theorem cq_sub {N : Nat → Nat} {a b : Nat} (h : Cq N b) (hs : ∀ p, mb a p → mb b p) : Cq N a := fun p q hp hq hn => h p q (hs p hp) (hs q hq) hn
theorem cq_ins {n : Nat} {N : Nat → Nat} (G : Gr n N) {R p : Nat} (h : Cq N R) (hp : ∀ r, mb R r → mb (N p) r) : Cq N (R ||| 2 ^ p) := by
  intro a b ha hb hab
  rw [gb_or, gb_pw] at ha hb
  rcases ha with ha | ha
  · rcases hb with hb | hb
    · exact h a b ha hb hab
    · subst hb; exact G.2.2.2.2 _ _ (hp a ha)
  · subst ha
    rcases hb with hb | hb
    · exact hp b hb
    · exact absurd hb.symm hab
theorem sb_0 {N : Nat → Nat} {R s : Nat} (h : Cq N R) : Sbq N R 0 s ↔ s = R := by
  constructor
  · rintro ⟨h1, h2, _⟩
    exact gb_ext (fun p => ⟨fun z => (h2 p z).resolve_right gb_0, h1 p⟩)
  · rintro rfl
    exact ⟨fun _ z => z, fun _ z => Or.inl z, h⟩
theorem sb_self {N : Nat → Nat} {R P : Nat} (h : Cq N R) : Sbq N R P R := ⟨fun _ z => z, fun _ z => Or.inl z, h⟩
/-- the step of the search: p comes in, or not -/
theorem sb_step {N : Nat → Nat} {R P p s : Nat} (hp : mb P p) : Sbq N R P s ↔ Sbq N (R ||| 2 ^ p) (nd P (2 ^ p) &&& N p) s ∨ Sbq N R (nd P (2 ^ p)) s := by
  constructor
  · rintro ⟨h1, h2, h3⟩
    by_cases z : mb s p
    · refine Or.inl ⟨fun q hq => ?_, fun q hq => ?_, h3⟩
      · rw [gb_or, gb_pw] at hq
        rcases hq with hq | hq
        · exact h1 q hq
        · subst hq; exact z
      · rw [gb_or, gb_pw, gb_and, gb_nd, gb_pw]
        by_cases e : q = p
        · exact Or.inl (Or.inr e)
        · rcases h2 q hq with a | a
          · exact Or.inl (Or.inl a)
          · exact Or.inr ⟨⟨a, e⟩, h3 p q z hq (fun y => e y.symm)⟩
    · refine Or.inr ⟨h1, fun q hq => ?_, h3⟩
      rw [gb_nd, gb_pw]
      rcases h2 q hq with a | a
      · exact Or.inl a
      · exact Or.inr ⟨a, fun y => z (y ▸ hq)⟩
  · rintro (⟨h1, h2, h3⟩ | ⟨h1, h2, h3⟩)
    · refine ⟨fun q hq => h1 q (gb_or.mpr (Or.inl hq)), fun q hq => ?_, h3⟩
      have := h2 q hq
      rw [gb_or, gb_pw, gb_and, gb_nd, gb_pw] at this
      rcases this with (a | a) | a
      · exact Or.inl a
      · exact Or.inr (a ▸ hp)
      · exact Or.inr a.1.1
    · refine ⟨h1, fun q hq => ?_, h3⟩
      have := h2 q hq
      rw [gb_nd] at this
      rcases this with a | a
      · exact Or.inl a
      · exact Or.inr a.1
theorem sb_has {N : Nat → Nat} {R P p s : Nat} (h : Sbq N (R ||| 2 ^ p) P s) : mb s p := h.1 p (gb_or.mpr (Or.inr (gb_pw.mpr rfl)))
theorem sb_hasnt {N : Nat → Nat} {R P p s : Nat} (hR : ¬ mb R p) (h : Sbq N R (nd P (2 ^ p)) s) : ¬ mb s p := by
  intro z
  rcases h.2.1 p z with a | a
  · exact hR a
  · rw [gb_nd] at a; exact a.2 (gb_pw.mpr rfl)
/-- every candidate is joined with all of the clique so far -/
def Ad (N : Nat → Nat) (R P : Nat) : Prop := ∀ v, mb P v → ∀ r, mb R r → mb (N v) r
theorem ad_not {n : Nat} {N : Nat → Nat} (G : Gr n N) {R P v : Nat} (h : Ad N R P) (hv : mb P v) : ¬ mb R v := fun z => G.2.2.2.1 v (h v hv v z)
theorem ad_sub {N : Nat → Nat} {R P Q : Nat} (h : Ad N R P) (hs : ∀ p, mb Q p → mb P p) : Ad N R Q := fun v hv => h v (hs v hv)
theorem ad_ins {n : Nat} {N : Nat → Nat} (G : Gr n N) {R P Q p : Nat} (h : Ad N R P) (hs : ∀ v, mb Q v → mb P v ∧ mb (N p) v) : Ad N (R ||| 2 ^ p) Q := by
  intro v hv r hr
  rw [gb_or, gb_pw] at hr
  rcases hr with hr | hr
  · exact h v (hs v hv).1 r hr
  · subst hr; exact G.2.2.2.2 _ _ (hs v hv).2
theorem mx_leaf {N : Nat → Nat} {R s : Nat} (h : Cq N R) : Mx N R 0 0 s ↔ s = R := by
  constructor
  · rintro ⟨h1, _⟩; exact (sb_0 h).mp h1
  · intro e; exact ⟨(sb_0 h).mpr e, fun v hv => (hv.elim gb_0 gb_0).elim⟩
theorem mx_step {n : Nat} {N : Nat → Nat} (G : Gr n N) {R P X p s : Nat} (hp : mb P p) : Mx N R P X s ↔ Mx N (R ||| 2 ^ p) (P &&& N p) (X &&& N p) s ∨ Mx N R (nd P (2 ^ p)) (X ||| 2 ^ p) s := by
  have eP : nd P (2 ^ p) &&& N p = P &&& N p := gb_ext (fun q => by
    rw [gb_and, gb_nd, gb_pw, gb_and]
    refine ⟨fun z => ⟨z.1.1, z.2⟩, fun z => ⟨⟨z.1, fun e => G.2.2.2.1 p (e ▸ z.2)⟩, z.2⟩⟩)
  have st := sb_step (N := N) (R := R) (s := s) hp
  rw [eP] at st
  constructor
  · rintro ⟨h1, h2⟩
    rcases st.mp h1 with a | a
    · refine Or.inl ⟨a, fun v hv hn => h2 v ?_ hn⟩
      rw [gb_and, gb_and] at hv
      exact hv.imp (fun z => z.1) (fun z => z.1)
    · refine Or.inr ⟨a, fun v hv hn => h2 v ?_ hn⟩
      rw [gb_nd, gb_or, gb_pw] at hv
      rcases hv with z | z | z
      · exact Or.inl z.1
      · exact Or.inr z
      · exact Or.inl (z ▸ hp)
  · rintro (⟨h1, h2⟩ | ⟨h1, h2⟩)
    · refine ⟨st.mpr (Or.inl h1), fun v hv hn => ?_⟩
      by_cases z : mb (N p) v
      · refine h2 v ?_ hn
        rw [gb_and, gb_and]
        exact hv.imp (fun y => ⟨y, z⟩) (fun y => ⟨y, z⟩)
      · exact ⟨p, sb_has h1, fun y => z (G.2.2.2.2 _ _ y)⟩
    · refine ⟨st.mpr (Or.inr h1), fun v hv hn => h2 v ?_ hn⟩
      rw [gb_nd, gb_or, gb_pw]
      by_cases e : v = p
      · exact Or.inr (Or.inr e)
      · exact hv.imp (fun y => ⟨y, e⟩) (fun y => Or.inl y)
theorem mx_dead {n : Nat} {N : Nat → Nat} (G : Gr n N) {R P X u s : Nat} (hu : mb P u ∨ mb X u) (hT : nd P (N u) = 0) (hP : Ad N R P) (hX : Ad N R X) : ¬ Mx N R P X s := by
  rintro ⟨⟨h1, h2, h3⟩, h4⟩
  have hT' : ∀ c, mb P c → mb (N u) c := fun c hc => Classical.byContradiction (fun z => gb_0 (hT ▸ gb_nd.mpr ⟨hc, z⟩))
  have hR : ∀ r, mb R r → mb (N u) r := fun r hr => hu.elim (fun z => hP u z r hr) (fun z => hX u z r hr)
  have hs : ∀ c, mb s c → mb (N u) c := fun c hc => (h2 c hc).elim (hR c) (hT' c)
  by_cases z : mb s u
  · exact G.2.2.2.1 u (hs u z)
  · obtain ⟨c, hc, hn⟩ := h4 u hu z
    exact hn (hs c hc)
theorem mx_top {n : Nat} {N : Nat → Nat} (G : Gr n N) {s : Nat} : Mx N 0 (2 ^ n - 1) 0 s ↔ s < 2 ^ n ∧ Fl n N s := by
  constructor
  · rintro ⟨⟨h1, h2, h3⟩, h4⟩
    refine ⟨gb_ltI (fun p hp => gb_al.mp ((h2 p hp).resolve_left gb_0)), h3, fun p hp hn hc => ?_⟩
    obtain ⟨c, hc1, hc2⟩ := h4 p (Or.inl (gb_al.mpr hp)) hn
    exact hc2 (hc p c (gb_or.mpr (Or.inr (gb_pw.mpr rfl))) (gb_or.mpr (Or.inl hc1)) (fun e => hn (e ▸ hc1)))
  · rintro ⟨h1, h2, h3⟩
    refine ⟨⟨fun p hp => absurd hp gb_0, fun p hp => Or.inr (gb_al.mpr (gb_lt h1 hp)), h2⟩, fun v hv hn => ?_⟩
    have hv' : v < n := gb_al.mp (hv.resolve_right gb_0)
    refine Classical.byContradiction (fun z => h3 v hv' hn (cq_ins G h2 (fun r hr => ?_)))
    exact Classical.byContradiction (fun y => z ⟨r, hr, y⟩)
/-! how many leaves: the pivot's rule gives three to the third -/
def gg : Nat → Nat
  | 0 => 1 | 1 => 1 | 2 => 2 | 3 => 3 | 4 => 4 | 5 => 6 | 6 => 9 | 7 => 12 | 8 => 18 | _ => 27
theorem gg_step : ∀ s, s < 10 → ∀ k, k < 10 → 1 ≤ k → k ≤ s → k * gg (s - k) ≤ gg s := by decide +kernel
theorem gg_mono : ∀ b, b < 10 → ∀ a, a < 10 → a ≤ b → gg a ≤ gg b := by decide +kernel
theorem gg_pos : ∀ b, b < 10 → 1 ≤ gg b := by decide +kernel
/-! a sorted list of the sets of a family -/
def SL (S : Nat → Prop) (c : Nat) (l : Nat → Nat) : Prop := (∀ i j, i < j → j < c → l i < l j) ∧ (∀ s, S s ↔ ∃ i, i < c ∧ l i = s)
theorem ls_0 : SL (fun _ => False) 0 (fun _ => 0) := ⟨fun _ _ _ h => absurd h (by omega), fun s => ⟨False.elim, fun ⟨i, h, _⟩ => absurd h (by omega)⟩⟩
theorem ls_c {S S' : Nat → Prop} {c : Nat} {l : Nat → Nat} (h : SL S c l) (e : ∀ s, S' s ↔ S s) : SL S' c l := ⟨h.1, fun s => (e s).trans (h.2 s)⟩
theorem ls_ins {S : Nat → Prop} {c k x : Nat} {l l' : Nat → Nat} (h : SL S c l) (hk : k ≤ c) (h1 : ∀ i, i < k → l i < x) (h2 : ∀ i, k ≤ i → i < c → x < l i)
    (e1 : ∀ i, i < k → l' i = l i) (e2 : l' k = x) (e3 : ∀ i, k ≤ i → i < c → l' (i + 1) = l i) : SL (fun s => S s ∨ s = x) (c + 1) l' := by
  have e3' : ∀ i, k < i → i < c + 1 → l' i = l (i - 1) := fun i a b => by
    have := e3 (i - 1) (by omega) (by omega)
    rw [show i - 1 + 1 = i from by omega] at this
    exact this
  constructor
  · intro i j hij hj
    rcases Nat.lt_trichotomy j k with a | a | a
    · rw [e1 i (by omega), e1 j a]; exact h.1 i j hij (by omega)
    · subst a; rw [e1 i hij, e2]; exact h1 i hij
    · rw [e3' j a hj]
      rcases Nat.lt_trichotomy i k with b | b | b
      · rw [e1 i b]; exact h.1 i (j - 1) (by omega) (by omega)
      · subst b; rw [e2]; exact h2 (j - 1) (by omega) (by omega)
      · rw [e3' i b (by omega)]; exact h.1 (i - 1) (j - 1) (by omega) (by omega)
  · intro s
    constructor
    · rintro (a | a)
      · obtain ⟨i, hi, e⟩ := (h.2 s).mp a
        rcases Nat.lt_or_ge i k with b | b
        · exact ⟨i, by omega, (e1 i b).trans e⟩
        · exact ⟨i + 1, by omega, (e3 i b hi).trans e⟩
      · exact ⟨k, by omega, e2.trans a.symm⟩
    · rintro ⟨i, hi, e⟩
      rcases Nat.lt_trichotomy i k with b | b | b
      · exact Or.inl ((h.2 s).mpr ⟨i, by omega, (e1 i b).symm.trans e⟩)
      · subst b; exact Or.inr (e.symm.trans e2)
      · exact Or.inl ((h.2 s).mpr ⟨i - 1, by omega, (e3' i b hi).symm.trans e⟩)
/-! counting -/
noncomputable def b01 (P : Prop) : Nat := @ite Nat P (Classical.propDecidable P) 1 0
theorem b01_t {P : Prop} (h : P) : b01 P = 1 := by unfold b01; rw [if_pos h]
theorem b01_f {P : Prop} (h : ¬ P) : b01 P = 0 := by unfold b01; rw [if_neg h]
theorem b01_c {P Q : Prop} (h : P ↔ Q) : b01 P = b01 Q := by rw [propext h]
noncomputable def cn (P : Nat → Prop) : Nat → Nat
  | 0 => 0
  | k + 1 => cn P k + b01 (P k)
theorem cn_t {P : Nat → Prop} {k : Nat} (h : P k) : cn P (k + 1) = cn P k + 1 := by simp only [cn]; rw [b01_t h]
theorem cn_f {P : Nat → Prop} {k : Nat} (h : ¬ P k) : cn P (k + 1) = cn P k := by simp only [cn]; rw [b01_f h]; rfl
theorem cn_c {P Q : Nat → Prop} : ∀ {k : Nat}, (∀ i, i < k → (P i ↔ Q i)) → cn P k = cn Q k
  | 0, _ => rfl
  | k + 1, h => by simp only [cn]; rw [cn_c (k := k) (fun i hi => h i (by omega)), b01_c (h k (by omega))]
theorem cn_le (P : Nat → Prop) : ∀ k, cn P k ≤ k
  | 0 => Nat.le_refl _
  | k + 1 => by
    have := cn_le P k
    by_cases h : P k
    · rw [cn_t h]; omega
    · rw [cn_f h]; omega
theorem cn_same {P : Nat → Prop} {a : Nat} : ∀ {b : Nat}, a ≤ b → (∀ i, a ≤ i → i < b → ¬ P i) → cn P b = cn P a
  | 0, h, _ => by rw [show a = 0 from by omega]
  | b + 1, h, hz => by
    by_cases e : a = b + 1
    · rw [e]
    · rw [cn_f (hz b (by omega) (by omega)), cn_same (b := b) (by omega) (fun i h1 h2 => hz i h1 (by omega))]
theorem cn_mon {P : Nat → Prop} {a : Nat} : ∀ {b : Nat}, a ≤ b → cn P a ≤ cn P b
  | 0, h => by rw [show a = 0 from by omega]; exact Nat.le_refl _
  | b + 1, h => by
    by_cases e : a = b + 1
    · rw [e]; exact Nat.le_refl _
    · have := cn_mon (P := P) (a := a) (b := b) (by omega)
      simp only [cn]; omega
theorem cn_add {P Q : Nat → Prop} {x : Nat} (hx : ¬ P x) (hQ : ∀ s, Q s ↔ P s ∨ s = x) : ∀ {k : Nat}, cn Q k = cn P k + (if x < k then 1 else 0)
  | 0 => by simp [cn]
  | k + 1 => by
    have ih := cn_add hx hQ (k := k)
    rcases Nat.lt_trichotomy x k with z | z | z
    · rw [if_pos z] at ih; rw [if_pos (by omega)]
      simp only [cn]; rw [ih, b01_c (hQ k), b01_c (P := P k ∨ k = x) (Q := P k) ⟨fun h => h.resolve_right (by omega), Or.inl⟩]; omega
    · subst z
      rw [if_neg (by omega)] at ih; rw [if_pos (by omega)]
      rw [cn_t ((hQ x).mpr (Or.inr rfl)), ih, cn_f hx]
    · rw [if_neg (by omega)] at ih; rw [if_neg (by omega)]
      simp only [cn]; rw [ih, b01_c (hQ k), b01_c (P := P k ∨ k = x) (Q := P k) ⟨fun h => h.resolve_right (by omega), Or.inl⟩]; omega
theorem cn_pos {P : Nat → Prop} {k i : Nat} (hi : i < k) (h : P i) : 0 < cn P k := by
  have a := cn_t h
  have b := cn_mon (P := P) (a := i + 1) (b := k) hi
  omega
theorem cn_ex {P : Nat → Prop} : ∀ {k : Nat}, cn P k ≠ 0 → ∃ i, i < k ∧ P i
  | 0, h => absurd rfl h
  | k + 1, h => by
    by_cases z : P k
    · exact ⟨k, by omega, z⟩
    · rw [cn_f z] at h
      obtain ⟨i, hi, hp⟩ := cn_ex h
      exact ⟨i, by omega, hp⟩
/-- the place of a set in the list is the count of the smaller ones -/
theorem ls_rank {S : Nat → Prop} {c : Nat} {l : Nat → Nat} (h : SL S c l) : ∀ i, i < c → cn S (l i) = i := by
  intro i
  induction i with
  | zero =>
    intro hi
    have a := cn_same (P := S) (a := 0) (b := l 0) (by omega) (fun s _ h2 hs => by
      obtain ⟨j, hj, e⟩ := (h.2 s).mp hs
      by_cases z : j = 0
      · subst z; omega
      · have := h.1 0 j (by omega) hj; omega)
    rw [a]; rfl
  | succ i ih =>
    intro hi
    have h0 := h.1 i (i + 1) (by omega) hi
    have a := cn_same (P := S) (a := l i + 1) (b := l (i + 1)) (by omega) (fun s h1 h2 hs => by
      obtain ⟨j, hj, e⟩ := (h.2 s).mp hs
      rcases Nat.lt_trichotomy j i with z | z | z
      · have := h.1 j i z (by omega); omega
      · subst z; omega
      · by_cases y : j = i + 1
        · subst y; omega
        · have := h.1 (i + 1) j (by omega) hj; omega)
    rw [a, cn_t ((h.2 (l i)).mpr ⟨i, by omega, rfl⟩), ih (by omega)]
theorem ls_count {S : Nat → Prop} {c M : Nat} {l : Nat → Nat} (h : SL S c l) (hM : ∀ s, S s → s < M) : cn S M = c := by
  by_cases z : c = 0
  · have a := cn_same (P := S) (a := 0) (b := M) (by omega) (fun s _ _ hs => by
      obtain ⟨j, hj, e⟩ := (h.2 s).mp hs
      omega)
    rw [a, z]; rfl
  · have hS : S (l (c - 1)) := (h.2 _).mpr ⟨c - 1, by omega, rfl⟩
    have a := cn_same (P := S) (a := l (c - 1) + 1) (b := M) (hM _ hS) (fun s h1 h2 hs => by
      obtain ⟨j, hj, e⟩ := (h.2 s).mp hs
      by_cases y : j = c - 1
      · subst y; omega
      · have := h.1 j (c - 1) (by omega) (by omega); omega)
    rw [a, cn_t hS, ls_rank h (c - 1) (by omega)]; omega
end
section
/-! colourings: k classes that are not joined within -/
def sbs (q s : Nat) : Prop := ∀ p, mb q p → mb s p
def Vd (N : Nat → Nat) (s q : Nat) : Prop := sbs q s ∧ Ind N q
def Col (N : Nat → Nat) : Nat → Nat → Prop
  | 0 => fun s => s = 0
  | k + 1 => fun s => ∃ q, Vd N s q ∧ Col N k (nd s q)
theorem ind_0 (N : Nat → Nat) : Ind N 0 := fun _ _ h => absurd h gb_0
theorem ind_sub {N : Nat → Nat} {a b : Nat} (h : Ind N b) (hs : sbs a b) : Ind N a := fun p q hp hq => h p q (hs p hp) (hs q hq)
theorem ind_1 {n : Nat} {N : Nat → Nat} (G : Gr n N) (p : Nat) : Ind N (2 ^ p) := by
  intro a b ha hb h
  rw [gb_pw] at ha hb
  subst ha; subst hb
  exact G.2.2.2.1 _ h
theorem ind_ins {n : Nat} {N : Nat → Nat} (G : Gr n N) {s p : Nat} (hp : mb s p) : Ind N s ↔ Ind N (nd s (2 ^ p)) ∧ nd s (2 ^ p) &&& N p = 0 := by
  constructor
  · intro h
    refine ⟨ind_sub h (fun q hq => (gb_nd.mp hq).1), gb_z (fun q hq => ?_)⟩
    rw [gb_and, gb_nd] at hq
    exact h p q hp hq.1.1 hq.2
  · rintro ⟨h1, h2⟩ a b ha hb hab
    have hz : ∀ q, mb s q → q ≠ p → ¬ mb (N p) q := fun q hq hn hN => gb_0 (h2 ▸ gb_and.mpr ⟨gb_nd.mpr ⟨hq, fun z => hn (gb_pw.mp z)⟩, hN⟩)
    by_cases ea : a = p
    · subst ea
      by_cases eb : b = a
      · subst eb; exact G.2.2.2.1 _ hab
      · exact hz b hb eb hab
    · by_cases eb : b = p
      · subst eb; exact hz a ha ea (G.2.2.2.2 _ _ hab)
      · exact h1 a b (gb_nd.mpr ⟨ha, fun z => ea (gb_pw.mp z)⟩) (gb_nd.mpr ⟨hb, fun z => eb (gb_pw.mp z)⟩) hab
theorem nd_0 (s : Nat) : nd s 0 = s := gb_ext (fun p => by rw [gb_nd]; exact ⟨fun z => z.1, fun z => ⟨z, gb_0⟩⟩)
theorem nd_z (s : Nat) : nd 0 s = 0 := gb_z (fun p hp => gb_0 (gb_nd.mp hp).1)
theorem nd_nd (s q r : Nat) : nd (nd s q) r = nd (nd s r) q := gb_ext (fun p => by
  rw [gb_nd, gb_nd, gb_nd, gb_nd]
  exact ⟨fun z => ⟨⟨z.1.1, z.2⟩, z.1.2⟩, fun z => ⟨⟨z.1.1, z.2⟩, z.1.2⟩⟩)
theorem sbs_lt {q s M : Nat} (h : sbs q s) (hs : s < M) : q < M := Nat.lt_of_le_of_lt (gb_le h) hs
theorem nd_lt {s M : Nat} (q : Nat) (hs : s < M) : nd s q < M := Nat.lt_of_le_of_lt (gb_ndle s q) hs
theorem col_up {N : Nat → Nat} {k s : Nat} (h : Col N k s) : Col N (k + 1) s :=
  ⟨0, ⟨fun p hp => absurd hp gb_0, ind_0 N⟩, by rw [nd_0]; exact h⟩
theorem col_le {N : Nat → Nat} {k s : Nat} (h : Col N k s) : ∀ {j : Nat}, k ≤ j → Col N j s := by
  intro j hj
  obtain ⟨d, rfl⟩ : ∃ d, j = k + d := ⟨j - k, by omega⟩
  clear hj
  induction d with
  | zero => exact h
  | succ d ih => exact col_up ih
/-- some class holds a given point: it may be taken first -/
theorem col_low {N : Nat → Nat} {p : Nat} : ∀ {k s : Nat}, mb s p → Col N (k + 1) s → ∃ q, Vd N s q ∧ mb q p ∧ Col N k (nd s q) := by
  intro k
  induction k with
  | zero =>
    rintro s hp ⟨q, hq, hc⟩
    refine ⟨q, hq, ?_, hc⟩
    refine Classical.byContradiction (fun z => ?_)
    have h0 : nd s q = 0 := hc
    exact gb_0 (h0 ▸ gb_nd.mpr ⟨hp, z⟩)
  | succ k ih =>
    rintro s hp ⟨q, hq, hc⟩
    by_cases z : mb q p
    · exact ⟨q, hq, z, hc⟩
    · obtain ⟨r, hr, hrp, hcr⟩ := ih (gb_nd.mpr ⟨hp, z⟩) hc
      refine ⟨r, ⟨fun a ha => (gb_nd.mp (hr.1 a ha)).1, hr.2⟩, hrp, q, ⟨fun a ha => gb_nd.mpr ⟨hq.1 a ha, fun y => (gb_nd.mp (hr.1 a y)).2 ha⟩, hq.2⟩, ?_⟩
      rw [nd_nd]; exact hcr
/-- the least number of classes -/
def Lst (N : Nat → Nat) (s m : Nat) : Prop := Col N m s ∧ ∀ j, j < m → ¬ Col N j s
theorem lst_0 (N : Nat → Nat) : Lst N 0 0 := ⟨rfl, fun j h => absurd h (by omega)⟩
theorem lst_le {N : Nat → Nat} {s m k : Nat} (h : Lst N s m) : Col N k s ↔ m ≤ k := by
  constructor
  · intro hc
    rcases Nat.lt_or_ge k m with z | z
    · exact absurd hc (h.2 k z)
    · exact z
  · exact fun z => col_le h.1 z
theorem lst_step {N : Nat → Nat} {M : Nat → Nat} {s p q0 : Nat} (hp : mb s p) (hM : ∀ t, t < s → Lst N t (M t)) (hq : Vd N s q0) (hq0 : mb q0 p)
    (hmin : ∀ q, Vd N s q → mb q p → M (nd s q0) ≤ M (nd s q)) : Lst N s (M (nd s q0) + 1) := by
  have hlt : ∀ q, Vd N s q → mb q p → nd s q < s := fun q _ h => gb_slt (p := p) (fun a ha => (gb_nd.mp ha).1) hp (fun z => (gb_nd.mp z).2 h)
  refine ⟨⟨q0, hq, (hM _ (hlt q0 hq hq0)).1⟩, fun j hj hc => ?_⟩
  cases j with
  | zero => exact gb_ne0 hp hc
  | succ j =>
    obtain ⟨q, hv, hqp, hcq⟩ := col_low hp hc
    have a := (lst_le (hM _ (hlt q hv hqp))).mp hcq
    have b := hmin q hv hqp
    omega
/-! how many colourings -/
noncomputable def Wf (N : Nat → Nat) : Nat → Nat → Nat
  | 0 => fun s => b01 (s = 0)
  | k + 1 => fun s => sm (fun q => b01 (Vd N s q) * Wf N k (nd s q)) 512
noncomputable def Lw (N : Nat → Nat) (k s p : Nat) : Nat := sm (fun q => b01 (Vd N s q ∧ mb q p) * Wf N k (nd s q)) 512
theorem b01_and (P Q : Prop) : b01 P * b01 Q = b01 (P ∧ Q) := by
  by_cases hp : P
  · by_cases hq : Q
    · rw [b01_t hp, b01_t hq, b01_t ⟨hp, hq⟩]
    · rw [b01_t hp, b01_f hq, b01_f (fun z => hq z.2)]
  · rw [b01_f hp, Nat.zero_mul, b01_f (P := P ∧ Q) (fun z => hp z.1)]
theorem b01_sp (P Q : Prop) : b01 P = b01 (P ∧ Q) + b01 (P ∧ ¬ Q) := by
  by_cases hp : P
  · by_cases hq : Q
    · rw [b01_t hp, b01_t ⟨hp, hq⟩, b01_f (fun z => z.2 hq)]
    · rw [b01_t hp, b01_f (fun z => hq z.2), b01_t ⟨hp, hq⟩]
  · rw [b01_f hp, b01_f (fun z => hp z.1), b01_f (fun z => hp z.1)]
theorem wf_pos {N : Nat → Nat} : ∀ {k s : Nat}, s < 512 → (0 < Wf N k s ↔ Col N k s) := by
  intro k
  induction k with
  | zero =>
    intro s _
    by_cases z : s = 0
    · exact ⟨fun _ => z, fun _ => by show 0 < b01 (s = 0); rw [b01_t z]; decide⟩
    · exact ⟨fun h => by have h : 0 < b01 (s = 0) := h; rw [b01_f z] at h; exact absurd h (by decide), fun h => absurd h z⟩
  | succ k ih =>
    intro s hs
    show 0 < sm _ 512 ↔ _
    rw [sm_pos]
    constructor
    · rintro ⟨q, hq, h⟩
      by_cases z : Vd N s q
      · rw [b01_t z, Nat.one_mul] at h
        exact ⟨q, z, (ih (nd_lt q hs)).mp h⟩
      · rw [b01_f z, Nat.zero_mul] at h
        exact absurd h (by decide)
    · rintro ⟨q, hv, hc⟩
      refine ⟨q, sbs_lt hv.1 hs, ?_⟩
      rw [b01_t hv, Nat.one_mul]
      exact (ih (nd_lt q hs)).mpr hc
/-- the colour of one point: any of k + 1 -/
theorem wf_low {N : Nat → Nat} {p : Nat} : ∀ {k s : Nat}, mb s p → Wf N (k + 1) s = (k + 1) * Lw N k s p := by
  intro k
  induction k with
  | zero =>
    intro s hp
    rw [Nat.zero_add, Nat.one_mul]
    apply sm_c
    intro q _
    by_cases z : mb q p
    · rw [b01_c (P := Vd N s q) (Q := Vd N s q ∧ mb q p) ⟨fun h => ⟨h, z⟩, fun h => h.1⟩]
    · have e : Wf N 0 (nd s q) = 0 := b01_f (fun h => gb_0 (h ▸ gb_nd.mpr ⟨hp, z⟩))
      rw [e, Nat.mul_zero, Nat.mul_zero]
  | succ k ih =>
    intro s hp
    have e1 : Wf N (k + 1 + 1) s = Lw N (k + 1) s p + sm (fun q => b01 (Vd N s q ∧ ¬ mb q p) * Wf N (k + 1) (nd s q)) 512 := by
      show sm _ 512 = sm _ 512 + _
      rw [← sm_add]
      apply sm_c
      intro q _
      rw [← Nat.add_mul, ← b01_sp]
    have e2 : sm (fun q => b01 (Vd N s q ∧ ¬ mb q p) * Wf N (k + 1) (nd s q)) 512
        = (k + 1) * sm (fun q => sm (fun r => b01 (Vd N s q ∧ ¬ mb q p) * (b01 (Vd N (nd s q) r ∧ mb r p) * Wf N k (nd (nd s q) r))) 512) 512 := by
      rw [← sm_mul]
      apply sm_c
      intro q _
      rw [sm_mul]
      by_cases z : Vd N s q ∧ ¬ mb q p
      · rw [b01_t z, Nat.one_mul, Nat.one_mul, ih (gb_nd.mpr ⟨hp, z.2⟩)]; rfl
      · rw [b01_f z, Nat.zero_mul, Nat.zero_mul, Nat.mul_zero]
    have e3 : sm (fun q => sm (fun r => b01 (Vd N s q ∧ ¬ mb q p) * (b01 (Vd N (nd s q) r ∧ mb r p) * Wf N k (nd (nd s q) r))) 512) 512 = Lw N (k + 1) s p := by
      rw [sm_sw]
      apply sm_c
      intro r _
      show _ = b01 (Vd N s r ∧ mb r p) * sm (fun q => b01 (Vd N (nd s r) q) * Wf N k (nd (nd s r) q)) 512
      rw [← sm_mul]
      apply sm_c
      intro q _
      rw [← Nat.mul_assoc, ← Nat.mul_assoc, b01_and, b01_and, nd_nd s q r]
      rw [b01_c]
      constructor
      · rintro ⟨⟨⟨h1, h2⟩, h3⟩, ⟨h4, h5⟩, h6⟩
        exact ⟨⟨⟨fun a ha => (gb_nd.mp (h4 a ha)).1, h5⟩, h6⟩, fun a ha => gb_nd.mpr ⟨h1 a ha, fun z => (gb_nd.mp (h4 a z)).2 ha⟩, h2⟩
      · rintro ⟨⟨⟨h1, h2⟩, h3⟩, h4, h5⟩
        exact ⟨⟨⟨fun a ha => (gb_nd.mp (h4 a ha)).1, h5⟩, fun z => (gb_nd.mp (h4 p z)).2 h3⟩, ⟨fun a ha => gb_nd.mpr ⟨h1 a ha, fun z => (gb_nd.mp (h4 a z)).2 ha⟩, h2⟩, h3⟩
    rw [e1, e2, e3, Nat.add_mul (k + 1) 1, Nat.one_mul, Nat.add_comm]
/-- the least member -/
def lbf (s : Nat) : Nat → Nat → Nat
  | 0 => fun j => j
  | k + 1 => fun j => if s.testBit j then j else lbf s k (j + 1)
def lb (s : Nat) : Nat := lbf s 9 0
theorem lbf_ok {s : Nat} (hs : s < 512) (hz : s ≠ 0) : ∀ k j, j + k = 9 → (∀ i, i < j → ¬ mb s i) → mb s (lbf s k j) ∧ ∀ i, i < lbf s k j → ¬ mb s i := by
  intro k
  induction k with
  | zero =>
    intro j hj h
    exact absurd (gb_z (fun p hp => h p (by have := gb_lt (n := 9) hs hp; omega) hp)) hz
  | succ k ih =>
    intro j hj h
    by_cases z : mb s j
    · have e : lbf s (k + 1) j = j := by show (if s.testBit j then j else lbf s k (j + 1)) = j; rw [if_pos (mb_t z)]
      rw [e]; exact ⟨z, h⟩
    · have e : lbf s (k + 1) j = lbf s k (j + 1) := by show (if s.testBit j then j else lbf s k (j + 1)) = _; rw [if_neg (mb_f z)]
      rw [e]
      refine ih (j + 1) (by omega) (fun i hi => ?_)
      by_cases y : i = j
      · subst y; exact z
      · exact h i (by omega)
theorem lb_ok {s : Nat} (hs : s < 512) (hz : s ≠ 0) : mb s (lb s) ∧ ∀ i, i < lb s → ¬ mb s i := lbf_ok hs hz 9 0 rfl (fun i h => absurd h (by omega))
theorem lb_9 {s : Nat} (hs : s < 512) (hz : s ≠ 0) : lb s < 9 := gb_lt (n := 9) hs (lb_ok hs hz).1
theorem lb_cv {s : Nat} (hs : s < 512) (hz : s ≠ 0) : nI s &&& (- nI s) = nI (2 ^ lb s) :=
  cv_low s hs (lb s) (lb_9 hs hz) (lb_ok hs hz).1 (fun j hj => by
    have := (lb_ok hs hz).2 j hj
    unfold mb at this
    cases e : s.testBit j with
    | false => rfl
    | true => exact absurd e this)
/-- in how many ways a set falls into just j classes -/
noncomputable def Af (N : Nat → Nat) : Nat → Nat → Nat
  | 0 => fun s => b01 (s = 0)
  | j + 1 => fun s => b01 (s ≠ 0) * sm (fun q => b01 (Vd N s q ∧ mb q (lb s)) * Af N j (nd s q)) 512
def ff (k : Nat) : Nat → Nat
  | 0 => 1
  | j + 1 => ff k j * (k - j)
theorem ff_s (k : Nat) : ∀ j, (k + 1) * ff k j = ff (k + 1) (j + 1)
  | 0 => by simp [ff]
  | j + 1 => by
    have h := ff_s k j
    show (k + 1) * (ff k j * (k - j)) = ff (k + 1) (j + 1) * (k + 1 - (j + 1))
    rw [← Nat.mul_assoc, h, Nat.add_sub_add_right]
theorem wf_0 (N : Nat → Nat) : ∀ k, Wf N k 0 = 1
  | 0 => b01_t rfl
  | k + 1 => by
    show sm _ 512 = 1
    rw [sm_one (p := 0) (by decide)]
    · rw [nd_z, wf_0 N k, b01_t ⟨fun p hp => absurd hp gb_0, ind_0 N⟩]
    · intro q _ hq
      rw [b01_f (fun z => hq (gb_z (fun p hp => gb_0 (z.1 p hp)))), Nat.zero_mul]
/-- the number of colourings out of the classes -/
theorem wf_af (N : Nat → Nat) : ∀ (k s : Nat), s < 512 → Wf N k s = sm (fun j => Af N j s * ff k j) (k + 1) := by
  intro k
  induction k with
  | zero =>
    intro s _
    show b01 (s = 0) = 0 + b01 (s = 0) * 1
    rw [Nat.zero_add, Nat.mul_one]
  | succ k ih =>
    intro s hs
    have sh : sm (fun j => Af N j s * ff (k + 1) j) (k + 1 + 1) = Af N 0 s * 1 + sm (fun j => Af N (j + 1) s * ff (k + 1) (j + 1)) (k + 1) := by
      rw [show k + 1 + 1 = 1 + (k + 1) from by omega, sm_split]
      have e : sm (fun j => Af N j s * ff (k + 1) j) 1 = Af N 0 s * 1 := by show 0 + Af N 0 s * 1 = _; omega
      rw [e]
      congr 1
      exact sm_c (fun i _ => by rw [Nat.add_comm 1 i])
    rw [sh]
    by_cases z : s = 0
    · subst z
      rw [wf_0, sm_0 (fun j _ => by
        show b01 ((0 : Nat) ≠ 0) * _ * _ = 0
        rw [b01_f (fun h => h rfl), Nat.zero_mul, Nat.zero_mul])]
      show 1 = b01 ((0 : Nat) = 0) * 1 + 0
      rw [b01_t rfl]
    · have e0 : Af N 0 s = 0 := b01_f z
      rw [e0, Nat.zero_mul, Nat.zero_add, wf_low (lb_ok hs z).1]
      have e1 : ∀ j, Af N (j + 1) s = sm (fun q => b01 (Vd N s q ∧ mb q (lb s)) * Af N j (nd s q)) 512 := fun j => by
        show b01 (s ≠ 0) * _ = _
        rw [b01_t z, Nat.one_mul]
      have e2 : Lw N k s (lb s) = sm (fun q => sm (fun j => b01 (Vd N s q ∧ mb q (lb s)) * (Af N j (nd s q) * ff k j)) (k + 1)) 512 := by
        apply sm_c
        intro q _
        rw [sm_mul, ih (nd s q) (nd_lt q hs)]
      rw [e2, sm_sw, ← sm_mul]
      apply sm_c
      intro j _
      rw [e1 j, ← ff_s, Nat.mul_comm _ ((k + 1) * ff k j), Nat.mul_assoc (k + 1), ← sm_mul (ff k j)]
      congr 1
      apply sm_c
      intro q _
      rw [← Nat.mul_assoc, Nat.mul_comm]
/-- sums over all submasks: the binomial law -/
theorem bin_law (c : Nat) : ∀ e, e ≤ 9 → ∀ s, s < 2 ^ e → sm (fun q => b01 (sbs q s) * c ^ pc (nd s q)) (2 ^ e) = (c + 1) ^ pc s := by
  intro e
  induction e with
  | zero =>
    intro _ s hs
    have e0 : s = 0 := by have : s < 1 := hs; omega
    subst e0
    show 0 + b01 (sbs 0 0) * c ^ pc (nd 0 0) = _
    rw [nd_0, pc_0, b01_t (P := sbs 0 0) (fun p hp => hp)]; rfl
  | succ e ih =>
    intro he s hs
    have hor : ∀ q, q < 2 ^ e → 2 ^ e + q = q ||| 2 ^ e := fun q hq => by
      have := Nat.two_pow_add_eq_or_of_lt hq 1
      rw [Nat.mul_one] at this
      rw [this, Nat.or_comm]
    have hnot : ∀ q, q < 2 ^ e → ¬ mb q e := fun q hq z => absurd (gb_lt hq z) (by omega)
    rw [show 2 ^ (e + 1) = 2 ^ e + 2 ^ e from by rw [Nat.pow_succ]; omega, sm_split]
    by_cases z : mb s e
    · obtain ⟨t, ht, rfl⟩ : ∃ t, t < 2 ^ e ∧ s = t ||| 2 ^ e := by
        refine ⟨nd s (2 ^ e), gb_ltI (fun p hp => ?_), gb_ext (fun p => ?_)⟩
        · rw [gb_nd, gb_pw] at hp
          have := gb_lt hs hp.1
          omega
        · rw [gb_or, gb_nd, gb_pw]
          constructor
          · intro h
            by_cases y : p = e
            · exact Or.inr y
            · exact Or.inl ⟨h, y⟩
          · rintro (h | h)
            · exact h.1
            · exact h ▸ z
      have hte : ¬ mb t e := hnot t ht
      have i1 := ih (by omega) t ht
      have a1 : sm (fun q => b01 (sbs q (t ||| 2 ^ e)) * c ^ pc (nd (t ||| 2 ^ e) q)) (2 ^ e) = c * (c + 1) ^ pc t := by
        rw [← i1, ← sm_mul]
        apply sm_c
        intro q hq
        have e1 : nd (t ||| 2 ^ e) q = nd t q ||| 2 ^ e := gb_ext (fun p => by
          rw [gb_nd, gb_or, gb_or, gb_nd, gb_pw]
          constructor
          · rintro ⟨h1 | h1, h2⟩
            · exact Or.inl ⟨h1, h2⟩
            · exact Or.inr h1
          · rintro (h1 | h1)
            · exact ⟨Or.inl h1.1, h1.2⟩
            · exact ⟨Or.inr h1, h1 ▸ hnot q hq⟩)
        have e2 : sbs q (t ||| 2 ^ e) ↔ sbs q t := by
          constructor
          · intro h p hp
            have := h p hp
            rw [gb_or, gb_pw] at this
            rcases this with y | y
            · exact y
            · exact absurd (y ▸ hp) (hnot q hq)
          · intro h p hp
            exact gb_or.mpr (Or.inl (h p hp))
        rw [e1, b01_c e2, pc_ins (by omega) (fun y => hte (gb_nd.mp y).1), Nat.pow_succ, ← Nat.mul_assoc, Nat.mul_comm]
      have a2 : sm (fun i => b01 (sbs (2 ^ e + i) (t ||| 2 ^ e)) * c ^ pc (nd (t ||| 2 ^ e) (2 ^ e + i))) (2 ^ e) = (c + 1) ^ pc t := by
        rw [← i1]
        apply sm_c
        intro q hq
        rw [hor q hq]
        have e1 : nd (t ||| 2 ^ e) (q ||| 2 ^ e) = nd t q := gb_ext (fun p => by
          rw [gb_nd, gb_or, gb_or, gb_nd, gb_pw]
          constructor
          · rintro ⟨h1 | h1, h2⟩
            · exact ⟨h1, fun y => h2 (Or.inl y)⟩
            · exact absurd (Or.inr h1) h2
          · rintro ⟨h1, h2⟩
            exact ⟨Or.inl h1, fun y => y.elim h2 (fun y => hte (y ▸ h1))⟩)
        have e2 : sbs (q ||| 2 ^ e) (t ||| 2 ^ e) ↔ sbs q t := by
          constructor
          · intro h p hp
            have := h p (gb_or.mpr (Or.inl hp))
            rw [gb_or, gb_pw] at this
            rcases this with y | y
            · exact y
            · exact absurd (y ▸ hp) (hnot q hq)
          · intro h p hp
            rw [gb_or] at hp ⊢
            exact hp.imp (h p) id
        rw [e1, b01_c e2]
      rw [a1, a2, pc_ins (by omega) hte, Nat.pow_succ, Nat.mul_comm c, ← Nat.mul_succ]
    · have ht : s < 2 ^ e := gb_ltI (fun p hp => by
        have := gb_lt hs hp
        by_cases y : p = e
        · exact absurd (y ▸ hp) z
        · omega)
      rw [ih (by omega) s ht, sm_0, Nat.add_zero]
      intro q hq
      rw [b01_f, Nat.zero_mul]
      intro h
      rw [hor q hq] at h
      exact z (h e (gb_or.mpr (Or.inr (gb_pw.mpr rfl))))
theorem wf_le {N : Nat → Nat} : ∀ (k s : Nat), s < 512 → Wf N k s ≤ k ^ pc s := by
  intro k
  induction k with
  | zero =>
    intro s hs
    by_cases z : s = 0
    · subst z; rw [pc_0]; show b01 ((0 : Nat) = 0) ≤ 1; rw [b01_t rfl]; exact Nat.le_refl _
    · show b01 (s = 0) ≤ _; rw [b01_f z]; exact Nat.zero_le _
  | succ k ih =>
    intro s hs
    rw [← bin_law k 9 (by decide) s hs]
    apply sm_le
    intro q _
    by_cases z : Vd N s q
    · rw [b01_t z, b01_t z.1, Nat.one_mul, Nat.one_mul]
      exact ih (nd s q) (nd_lt q hs)
    · rw [b01_f z, Nat.zero_mul]; exact Nat.zero_le _
theorem wf_bd {N : Nat → Nat} {k s : Nat} (hk : k ≤ 9) (hs : s < 512) : Wf N k s < 2 ^ 31 := by
  have a := wf_le (N := N) k s hs
  have b : k ^ pc s ≤ 9 ^ pc s := Nat.pow_le_pow_left hk _
  have c : 9 ^ pc s ≤ 9 ^ 9 := Nat.pow_le_pow_right (by decide) (pc_9 s)
  have d : (9 : Nat) ^ 9 < 2 ^ 31 := by decide
  omega
/-! a sum over the submasks in falling order -/
def smg (f : Nat → Nat) (a : Nat) : Nat := sm (fun q => if a < q then f q else 0) 512
theorem smg_top {f : Nat → Nat} {a : Nat} (h : ∀ q, a < q → f q = 0) : smg f a = 0 := sm_0 (fun q _ => by
  by_cases z : a < q
  · rw [if_pos z]; exact h q z
  · rw [if_neg z])
theorem smg_0 {f : Nat → Nat} (h : f 0 = 0) : smg f 0 = sm f 512 := sm_c (fun q _ => by
  by_cases z : 0 < q
  · rw [if_pos z]
  · rw [if_neg z, show q = 0 from by omega, h])
theorem smg_step {f : Nat → Nat} {a b : Nat} (hab : b < a) (ha : a < 512) (h : ∀ q, b < q → q < a → f q = 0) : smg f b = smg f a + f a := by
  have e : f a = sm (fun q => if q = a then f q else 0) 512 := by
    rw [sm_one (p := a) ha (fun i _ hi => if_neg hi), if_pos rfl]
  rw [e]
  unfold smg
  rw [← sm_add]
  apply sm_c
  intro q _
  rcases Nat.lt_trichotomy q a with z | z | z
  · rw [if_neg (show ¬ a < q by omega), if_neg (show ¬ q = a by omega)]
    by_cases y : b < q
    · rw [if_pos y, h q y z]
    · rw [if_neg y]
  · subst z; rw [if_pos hab, if_neg (Nat.lt_irrefl _), if_pos rfl, Nat.zero_add]
  · rw [if_pos z, if_pos (show b < q by omega), if_neg (show ¬ q = a by omega), Nat.add_zero]
end
section
/-! X: the small methods -/
def NR (a : Nat → Int32) (N : Nat → Nat) : Prop := ∀ p, p < 9 → a p = nI (N p)
def WR (a : Nat → Int32) (w : Nat → Nat) : Prop := ∀ p, p < 9 → a p = nI (w p) ∧ 1 ≤ w p ∧ w p ≤ 20
theorem sm_k (c : Nat) : ∀ k, sm (fun _ => c) k = c * k
  | 0 => rfl
  | k + 1 => by simp only [sm]; rw [sm_k c k, Nat.mul_succ]
section
variable {f_found f_bestSet f_bestWeight : Int32} {a_near a_weights a_list a_clique a_open a_gone a_tried a_bySize a_loose a_least : Nat → Int32} {a_ways : Nat → Int64}
variable {n : Nat} {N w : Nat → Nat}
theorem on_lp {post : Int32 → Prop} {s : Nat} (hs : s < 2 ^ 31) (h : post (nI (pc s))) : ∀ k j, j + k = 9 → wX_ones_4 post (nI s) (k + 1) (nI (sm (fun p => if s.testBit p then 1 else 0) j)) (nI j) := by
  intro k
  induction k with
  | zero =>
    intro j hj
    obtain rfl : j = 9 := by omega
    exact br_t (by decide) h
  | succ k ih =>
    intro j hj
    refine pk_le 9 j (fun z => absurd z (by omega)) (fun _ => ?_)
    refine nm_r (e' := nI (sm (fun p => if s.testBit p then 1 else 0) (j + 1))) ?_ (nm_r (nI_1 j) (ih (j + 1) (by omega)))
    rw [cv_tb hs (by omega), nI_add]; rfl
theorem on_w {post : Int32 → Prop} {s : Nat} (hs : s < 2 ^ 31) (h : post (nI (pc s))) : wpX_ones post (nI s) := ⟨10, on_lp hs h 9 0 rfl⟩
theorem lo_lp {s : Nat} (hs : s < 512) (hz : s ≠ 0) : ∀ k j, j + k = 9 → (∀ i, i < j → ¬ mb s i) → ∃ p, p < 9 ∧ mb s p ∧ (∀ i, i < p → ¬ mb s i) ∧ ∀ post : Int32 → Prop, post (nI p) → wX_lowest_2 post (nI s) (k + 1) (nI j) := by
  intro k
  induction k with
  | zero =>
    intro j hj h
    exact absurd (gb_z (fun p hp => h p (by have := gb_lt (n := 9) hs hp; omega) hp)) hz
  | succ k ih =>
    intro j hj h
    by_cases z : mb s j
    · refine ⟨j, by omega, z, h, fun post hp => pk_le 9 j (fun z => absurd z (by omega)) (fun _ => br_f (fun e => (cv_t0 (by omega) (by omega)).mp e z) hp)⟩
    · obtain ⟨p, h1, h2, h3, h4⟩ := ih (j + 1) (by omega) (fun i hi => by
        by_cases y : i = j
        · subst y; exact z
        · exact h i (by omega))
      exact ⟨p, h1, h2, h3, fun post hp => pk_le 9 j (fun z => absurd z (by omega)) (fun _ => br_t ((cv_t0 (by omega) (by omega)).mpr z) (nm_r (nI_1 j) (h4 post hp)))⟩
theorem lo_w {s : Nat} (hs : s < 512) (hz : s ≠ 0) : ∃ p, p < 9 ∧ mb s p ∧ (∀ i, i < p → ¬ mb s i) ∧ ∀ post : Int32 → Prop, post (nI p) → wpX_lowest post (nI s) := by
  obtain ⟨p, h1, h2, h3, h4⟩ := lo_lp hs hz 9 0 rfl (fun i h => absurd h (by omega))
  exact ⟨p, h1, h2, h3, fun post hp => ⟨10, h4 post hp⟩⟩
theorem ip_no {post : Int32 → Prop} {p : Int32} (h : p < 0 ∨ nI n ≤ p) (hp : post 0) : wpX_isPoint post ((nI n), f_found, f_bestSet, f_bestWeight, a_near, a_weights, a_list, a_clique, a_open, a_gone, a_tried, a_bySize, a_loose, a_least, a_ways) p := by
  by_cases z : p < 0
  · exact br_t z hp
  · exact br_f z (br_t (h.resolve_left z) hp)
theorem ip_yes {post : Int32 → Prop} {j : Nat} (hn : n ≤ 9) (hj : j < n) (hp : post 1) : wpX_isPoint post ((nI n), f_found, f_bestSet, f_bestWeight, a_near, a_weights, a_list, a_clique, a_open, a_gone, a_tried, a_bySize, a_loose, a_least, a_ways) (nI j) :=
  br_f (nI_pos (by omega)) (br_f (nI_ge hj (by omega)) hp)
theorem is_no {post : Int32 → Prop} {s : Int32} (hn : n ≤ 9) (h : s < 0 ∨ nI (2 ^ n) ≤ s) (hp : post 0) : wpX_isSet post ((nI n), f_found, f_bestSet, f_bestWeight, a_near, a_weights, a_list, a_clique, a_open, a_gone, a_tried, a_bySize, a_loose, a_least, a_ways) s := by
  by_cases z : s < 0
  · exact br_t z hp
  · refine br_f z (br_t ?_ hp)
    rw [cv_bit (by omega)]; exact h.resolve_left z
theorem is_yes {post : Int32 → Prop} {s : Nat} (hn : n ≤ 9) (hs : s < 2 ^ n) (hp : post 1) : wpX_isSet post ((nI n), f_found, f_bestSet, f_bestWeight, a_near, a_weights, a_list, a_clique, a_open, a_gone, a_tried, a_bySize, a_loose, a_least, a_ways) (nI s) := by
  have b := gb_p2 hn
  refine br_f (nI_pos (by omega)) (br_f ?_ hp)
  rw [cv_bit (by omega)]; exact nI_ge hs (by omega)
theorem pr_lp {post : Int32 → Prop} (G : Gr n N) (hN : NR a_near N) (h : post (nI (sm (fun p => pc (N p)) n / 2))) : ∀ k j, j + k = n → wX_pairs_4 post (nI n) f_found f_bestSet f_bestWeight a_near a_weights a_list a_clique a_open a_gone a_tried a_bySize a_loose a_least a_ways (k + 1) (nI (sm (fun p => pc (N p)) j)) (nI j) := by
  have hn := G.2.1
  intro k
  induction k with
  | zero =>
    intro j hj
    obtain rfl : j = n := by omega
    refine br_t (nI_le (Nat.le_refl _) (by omega)) ?_
    have hb : sm (fun p => pc (N p)) j ≤ 9 * j := by rw [← sm_k]; exact sm_le (fun i _ => pc_9 _)
    rw [pk_shrN (by omega) _ 1 (by decide)]
    exact h
  | succ k ih =>
    intro j hj
    refine pk_le n j (fun z => absurd z (by omega)) (fun _ => ⟨pk_in j 9 (by omega), ?_⟩)
    rw [nI_clamp (n := j) (by omega), hN j (by omega)]
    exact on_w (by have := gr_512 G j; omega) (nm_r (nI_add _ _) (nm_r (nI_1 j) (ih (j + 1) (by omega))))
theorem pr_w {post : Int32 → Prop} (G : Gr n N) (hN : NR a_near N) (h : post (nI (sm (fun p => pc (N p)) n / 2))) : wpX_pairs post ((nI n), f_found, f_bestSet, f_bestWeight, a_near, a_weights, a_list, a_clique, a_open, a_gone, a_tried, a_bySize, a_loose, a_least, a_ways) :=
  ⟨n + 1, pr_lp G hN h n 0 (Nat.zero_add n)⟩
theorem ti_lp {post : Int32 → Prop} (G : Gr n N) (hN : NR a_near N) {s : Nat} (hs : s < 2 ^ n) (h1 : Cq N s → post 1) (h0 : ¬ Cq N s → post 0) :
    ∀ k j, j + k = n → (∀ p, p < j → mb s p → ∀ q, mb s q → q ≠ p → mb (N p) q) → wX_isTight_2 post (nI s) (nI n) f_found f_bestSet f_bestWeight a_near a_weights a_list a_clique a_open a_gone a_tried a_bySize a_loose a_least a_ways (k + 1) (nI j) := by
  have hn := G.2.1
  have h512 := gb_512 hn hs
  intro k
  induction k with
  | zero =>
    intro j hj hi
    obtain rfl : j = n := by omega
    exact br_t (nI_le (Nat.le_refl _) (by omega)) (h1 (fun p q hp hq e => hi p (gb_lt hs hp) hp q hq (Ne.symm e)))
  | succ k ih =>
    intro j hj hi
    refine pk_le n j (fun z => absurd z (by omega)) (fun _ => ?_)
    by_cases z : mb s j
    · refine br_t ((cv_t1 (by omega) (by omega)).mpr z) ⟨pk_in j 9 (by omega), ?_⟩
      rw [nI_clamp (n := j) (by omega), hN j (by omega), cv_bit (by omega), cv_nd, cv_nd]
      by_cases y : nd (nd s (N j)) (2 ^ j) = 0
      · refine br_t (by rw [y]; rfl) (nm_r (nI_1 j) (ih (j + 1) (by omega) ?_))
        intro p hp hm q hq e
        by_cases ep : p = j
        · subst ep
          refine Classical.byContradiction (fun t => gb_0 (p := q) (y ▸ ?_))
          rw [gb_nd, gb_nd, gb_pw]
          exact ⟨⟨hq, t⟩, e⟩
        · exact hi p (by omega) hm q hq e
      · have hb : nd (nd s (N j)) (2 ^ j) < 512 := nd_lt _ (nd_lt _ h512)
        refine br_f (nI_ne0 (by omega) (by omega)) (h0 (fun c => ?_))
        obtain ⟨q, hq⟩ := gb_ne y
        rw [gb_nd, gb_nd, gb_pw] at hq
        exact hq.1.2 (c j q z hq.1.1 (fun e => hq.2 e.symm))
    · refine br_f (fun e => z ((cv_t1 (by omega) (by omega)).mp e)) (nm_r (nI_1 j) (ih (j + 1) (by omega) ?_))
      intro p hp hm
      by_cases ep : p = j
      · subst ep; exact absurd hm z
      · exact hi p (by omega) hm
theorem ti_w {post : Int32 → Prop} (G : Gr n N) (hN : NR a_near N) {s : Nat} (hs : s < 2 ^ n) (h1 : Cq N s → post 1) (h0 : ¬ Cq N s → post 0) : wpX_isTight post ((nI n), f_found, f_bestSet, f_bestWeight, a_near, a_weights, a_list, a_clique, a_open, a_gone, a_tried, a_bySize, a_loose, a_least, a_ways) (nI s) :=
  ⟨n + 1, ti_lp G hN hs h1 h0 n 0 (Nat.zero_add n) (fun p h => absurd h (by omega))⟩
theorem wt_n {w : Nat → Nat} {s n : Nat} (hn : n ≤ 9) (hs : s < 2 ^ n) : sm (fun p => if s.testBit p then w p else 0) n = wt w s := by
  symm
  apply sm_ext hn
  intro i hi _
  rw [if_neg]
  intro z
  have := gb_lt hs (p := i) z
  omega
theorem wo_lp {post : Int32 → Prop} (hn : n ≤ 9) (hW : WR a_weights w) {s : Nat} (hs : s < 2 ^ n) (h : post (nI (wt w s))) :
    ∀ k j, j + k = n → wX_weightOf_4 post (nI s) (nI n) f_found f_bestSet f_bestWeight a_near a_weights a_list a_clique a_open a_gone a_tried a_bySize a_loose a_least a_ways (k + 1) (nI (sm (fun p => if s.testBit p then w p else 0) j)) (nI j) := by
  have h512 := gb_512 hn hs
  intro k
  induction k with
  | zero =>
    intro j hj
    obtain rfl : j = n := by omega
    refine br_t (nI_le (Nat.le_refl _) (by omega)) ?_
    rw [wt_n hn hs]; exact h
  | succ k ih =>
    intro j hj
    refine pk_le n j (fun z => absurd z (by omega)) (fun _ => ?_)
    by_cases z : mb s j
    · refine br_t ((cv_t1 (by omega) (by omega)).mpr z) ⟨pk_in j 9 (by omega), ?_⟩
      refine nm_r (e' := nI (sm (fun p => if s.testBit p then w p else 0) (j + 1))) ?_ (nm_r (nI_1 j) (ih (j + 1) (by omega)))
      rw [nI_clamp (n := j) (by omega), (hW j (by omega)).1, nI_add]
      simp only [sm]
      rw [if_pos (mb_t z)]
    · refine br_f (fun e => z ((cv_t1 (by omega) (by omega)).mp e)) ?_
      refine nm_r (e' := nI (sm (fun p => if s.testBit p then w p else 0) (j + 1))) ?_ (nm_r (nI_1 j) (ih (j + 1) (by omega)))
      simp only [sm]
      rw [if_neg (mb_f z), Int32.add_zero, Nat.add_zero]
theorem wo_w {post : Int32 → Prop} (hn : n ≤ 9) (hW : WR a_weights w) {s : Nat} (hs : s < 2 ^ n) (h : post (nI (wt w s))) : wpX_weightOf post ((nI n), f_found, f_bestSet, f_bestWeight, a_near, a_weights, a_list, a_clique, a_open, a_gone, a_tried, a_bySize, a_loose, a_least, a_ways) (nI s) :=
  ⟨n + 1, wo_lp hn hW hs h n 0 (Nat.zero_add n)⟩
end
end
section
/-! X: the pivot, the sorted list, the bound -/
def Pv (N : Nat → Nat) (P X T : Nat) : Prop := (P = 0 ∧ X = 0 ∧ T = 0) ∨ ∃ u, (mb P u ∨ mb X u) ∧ T = nd P (N u) ∧ ∀ v, mb P v ∨ mb X v → pc (P &&& N v) ≤ pc (P &&& N u)
section
variable {f_found f_bestSet f_bestWeight : Int32} {a_near a_weights a_list a_clique a_open a_gone a_tried a_bySize a_loose a_least : Nat → Int32} {a_ways : Nat → Int64}
variable {n : Nat} {N w : Nat → Nat}
theorem ch_lp (G : Gr n N) (hN : NR a_near N) {d P X : Nat} (hd : d < 11) (hP : a_open d = nI P) (hX : a_gone d = nI X) (bP : P < 2 ^ n) (bX : X < 2 ^ n) :
    ∀ k j, j + k = n → ∀ (pv ms : Int32), ((ms = -1 ∧ ∀ v, v < j → ¬ (mb P v ∨ mb X v)) ∨ ∃ u, u < j ∧ pv = nI u ∧ ms = nI (pc (P &&& N u)) ∧ (mb P u ∨ mb X u) ∧ ∀ v, v < j → mb P v ∨ mb X v → pc (P &&& N v) ≤ pc (P &&& N u)) →
      ∃ T, Pv N P X T ∧ ∀ post : Int32 → Prop, post (nI T) → wX_choices_7 post (nI d) (nI n) f_found f_bestSet f_bestWeight a_near a_weights a_list a_clique a_open a_gone a_tried a_bySize a_loose a_least a_ways (k + 1) pv ms (nI j) := by
  have hn := G.2.1
  have p512 := gb_512 hn bP
  have x512 := gb_512 hn bX
  intro k
  induction k with
  | zero =>
    intro j hj pv ms h
    obtain rfl : j = n := by omega
    rcases h with ⟨rfl, h⟩ | ⟨u, hu, rfl, rfl, hm, h⟩
    · refine ⟨0, Or.inl ⟨gb_z (fun p hp => h p (gb_lt bP hp) (Or.inl hp)), gb_z (fun p hp => h p (gb_lt bX hp) (Or.inr hp)), rfl⟩, fun post hp => ?_⟩
      exact br_t (nI_le (Nat.le_refl _) (by omega)) (br_f (by decide) hp)
    · refine ⟨nd P (N u), Or.inr ⟨u, hm, rfl, fun v hv => h v (hv.elim (gb_lt bP) (gb_lt bX)) hv⟩, fun post hp => ?_⟩
      have := pc_9 (P &&& N u)
      refine br_t (nI_le (Nat.le_refl _) (by omega)) (br_t (nI_pos' (by omega)) ⟨pk_in d 11 hd, pk_in u 9 (by omega), ?_⟩)
      rw [nI_clamp (n := d) (by omega), nI_clamp (n := u) (by omega), hP, hN u (by omega), cv_nd]
      exact hp
  | succ k ih =>
    intro j hj pv ms h
    have c9 := pc_9 (P &&& N j)
    have hb : P ||| X < 512 := Nat.or_lt_two_pow (n := 9) p512 x512
    have hc : (nI (P ||| X) >>> (nI j &&& 31)) &&& 1 = 1 ↔ mb P j ∨ mb X j := (cv_t1 (by omega) (by omega)).trans gb_or
    have hand : P &&& N j < 512 := Nat.lt_of_le_of_lt Nat.and_le_left p512
    by_cases z : mb P j ∨ mb X j
    · have key : ∀ (pv' ms' : Int32), (∀ W : Int32 → Int32 → Prop, W pv' ms' → ((nI (pc (P &&& N j)) ≤ ms → W pv ms) ∧ (¬ nI (pc (P &&& N j)) ≤ ms → W (nI j) (nI (pc (P &&& N j)))))) →
          (∃ T, Pv N P X T ∧ ∀ post : Int32 → Prop, post (nI T) → wX_choices_7 post (nI d) (nI n) f_found f_bestSet f_bestWeight a_near a_weights a_list a_clique a_open a_gone a_tried a_bySize a_loose a_least a_ways (k + 1) pv' ms' (nI (j + 1))) →
          ∃ T, Pv N P X T ∧ ∀ post : Int32 → Prop, post (nI T) → wX_choices_7 post (nI d) (nI n) f_found f_bestSet f_bestWeight a_near a_weights a_list a_clique a_open a_gone a_tried a_bySize a_loose a_least a_ways (k + 1 + 1) pv ms (nI j) := by
        rintro pv' ms' hW ⟨T, hT, H⟩
        refine ⟨T, hT, fun post hp => pk_le n j (fun z => absurd z (by omega)) (fun _ => ⟨pk_in d 11 hd, pk_in d 11 hd, ?_⟩)⟩
        rw [nI_clamp (n := d) (by omega), hP, hX, cv_or]
        refine br_t (hc.mpr z) ⟨pk_in d 11 hd, pk_in j 9 (by omega), ?_⟩
        rw [nI_clamp (n := j) (by omega), hN j (by omega), nx_and]
        refine on_w (by omega) ?_
        have := hW (fun a b => ∀ x, x = nI j + 1 → wX_choices_7 post (nI d) (nI n) f_found f_bestSet f_bestWeight a_near a_weights a_list a_clique a_open a_gone a_tried a_bySize a_loose a_least a_ways (k + 1) a b x) (nm_r (nI_1 j) (H post hp))
        exact this
      rcases h with ⟨rfl, h⟩ | ⟨u, hu, rfl, rfl, hm, h⟩
      · refine key (nI j) (nI (pc (P &&& N j))) (fun W hw => br_f ?_ hw) (ih (j + 1) (by omega) _ _ (Or.inr ⟨j, by omega, rfl, rfl, z, fun v hv hm => ?_⟩))
        · have : (-1 : Int32) < nI (pc (P &&& N j)) := by
            rw [Int32.lt_iff_toInt_lt, nI_toInt (by omega)]
            have : (-1 : Int32).toInt = -1 := by decide
            omega
          exact Int32.not_le.mpr this
        · by_cases e : v = j
          · subst e; exact Nat.le_refl _
          · exact absurd hm (h v (by omega))
      · have u9 := pc_9 (P &&& N u)
        by_cases y : pc (P &&& N j) ≤ pc (P &&& N u)
        · refine key (nI u) (nI (pc (P &&& N u))) (fun W hw => br_t (nI_le y (by omega)) hw) (ih (j + 1) (by omega) _ _ (Or.inr ⟨u, by omega, rfl, rfl, hm, fun v hv hmv => ?_⟩))
          by_cases e : v = j
          · subst e; exact y
          · exact h v (by omega) hmv
        · refine key (nI j) (nI (pc (P &&& N j))) (fun W hw => br_f (nI_ge (by omega) (by omega)) hw) (ih (j + 1) (by omega) _ _ (Or.inr ⟨j, by omega, rfl, rfl, z, fun v hv hmv => ?_⟩))
          by_cases e : v = j
          · subst e; exact Nat.le_refl _
          · have := h v (by omega) hmv; omega
    · obtain ⟨T, hT, H⟩ := ih (j + 1) (by omega) pv ms (by
        rcases h with ⟨e1, h⟩ | ⟨u, hu, e1, e2, hm, h⟩
        · refine Or.inl ⟨e1, fun v hv => ?_⟩
          by_cases e : v = j
          · subst e; exact z
          · exact h v (by omega)
        · refine Or.inr ⟨u, by omega, e1, e2, hm, fun v hv hmv => ?_⟩
          by_cases e : v = j
          · subst e; exact absurd hmv z
          · exact h v (by omega) hmv)
      refine ⟨T, hT, fun post hp => pk_le n j (fun z => absurd z (by omega)) (fun _ => ⟨pk_in d 11 hd, pk_in d 11 hd, ?_⟩)⟩
      rw [nI_clamp (n := d) (by omega), hP, hX, cv_or]
      exact br_f (fun e => z (hc.mp e)) (nm_r (nI_1 j) (H post hp))
theorem ch_w (G : Gr n N) (hN : NR a_near N) {d P X : Nat} (hd : d < 11) (hP : a_open d = nI P) (hX : a_gone d = nI X) (bP : P < 2 ^ n) (bX : X < 2 ^ n) :
    ∃ T, Pv N P X T ∧ ∀ post : Int32 → Prop, post (nI T) → wpX_choices post ((nI n), f_found, f_bestSet, f_bestWeight, a_near, a_weights, a_list, a_clique, a_open, a_gone, a_tried, a_bySize, a_loose, a_least, a_ways) (nI d) := by
  obtain ⟨T, hT, H⟩ := ch_lp (f_found := f_found) (f_bestSet := f_bestSet) (f_bestWeight := f_bestWeight) (a_weights := a_weights) (a_list := a_list) (a_clique := a_clique) (a_tried := a_tried) (a_bySize := a_bySize) (a_loose := a_loose) (a_least := a_least) (a_ways := a_ways) G hN hd hP hX bP bX n 0 (Nat.zero_add n) 0 (-1) (Or.inl ⟨rfl, fun v h => absurd h (by omega)⟩)
  exact ⟨T, hT, fun post hp => ⟨n + 1, H post hp⟩⟩
theorem en_lp {post : SX → Prop} {c x : Nat} {l : Nat → Nat} (hc : c < 32) (hx : x < 512) (hl : ∀ i, i < c → l i < 512)
    (K : ∀ (b : Nat → Int32) (k : Nat), k ≤ c → (∀ i, i < k → b i = nI (l i)) → b k = nI x → (∀ i, k ≤ i → i < c → b (i + 1) = nI (l i)) → (∀ i, i < k → k ≤ i + 1 → l i ≤ x) → (∀ i, k ≤ i → i < c → x < l i) → post ((nI n), (nI (c + 1)), f_bestSet, f_bestWeight, a_near, a_weights, b, a_clique, a_open, a_gone, a_tried, a_bySize, a_loose, a_least, a_ways)) :
    ∀ k, k ≤ c → ∀ b : Nat → Int32, (∀ i, i < k → b i = nI (l i)) → (∀ i, k ≤ i → i < c → b (i + 1) = nI (l i)) → (∀ i, k ≤ i → i < c → x < l i) → wX_enlist_5 post (nI x) (nI n) (nI c) f_bestSet f_bestWeight (k + 1) (nI k) a_near a_weights b a_clique a_open a_gone a_tried a_bySize a_loose a_least a_ways := by
  have stop : ∀ k, k ≤ c → ∀ b : Nat → Int32, (∀ i, i < k → b i = nI (l i)) → (∀ i, k ≤ i → i < c → b (i + 1) = nI (l i)) → (∀ i, k ≤ i → i < c → x < l i) → (∀ i, i < k → k ≤ i + 1 → l i ≤ x) → wX_enlist_47 post (nI x) (nI k) (nI n) (nI c) f_bestSet f_bestWeight a_near a_weights b a_clique a_open a_gone a_tried a_bySize a_loose a_least a_ways := by
    intro k hk b h1 h2 h3 h4
    refine ⟨pk_in k 32 (by omega), nm_r (e' := upd b k (nI x)) (by rw [nI_clamp (n := k) (by omega)]) (nm_r (nI_1 c) ?_)⟩
    exact K _ k hk (fun i hi => by rw [pk_un (by omega)]; exact h1 i hi) pk_us (fun i hi hic => by rw [pk_un (by omega)]; exact h2 i hi hic) h4 h3
  intro k
  induction k with
  | zero =>
    intro hk b h1 h2 h3
    exact br_t (by decide) (stop 0 hk b h1 h2 h3 (fun i hi => absurd hi (by omega)))
  | succ k ih =>
    intro hk b h1 h2 h3
    refine br_f (nI_nle (by omega) (by omega)) (br_f (nI_ge (b := 32) (by omega) (by decide)) ?_)
    rw [nI_pred, nI_clamp (n := k) (by omega), nI_clamp (n := k + 1) (by omega), h1 k (by omega)]
    refine ⟨pk_in k 32 (by omega), ?_⟩
    have hlk := hl k (by omega)
    refine pk_le (l k) x (fun z => stop (k + 1) hk b h1 h2 h3 (fun i hi hi2 => ?_)) (fun z => ⟨pk_in k 32 (by omega), pk_in (k + 1) 32 (by omega), nm_e (nm_r (pk_m1 k) (ih (by omega) _ ?_ ?_ ?_))⟩)
    · obtain rfl : i = k := by omega
      exact z
    · intro i hi
      rw [pk_un (by omega)]; exact h1 i (by omega)
    · intro i hi hic
      by_cases e : i = k
      · subst e; exact pk_us
      · rw [pk_un (by omega)]; exact h2 i (by omega) hic
    · intro i hi hic
      by_cases e : i = k
      · subst e; exact z
      · exact h3 i (by omega) hic
def LA (a : Nat → Int32) (c : Nat) (l : Nat → Nat) : Prop := ∀ i, i < c → a i = nI (l i)
theorem en_w {post : SX → Prop} {S : Nat → Prop} {c x : Nat} {l : Nat → Nat} (hS : SL S c l) (hA : LA a_list c l) (hc : c < 32) (hx : x < 512) (hb : ∀ s, S s → s < 512) (hn : ¬ S x)
    (K : ∀ (b : Nat → Int32) (l' : Nat → Nat), SL (fun s => S s ∨ s = x) (c + 1) l' → LA b (c + 1) l' → post ((nI n), (nI (c + 1)), f_bestSet, f_bestWeight, a_near, a_weights, b, a_clique, a_open, a_gone, a_tried, a_bySize, a_loose, a_least, a_ways)) :
    wpX_enlist post ((nI n), (nI c), f_bestSet, f_bestWeight, a_near, a_weights, a_list, a_clique, a_open, a_gone, a_tried, a_bySize, a_loose, a_least, a_ways) (nI x) := by
  have hl : ∀ i, i < c → l i < 512 := fun i hi => hb _ ((hS.2 _).mpr ⟨i, hi, rfl⟩)
  refine ⟨c + 1, en_lp hc hx hl ?_ c (Nat.le_refl _) a_list (fun i hi => hA i hi) (fun i h1 h2 => absurd h2 (by omega)) (fun i h1 h2 => absurd h2 (by omega))⟩
  intro b k hk h1 h2 h3 h4 h5
  have h6 : ∀ i, i < k → l i < x := by
    intro i hi
    have ne : ∀ j, j < c → l j ≠ x := fun j hj e => hn ((hS.2 x).mpr ⟨j, hj, e⟩)
    have a : l (k - 1) ≤ x := h4 (k - 1) (by omega) (by omega)
    have a' := ne (k - 1) (by omega)
    by_cases e : i = k - 1
    · subst e; omega
    · have := hS.1 i (k - 1) (by omega) (by omega); omega
  refine K b (fun i => if i < k then l i else if i = k then x else l (i - 1)) (ls_ins hS hk h6 h5 (fun i hi => if_pos hi) (by rw [if_neg (Nat.lt_irrefl k), if_pos rfl]) (fun i hi _ => by rw [if_neg (by omega), if_neg (by omega), Nat.add_sub_cancel])) ?_
  intro i hi
  show b i = nI (if i < k then l i else if i = k then x else l (i - 1))
  rcases Nat.lt_trichotomy i k with z | z | z
  · rw [if_pos z]; exact h1 i z
  · subst z; rw [if_neg (Nat.lt_irrefl _), if_pos rfl]; exact h2
  · rw [if_neg (by omega), if_neg (by omega)]
    have := h3 (i - 1) (by omega) (by omega)
    rw [show i - 1 + 1 = i from by omega] at this
    exact this
end
end
section
/-! X: the bound by colour classes -/
def Bi (N w : Nat → Nat) (L0 L F h : Nat) : Prop := (∀ p, mb F p → mb L p) ∧ (∀ p, mb L p → mb L0 p) ∧ ∀ C, Cq N C → wt w (C &&& L0) ≤ h + wt w (C &&& L) ∧ ((∃ p, mb C p ∧ mb F p) → wt w (C &&& L0) = wt w (C &&& L))
theorem bi_0 (N w : Nat → Nat) (L0 : Nat) : Bi N w L0 L0 L0 0 := ⟨fun _ h => h, fun _ h => h, fun _ _ => ⟨by omega, fun _ => rfl⟩⟩
theorem bi_step {n : Nat} {N w : Nat → Nat} (G : Gr n N) {L0 L F h p : Nat} (hp9 : p < 9) (H : Bi N w L0 L F h) (hp : mb F p) (h' : Nat) (hh : h ≤ h') (hw : w p ≤ h') :
    Bi N w L0 (nd L (2 ^ p)) (nd (nd F (2 ^ p)) (N p)) h' := by
  obtain ⟨h1, h2, h3⟩ := H
  refine ⟨fun q hq => ?_, fun q hq => h2 q (gb_nd.mp hq).1, fun C hC => ?_⟩
  · rw [gb_nd, gb_nd] at hq
    exact gb_nd.mpr ⟨h1 q hq.1.1, hq.1.2⟩
  · obtain ⟨h4, h5⟩ := h3 C hC
    have same : ¬ mb C p → C &&& nd L (2 ^ p) = C &&& L := fun hn => gb_ext (fun q => by
      rw [gb_and, gb_and, gb_nd, gb_pw]
      exact ⟨fun z => ⟨z.1, z.2.1⟩, fun z => ⟨z.1, z.2, fun e => hn (e ▸ z.1)⟩⟩)
    by_cases z : mb C p
    · have e1 : nd (C &&& L) (2 ^ p) = C &&& nd L (2 ^ p) := gb_ext (fun q => by
        rw [gb_nd, gb_and, gb_and, gb_nd]
        exact ⟨fun y => ⟨y.1.1, y.1.2, y.2⟩, fun y => ⟨⟨y.1, y.2.1⟩, y.2.2⟩⟩)
      have d := wt_del w (a := C &&& L) hp9 (gb_and.mpr ⟨z, h1 p hp⟩)
      rw [e1] at d
      have e := h5 ⟨p, z, hp⟩
      refine ⟨by omega, ?_⟩
      rintro ⟨q, hq, hqF⟩
      rw [gb_nd, gb_nd, gb_pw] at hqF
      exact absurd (hC p q z hq (fun e => hqF.1.2 e.symm)) hqF.2
    · rw [same z]
      refine ⟨by omega, ?_⟩
      rintro ⟨q, hq, hqF⟩
      rw [gb_nd, gb_nd] at hqF
      exact h5 ⟨q, hq, hqF.1.1⟩
section
variable {f_found f_bestSet f_bestWeight : Int32} {a_near a_weights a_list a_clique a_open a_gone a_tried a_bySize a_loose a_least : Nat → Int32} {a_ways : Nat → Int64}
variable {n : Nat} {N w : Nat → Nat}
theorem bi_lp {post : Int32 → Prop} {J : Int32 → Int32 → Int32 → Prop} (G : Gr n N) (hN : NR a_near N) (hW : WR a_weights w) {L0 sum c : Nat} (b0 : L0 < 512) (hL0 : ∀ j, mb L0 j → c ≤ j)
    (K : ∀ L h, Bi N w L0 L 0 h → ((∀ j, mb L j → c + 1 ≤ j) ∨ L0 = 0) → h ≤ 20 → J (nI L) (nI (sum + h)) (nI (c + 1))) :
    ∀ m F L h, F < m → Bi N w L0 L F h → ((∀ j, mb L j → c + 1 ≤ j) ∨ F = L0) → h ≤ 20 → wX_bound_24 post J (nI sum) (nI c) (nI n) f_found f_bestSet f_bestWeight a_near a_weights a_list a_clique a_open a_gone a_tried a_bySize a_loose a_least a_ways m (nI L) (nI F) (nI h) := by
  intro m
  induction m with
  | zero => intro F L h hF; exact absurd hF (by omega)
  | succ m ih =>
    intro F L h hF H hq hh
    have bL : L < 512 := Nat.lt_of_le_of_lt (gb_le H.2.1) b0
    have bF : F < 512 := Nat.lt_of_le_of_lt (gb_le H.1) bL
    by_cases z : F = 0
    · subst z
      exact br_t rfl (nm_r (nI_add _ _) (nm_r (nI_1 c) (K L h H (hq.imp id Eq.symm) hh)))
    · refine br_f (nI_ne0 (by omega) (by omega)) ?_
      obtain ⟨p, hp9, hpF, hlow, hlo⟩ := lo_w bF z
      refine hlo _ ⟨pk_in p 9 hp9, ?_⟩
      rw [nI_clamp (n := p) (by omega), (hW p hp9).1]
      have hwp := (hW p hp9).2.2
      have join : ∀ h', h ≤ h' → w p ≤ h' → h' ≤ 20 → wX_bound_60 post J (wX_bound_24 post J (nI sum) (nI c) (nI n) f_found f_bestSet f_bestWeight a_near a_weights a_list a_clique a_open a_gone a_tried a_bySize a_loose a_least a_ways m) (nI L) (nI sum) (nI c) (nI F) (nI p) (nI h') (nI n) f_found f_bestSet f_bestWeight a_near a_weights a_list a_clique a_open a_gone a_tried a_bySize a_loose a_least a_ways := by
        intro h' g1 g2 g3
        refine nm_r (e' := nI (nd L (2 ^ p))) (by rw [cv_bit (by omega), cv_nd]) ⟨pk_in p 9 hp9, nm_r (e' := nI (nd (nd F (2 ^ p)) (N p))) (by rw [nI_clamp (n := p) (by omega), hN p hp9, cv_bit (by omega), cv_nd, cv_nd]) ?_⟩
        refine ih _ _ _ ?_ (bi_step G hp9 H hpF h' g1 g2) (Or.inl ?_) g3
        · have a : nd (nd F (2 ^ p)) (N p) ≤ nd F (2 ^ p) := gb_ndle _ _
          have b := gb_delt hpF
          omega
        · intro j hj
          rw [gb_nd, gb_pw] at hj
          rcases hq with g | g
          · exact g j hj.1
          · have a := hL0 p (g ▸ hpF)
            have b : ¬ j < p := fun y => hlow j y (g ▸ H.2.1 j hj.1)
            omega
      exact pk_le (w p) h (fun y => join h (Nat.le_refl _) y hh) (fun y => ⟨pk_in p 9 hp9, join (w p) (by omega) (Nat.le_refl _) hwp⟩)
theorem bo_lp {post : Int32 → Prop} (G : Gr n N) (hN : NR a_near N) (hW : WR a_weights w) {P : Nat} (bP : P < 512)
    (K : ∀ b, b ≤ 180 → (∀ C, Cq N C → wt w (C &&& P) ≤ b) → post (nI b)) :
    ∀ k c, c + k = 9 → ∀ L sum, L < 512 → (∀ j, mb L j → c ≤ j) → sum ≤ 20 * c → (∀ C, Cq N C → wt w (C &&& P) ≤ sum + wt w (C &&& L)) → wX_bound_7 post (nI n) f_found f_bestSet f_bestWeight a_near a_weights a_list a_clique a_open a_gone a_tried a_bySize a_loose a_least a_ways (k + 1) (nI L) (nI sum) (nI c) := by
  have zero : ∀ C, wt w (C &&& 0) = 0 := fun C => by rw [Nat.and_zero, wt_z]
  intro k
  induction k with
  | zero =>
    intro c hc L sum bL hL hs H
    obtain rfl : c = 9 := by omega
    obtain rfl : L = 0 := gb_z (fun p hp => by have := hL p hp; have := gb_lt (n := 9) bL hp; omega)
    refine br_t (by decide) (K sum (by omega) (fun C hC => ?_))
    have := H C hC
    rw [zero] at this; exact this
  | succ k ih =>
    intro c hc L sum bL hL hs H
    refine pk_le 9 c (fun z => absurd z (by omega)) (fun _ => ?_)
    by_cases z : L = 0
    · subst z
      refine br_t rfl (K sum (by omega) (fun C hC => ?_))
      have := H C hC
      rw [zero] at this; exact this
    · refine br_f (nI_ne0 (by omega) (by omega)) ⟨513, ?_⟩
      refine bi_lp G hN hW bL hL ?_ 513 L L 0 (by omega) (bi_0 N w L) (Or.inr rfl) (by omega)
      intro L' h' H' hq hh
      have bL' : L' < 512 := Nat.lt_of_le_of_lt (gb_le H'.2.1) bL
      refine ih (c + 1) (by omega) L' (sum + h') bL' (hq.resolve_right z) (by omega) (fun C hC => ?_)
      have a := H C hC
      have b := (H'.2.2 C hC).1
      omega
theorem bo_w {post : Int32 → Prop} (G : Gr n N) (hN : NR a_near N) (hW : WR a_weights w) {P : Nat} (bP : P < 512)
    (K : ∀ b, b ≤ 180 → (∀ C, Cq N C → wt w (C &&& P) ≤ b) → post (nI b)) : wpX_bound post ((nI n), f_found, f_bestSet, f_bestWeight, a_near, a_weights, a_list, a_clique, a_open, a_gone, a_tried, a_bySize, a_loose, a_least, a_ways) (nI P) :=
  ⟨10, bo_lp G hN hW bP K 9 0 rfl P 0 bP (fun _ _ => by omega) (by omega) (fun C _ => by omega)⟩
end
end
section
/-! X: counting cliques by their size -/
section
variable {f_found f_bestSet f_bestWeight : Int32} {a_near a_weights a_list a_clique a_open a_gone a_tried a_bySize a_loose a_least : Nat → Int32} {a_ways : Nat → Int64}
variable {n : Nat} {N w : Nat → Nat}
theorem pw_s (e : Nat) : 2 ^ (e + 1) = 2 ^ e + 2 ^ e := by rw [Nat.pow_succ]; omega
theorem pw_m {a b : Nat} (h : a ≤ b) : 2 ^ a ≤ 2 ^ b := Nat.pow_le_pow_right (by decide) h
theorem cs_run {post : SX → Prop} (G : Gr n N) (hN : NR a_near N) : ∀ (P : Nat) (d t m R : Nat) (a_open a_bySize : Nat → Int32) (V : Nat → Prop),
    P < 2 ^ n → d + pc P ≤ 9 → a_open d = nI P → t + 2 ^ (pc P + 1) ≤ 2000 → 2000 < m + t → Cq N R → Ad N R P → R < 2 ^ n → pc R = d →
    (∀ k, k < 10 → a_bySize k = nI (cn (fun s => V s ∧ pc s = k) 512)) → (∀ s, Sbq N R P s → s ≠ R → ¬ V s) →
    (∀ (t' m' : Nat) (o' b' : Nat → Int32), t' + 1 ≤ t + 2 ^ (pc P + 1) → 2000 < m' + t' → (∀ e, e < d → o' e = a_open e) →
      (∀ k, k < 10 → b' k = nI (cn (fun s => (V s ∨ (Sbq N R P s ∧ s ≠ R)) ∧ pc s = k) 512)) →
      wX_countSizes_46 post (nI n) f_found f_bestSet f_bestWeight m' (nI d + (-1)) (nI t') a_near a_weights a_list a_clique o' a_gone a_tried b' a_loose a_least a_ways) →
    wX_countSizes_46 post (nI n) f_found f_bestSet f_bestWeight m (nI d) (nI t) a_near a_weights a_list a_clique a_open a_gone a_tried a_bySize a_loose a_least a_ways := by
  have hn := G.2.1
  intro P
  induction P using Nat.strongRecOn with
  | ind P ih =>
    intro d t m R a_open a_bySize V bP hd ho ht hm hR hA bR pR hby hdis K
    have b512 := gb_512 hn bP
    have pw1 := pw_s (pc P)
    have pw2 := Nat.two_pow_pos (pc P)
    obtain ⟨m, rfl⟩ : ∃ m', m = m' + 1 := ⟨m - 1, by omega⟩
    refine br_f (nI_ge (b := 2000) (by omega) (by decide)) (br_f (nI_pos (by omega)) ⟨pk_in d 11 (by omega), ?_⟩)
    rw [nI_clamp (n := d) (by omega), ho]
    by_cases z : P = 0
    · subst z
      refine br_t rfl (nm_e (nm_r (nI_1 t) (K (t + 1) m a_open a_bySize (by omega) (by omega) (fun _ _ => rfl) (fun k hk => ?_))))
      rw [hby k hk]
      exact congrArg nI (cn_c (fun s _ => ⟨fun h => ⟨Or.inl h.1, h.2⟩, fun h => ⟨h.1.resolve_right (fun y => y.2 ((sb_0 hR).mp y.1)), h.2⟩⟩))
    · refine br_f (nI_ne0 (by omega) (by omega)) ⟨pk_in d 11 (by omega), ?_⟩
      obtain ⟨p, hp9, hp, _, hlo⟩ := lo_w b512 z
      have ppos := pc_pos hp9 hp
      have pdel := pc_del hp9 hp
      have hpR : ¬ mb R p := ad_not G hA hp
      have hpn : p < n := gb_lt bP hp
      have ple : pc (nd P (2 ^ p) &&& N p) ≤ pc (nd P (2 ^ p)) := pc_mono (fun q hq => (gb_and.mp hq).1)
      have lt1 : nd P (2 ^ p) < P := gb_delt hp
      have lt2 : nd P (2 ^ p) &&& N p < P := Nat.lt_of_le_of_lt Nat.and_le_left lt1
      have b1 := nd_lt (2 ^ p) bP
      have pw3 : 2 ^ (pc (nd P (2 ^ p) &&& N p) + 1) ≤ 2 ^ pc P := pw_m (by omega)
      have pw4 : 2 ^ (pc (nd P (2 ^ p)) + 1) = 2 ^ pc P := by rw [pdel]
      have hne : R ||| 2 ^ p ≠ R := fun e => hpR (e ▸ gb_or.mpr (Or.inr (gb_pw.mpr rfl)))
      have hcq : Cq N (R ||| 2 ^ p) := cq_ins G hR (fun r hr => hA p hp r hr)
      have hstep := fun s => sb_step (N := N) (R := R) (s := s) hp
      have hVn : ¬ V (R ||| 2 ^ p) := hdis _ ((hstep _).mpr (Or.inl (sb_self hcq))) hne
      refine hlo _ ⟨pk_in d 11 (by omega), pk_in d 11 (by omega), nm_r (e' := upd a_open d (nI (nd P (2 ^ p)))) (by rw [cv_bit (by omega), cv_nd]) ⟨pk_in d 11 (by omega), pk_in p 9 hp9, pk_in (d + 1) 11 (by omega) (nI_1 d), ?_⟩⟩
      refine nm_r (e' := upd (upd a_open d (nI (nd P (2 ^ p)))) (d + 1) (nI (nd P (2 ^ p) &&& N p))) (by rw [nI_1, nI_clamp (n := d + 1) (by omega), pk_us, nI_clamp (n := p) (by omega), hN p hp9, nx_and]) (nm_r (nI_1 d) ⟨pk_in (d + 1) 10 (by omega), pk_in (d + 1) 10 (by omega), ?_⟩)
      rw [nI_clamp (n := d + 1) (by omega), hby (d + 1) (by omega), nI_1]
      refine nm_e (nm_r (nI_1 t) ?_)
      refine ih _ lt2 (d + 1) (t + 1) m (R ||| 2 ^ p) _ _ (fun s => V s ∨ s = R ||| 2 ^ p) (Nat.lt_trans lt2 bP) (by omega) pk_us (by omega) (by omega) hcq
        (ad_ins G hA (fun v hv => ⟨(gb_nd.mp (gb_and.mp hv).1).1, (gb_and.mp hv).2⟩)) (Nat.or_lt_two_pow bR (gb_pwlt hpn)) (by rw [pc_ins hp9 hpR, pR]) ?_ ?_ ?_
      · intro k hk
        have add := cn_add (P := fun s => V s ∧ pc s = k) (Q := fun s => (V s ∨ s = R ||| 2 ^ p) ∧ pc s = k) (x := R ||| 2 ^ p) (fun h => hVn h.1)
        by_cases e : k = d + 1
        · subst e
          rw [pk_us, add (k := 512) (fun s => ⟨fun h => h.1.imp (fun y => ⟨y, h.2⟩) id, fun h => h.elim (fun y => ⟨Or.inl y.1, y.2⟩) (fun y => ⟨Or.inr y, by rw [y, pc_ins hp9 hpR, pR]⟩)⟩), if_pos (gb_512 hn (Nat.or_lt_two_pow bR (gb_pwlt hpn)))]
        · rw [pk_un e, hby k hk]
          refine congrArg nI (cn_c (fun s _ => ⟨fun h => ⟨Or.inl h.1, h.2⟩, fun h => ⟨h.1.resolve_right (fun y => e ?_), h.2⟩⟩))
          rw [← h.2, y, pc_ins hp9 hpR, pR]
      · intro s hs hn' hv
        rcases hv with hv | hv
        · exact hdis s ((hstep s).mpr (Or.inl hs)) (fun e => hpR (e ▸ sb_has hs)) hv
        · exact hn' hv
      · intro t1 m1 o1 b1' ht1 hm1 ho1 hb1
        rw [pk_m1]
        refine ih _ lt1 d t1 m1 R o1 b1' _ b1 (by omega) (by rw [ho1 d (by omega), pk_un (by omega), pk_us]) (by omega) hm1 hR (ad_sub hA (fun q hq => (gb_nd.mp hq).1)) bR pR hb1 ?_ ?_
        · intro s hs hn' hv
          have hnp := sb_hasnt hpR hs
          rcases hv with (hv | hv) | hv
          · exact hdis s ((hstep s).mpr (Or.inr hs)) hn' hv
          · exact hnp (hv ▸ gb_or.mpr (Or.inr (gb_pw.mpr rfl)))
          · exact hnp (sb_has hv.1)
        · intro t2 m2 o2 b2 ht2 hm2 ho2 hb2
          refine K t2 m2 o2 b2 (by omega) hm2 (fun e he => ?_) (fun k hk => ?_)
          · rw [ho2 e he, ho1 e (by omega), pk_un (by omega), pk_un (by omega)]
          · rw [hb2 k hk]
            refine congrArg nI (cn_c (fun s _ => ?_))
            constructor
            · rintro ⟨((h | h) | h) | h, h'⟩
              · exact ⟨Or.inl h, h'⟩
              · exact ⟨Or.inr ⟨(hstep s).mpr (Or.inl (by rw [h]; exact sb_self hcq)), by rw [h]; exact hne⟩, h'⟩
              · exact ⟨Or.inr ⟨(hstep s).mpr (Or.inl h.1), fun e => hpR (e ▸ sb_has h.1)⟩, h'⟩
              · exact ⟨Or.inr ⟨(hstep s).mpr (Or.inr h.1), h.2⟩, h'⟩
            · rintro ⟨h | h, h'⟩
              · exact ⟨Or.inl (Or.inl (Or.inl h)), h'⟩
              · rcases (hstep s).mp h.1 with y | y
                · by_cases e : s = R ||| 2 ^ p
                  · exact ⟨Or.inl (Or.inl (Or.inr e)), h'⟩
                  · exact ⟨Or.inl (Or.inr ⟨y, e⟩), h'⟩
                · exact ⟨Or.inr ⟨y, h.2⟩, h'⟩
/-- the cliques of a size -/
def Cz (n : Nat) (N : Nat → Nat) (k s : Nat) : Prop := (s < 2 ^ n ∧ Cq N s) ∧ pc s = k
theorem cs_lp {post : SX → Prop} (G : Gr n N) (hN : NR a_near N)
    (K : ∀ (o' b' : Nat → Int32), (∀ k, k < 10 → b' k = nI (cn (Cz n N k) 512)) → post ((nI n), f_found, f_bestSet, f_bestWeight, a_near, a_weights, a_list, a_clique, o', a_gone, a_tried, b', a_loose, a_least, a_ways)) :
    ∀ k j, j + k = 10 → ∀ a_bySize : Nat → Int32, (∀ i, i < j → a_bySize i = 0) → wX_countSizes_2 post (nI n) f_found f_bestSet f_bestWeight (k + 1) (nI j) a_near a_weights a_list a_clique a_open a_gone a_tried a_bySize a_loose a_least a_ways := by
  have hn := G.2.1
  intro k
  induction k with
  | zero =>
    intro j hj b hb
    obtain rfl : j = 10 := by omega
    refine br_t (by decide) (nm_r (e' := upd a_open 0 (nI (2 ^ n - 1))) (by rw [cv_all (by omega)]) (nm_e ⟨2001, ?_⟩))
    have al : 2 ^ n - 1 < 2 ^ n := by have := Nat.two_pow_pos n; omega
    have p9 := pc_9 (2 ^ n - 1)
    have p10 : 2 ^ (pc (2 ^ n - 1) + 1) ≤ 2 ^ 10 := pw_m (by omega)
    have e10 : 2 ^ 10 = 1024 := rfl
    refine cs_run G hN (2 ^ n - 1) 0 0 2001 0 _ _ (fun s => s = 0) al (by omega) pk_us (by omega) (by omega) (cq_0 N) (fun _ _ r hr => absurd hr gb_0) (Nat.two_pow_pos n) pc_0 ?_ ?_ ?_
    · intro i hi
      have add := cn_add (P := fun _ => False) (Q := fun s => s = 0 ∧ pc s = i) (x := 0) (fun h => h)
      have z := cn_same (P := fun _ => False) (a := 0) (b := 512) (by omega) (fun _ _ _ h => h)
      by_cases e : i = 0
      · subst e
        rw [pk_us, add (k := 512) (fun s => ⟨fun h => Or.inr h.1, fun h => h.elim False.elim (fun y => ⟨y, by rw [y, pc_0]⟩)⟩), z]
        rfl
      · rw [pk_un e, hb i hi, cn_c (Q := fun _ => False) (fun s _ => ⟨fun h => e (by rw [← h.2, h.1, pc_0]), False.elim⟩), z]
        rfl
    · intro s _ h1 h2
      exact h1 h2
    · intro t' m' o' b' h1 h2 _ h4
      obtain ⟨m', rfl⟩ : ∃ m, m' = m + 1 := ⟨m' - 1, by omega⟩
      have fin := K o' b' (fun i hi => by
        rw [h4 i hi]
        refine congrArg nI (cn_c (fun s _ => ?_))
        constructor
        · rintro ⟨h | h, h'⟩
          · exact ⟨⟨h ▸ Nat.two_pow_pos n, h ▸ cq_0 N⟩, h'⟩
          · exact ⟨⟨gb_ltI (fun p hp => gb_al.mp ((h.1.2.1 p hp).resolve_left gb_0)), h.1.2.2⟩, h'⟩
        · rintro ⟨⟨g1, g2⟩, h'⟩
          by_cases e : s = 0
          · exact ⟨Or.inl e, h'⟩
          · exact ⟨Or.inr ⟨⟨fun p hp => absurd hp gb_0, fun p hp => Or.inr (gb_al.mpr (gb_lt g1 hp)), g2⟩, e⟩, h'⟩)
      exact br_c (fun _ => fin) (fun _ => br_t (by decide) fin)
  | succ k ih =>
    intro j hj b hb
    refine pk_le 10 j (fun z => absurd z (by omega)) (fun _ => ⟨pk_in j 10 (by omega), ?_⟩)
    rw [nI_clamp (n := j) (by omega)]
    refine nm_e (nm_r (nI_1 j) (ih (j + 1) (by omega) _ (fun i hi => ?_)))
    by_cases e : i = j
    · subst e; exact pk_us
    · rw [pk_un e]; exact hb i (by omega)
theorem cs_w {post : SX → Prop} (G : Gr n N) (hN : NR a_near N)
    (K : ∀ (o' b' : Nat → Int32), (∀ k, k < 10 → b' k = nI (cn (Cz n N k) 512)) → post ((nI n), f_found, f_bestSet, f_bestWeight, a_near, a_weights, a_list, a_clique, o', a_gone, a_tried, b', a_loose, a_least, a_ways)) : wpX_countSizes post ((nI n), f_found, f_bestSet, f_bestWeight, a_near, a_weights, a_list, a_clique, a_open, a_gone, a_tried, a_bySize, a_loose, a_least, a_ways) :=
  ⟨11, cs_lp G hN K 10 0 rfl a_bySize (fun i h => absurd h (by omega))⟩
end
end
section
/-! X: the heaviest clique -/
def Bst (w : Nat → Nat) (V : Nat → Prop) (b : Nat) : Prop := V b ∧ ∀ s, V s → wt w s < wt w b ∨ (wt w s = wt w b ∧ s ≤ b)
theorem bst_c {w : Nat → Nat} {V V' : Nat → Prop} {b : Nat} (h : Bst w V b) (e : ∀ s, V' s ↔ V s) : Bst w V' b := ⟨(e b).mpr h.1, fun s hs => h.2 s ((e s).mp hs)⟩
section
variable {f_found f_bestSet f_bestWeight : Int32} {a_near a_weights a_list a_clique a_open a_gone a_tried a_bySize a_loose a_least : Nat → Int32} {a_ways : Nat → Int64}
variable {n : Nat} {N w : Nat → Nat}
theorem of_w {post : SX → Prop} (hn : n ≤ 9) (hW : WR a_weights w) {V : Nat → Prop} {b x : Nat} (hx : x < 2 ^ n) (bb : b < 512) (h : Bst w V b)
    (K : ∀ b', b' < 512 → Bst w (fun s => V s ∨ s = x) b' → post ((nI n), f_found, (nI b'), (nI (wt w b')), a_near, a_weights, a_list, a_clique, a_open, a_gone, a_tried, a_bySize, a_loose, a_least, a_ways)) :
    wpX_offer post ((nI n), f_found, (nI b), (nI (wt w b)), a_near, a_weights, a_list, a_clique, a_open, a_gone, a_tried, a_bySize, a_loose, a_least, a_ways) (nI x) := by
  have x512 := gb_512 hn hx
  have w1 := wt_20 (fun p hp => (hW p hp).2.2) x
  have w2 := wt_20 (fun p hp => (hW p hp).2.2) b
  have new : (wt w b < wt w x ∨ (wt w x = wt w b ∧ b < x)) → Bst w (fun s => V s ∨ s = x) x := by
    intro hlt
    refine ⟨Or.inr rfl, fun s hs => ?_⟩
    rcases hs with hs | hs
    · rcases h.2 s hs with g | g
      · omega
      · omega
    · subst hs; exact Or.inr ⟨rfl, Nat.le_refl _⟩
  have old : (wt w x < wt w b ∨ (wt w x = wt w b ∧ x ≤ b)) → Bst w (fun s => V s ∨ s = x) b := by
    intro hle
    refine ⟨Or.inl h.1, fun s hs => ?_⟩
    rcases hs with hs | hs
    · exact h.2 s hs
    · subst hs; exact hle
  refine wo_w hn hW hx ?_
  refine pk_lt (wt w b) (wt w x) (fun z => K x x512 (new (Or.inl z))) (fun z => ?_)
  refine pk_eq (wt w x) (wt w b) (fun y => ?_) (fun y => K b bb (old (Or.inl (by omega))))
  refine pk_le x b (fun v => K b bb (old (Or.inr ⟨y, v⟩))) (fun v => K x x512 (new (Or.inr ⟨y, v⟩)))
theorem sb_wt {P R s b : Nat} (hs : Sbq N R P s) (hb : ∀ C, Cq N C → wt w (C &&& P) ≤ b) : wt w s ≤ wt w R + b := by
  have a := wt_split w s R
  have e1 : s &&& R = R := gb_ext (fun p => by rw [gb_and]; exact ⟨fun z => z.2, fun z => ⟨hs.1 p z, z⟩⟩)
  have e2 : nd s R &&& P = nd s R := gb_ext (fun p => by
    rw [gb_and, gb_nd]
    exact ⟨fun z => z.1, fun z => ⟨z, (hs.2.1 p z.1).resolve_left z.2⟩⟩)
  have c := hb (nd s R) (cq_sub hs.2.2 (fun p hp => (gb_nd.mp hp).1))
  rw [e2] at c
  rw [e1] at a
  omega
theorem se_run {post : SX → Prop} (G : Gr n N) (hN : NR a_near N) (hW : WR a_weights w) : ∀ (P : Nat) (d t m R b : Nat) (a_clique a_open : Nat → Int32) (V : Nat → Prop),
    P < 2 ^ n → d + pc P ≤ 9 → a_open d = nI P → a_clique d = nI R → t + 2 ^ (pc P + 1) ≤ 2000 → 2000 < m + t → Cq N R → Ad N R P → R < 2 ^ n → V R → b < 512 → Bst w V b →
    (∀ (t' m' b' : Nat) (c' o' : Nat → Int32), t' + 1 ≤ t + 2 ^ (pc P + 1) → 2000 < m' + t' → (∀ e, e < d → c' e = a_clique e ∧ o' e = a_open e) → b' < 512 →
      Bst w (fun s => V s ∨ Sbq N R P s) b' →
      wX_search_80 post m' (nI d + (-1)) (nI t') (nI n) f_found (nI b') (nI (wt w b')) a_near a_weights a_list c' o' a_gone a_tried a_bySize a_loose a_least a_ways) →
    wX_search_80 post m (nI d) (nI t) (nI n) f_found (nI b) (nI (wt w b)) a_near a_weights a_list a_clique a_open a_gone a_tried a_bySize a_loose a_least a_ways := by
  have hn := G.2.1
  intro P
  induction P using Nat.strongRecOn with
  | ind P ih =>
    intro d t m R b a_clique a_open V bP hd ho hcl ht hm hR hA bR hVR bb hB K
    have b512 := gb_512 hn bP
    have pw1 := pw_s (pc P)
    have pw2 := Nat.two_pow_pos (pc P)
    have w1 := wt_20 (fun p hp => (hW p hp).2.2) R
    have w2 := wt_20 (fun p hp => (hW p hp).2.2) b
    obtain ⟨m, rfl⟩ : ∃ m', m = m' + 1 := ⟨m - 1, by omega⟩
    refine br_f (nI_ge (b := 2000) (by omega) (by decide)) (br_f (nI_pos (by omega)) ⟨pk_in d 11 (by omega), ?_⟩)
    rw [nI_clamp (n := d) (by omega), hcl]
    refine wo_w hn hW bR ⟨pk_in d 11 (by omega), ?_⟩
    rw [ho]
    by_cases z : P = 0
    · subst z
      refine br_t rfl (nm_e (nm_r (nI_1 t) (K (t + 1) m b a_clique a_open (by omega) (by omega) (fun _ _ => ⟨rfl, rfl⟩) bb (bst_c hB (fun s => ⟨fun h => h.elim id (fun y => (sb_0 hR).mp y ▸ hVR), Or.inl⟩)))))
    · refine br_f (nI_ne0 (by omega) (by omega)) ⟨pk_in d 11 (by omega), ?_⟩
      refine bo_w G hN hW b512 (fun bd hbd hbC => ?_)
      rw [nI_add]
      refine pk_le (wt w b) (wt w R + bd) (fun hgo => ?_) (fun hprune => ?_)
      · obtain ⟨p, hp9, hp, _, hlo⟩ := lo_w b512 z
        have ppos := pc_pos hp9 hp
        have pdel := pc_del hp9 hp
        have hpR : ¬ mb R p := ad_not G hA hp
        have hpn : p < n := gb_lt bP hp
        have ple : pc (nd P (2 ^ p) &&& N p) ≤ pc (nd P (2 ^ p)) := pc_mono (fun q hq => (gb_and.mp hq).1)
        have lt1 : nd P (2 ^ p) < P := gb_delt hp
        have lt2 : nd P (2 ^ p) &&& N p < P := Nat.lt_of_le_of_lt Nat.and_le_left lt1
        have b1 := nd_lt (2 ^ p) bP
        have pw3 : 2 ^ (pc (nd P (2 ^ p) &&& N p) + 1) ≤ 2 ^ pc P := pw_m (by omega)
        have pw4 : 2 ^ (pc (nd P (2 ^ p)) + 1) = 2 ^ pc P := by rw [pdel]
        have hcq : Cq N (R ||| 2 ^ p) := cq_ins G hR (fun r hr => hA p hp r hr)
        have hstep := fun s => sb_step (N := N) (R := R) (s := s) hp
        have bR' : R ||| 2 ^ p < 2 ^ n := Nat.or_lt_two_pow bR (gb_pwlt hpn)
        refine ⟨pk_in d 11 (by omega), hlo _ ⟨pk_in d 11 (by omega), pk_in d 11 (by omega), nm_r (e' := upd a_open d (nI (nd P (2 ^ p)))) (by rw [cv_bit (by omega), cv_nd]) ⟨pk_in d 11 (by omega), pk_in (d + 1) 11 (by omega) (nI_1 d), ?_⟩⟩⟩
        refine nm_r (e' := upd a_clique (d + 1) (nI (R ||| 2 ^ p))) (by rw [nI_1, nI_clamp (n := d + 1) (by omega), cv_bit (by omega), cv_or]) ⟨pk_in d 11 (by omega), pk_in p 9 hp9, pk_in (d + 1) 11 (by omega) (nI_1 d), ?_⟩
        refine nm_r (e' := upd (upd a_open d (nI (nd P (2 ^ p)))) (d + 1) (nI (nd P (2 ^ p) &&& N p))) (by rw [nI_1, nI_clamp (n := d + 1) (by omega), pk_us, nI_clamp (n := p) (by omega), hN p hp9, nx_and]) (nm_r (nI_1 d) ⟨pk_in (d + 1) 11 (by omega), ?_⟩)
        rw [nI_clamp (n := d + 1) (by omega), pk_us]
        refine of_w hn hW bR' bb hB (fun b' bb' hB' => nm_r (nI_1 t) ?_)
        refine ih _ lt2 (d + 1) (t + 1) m (R ||| 2 ^ p) b' _ _ (fun s => V s ∨ s = R ||| 2 ^ p) (Nat.lt_trans lt2 bP) (by omega) pk_us pk_us (by omega) (by omega) hcq
          (ad_ins G hA (fun v hv => ⟨(gb_nd.mp (gb_and.mp hv).1).1, (gb_and.mp hv).2⟩)) bR' (Or.inr rfl) bb' hB' ?_
        intro t1 m1 b1' c1 o1 ht1 hm1 hco1 bb1 hB1
        rw [pk_m1]
        refine ih _ lt1 d t1 m1 R b1' c1 o1 _ b1 (by omega) (by rw [(hco1 d (by omega)).2, pk_un (by omega), pk_us]) (by rw [(hco1 d (by omega)).1, pk_un (by omega)]; exact hcl) (by omega) hm1 hR (ad_sub hA (fun q hq => (gb_nd.mp hq).1)) bR (Or.inl (Or.inl hVR)) bb1 hB1 ?_
        intro t2 m2 b2 c2 o2 ht2 hm2 hco2 bb2 hB2
        refine K t2 m2 b2 c2 o2 (by omega) hm2 (fun e he => ?_) bb2 (bst_c hB2 (fun s => ?_))
        · rw [(hco2 e he).1, (hco2 e he).2, (hco1 e (by omega)).1, (hco1 e (by omega)).2, pk_un (by omega), pk_un (by omega), pk_un (by omega)]
          exact ⟨rfl, rfl⟩
        · constructor
          · rintro (h | h)
            · exact Or.inl (Or.inl (Or.inl h))
            · rcases (hstep s).mp h with y | y
              · exact Or.inl (Or.inr y)
              · exact Or.inr y
          · rintro (((h | h) | h) | h)
            · exact Or.inl h
            · exact Or.inr ((hstep s).mpr (Or.inl (by rw [h]; exact sb_self hcq)))
            · exact Or.inr ((hstep s).mpr (Or.inl h))
            · exact Or.inr ((hstep s).mpr (Or.inr h))
      · refine nm_e (nm_r (nI_1 t) (K (t + 1) m b a_clique a_open (by omega) (by omega) (fun _ _ => ⟨rfl, rfl⟩) bb ⟨Or.inl hB.1, fun s hs => ?_⟩))
        rcases hs with hs | hs
        · exact hB.2 s hs
        · have := sb_wt (w := w) hs hbC
          exact Or.inl (by omega)
/-- the common neighbours of a clique -/
theorem se_lp {post : SX → Prop} (G : Gr n N) (hN : NR a_near N) (hW : WR a_weights w) {x : Nat} (hx : x < 2 ^ n) (hc : Cq N x)
    (K : ∀ (b : Nat) (c' o' : Nat → Int32), b < 512 → Bst w (fun s => (s < 2 ^ n ∧ Cq N s) ∧ ∀ p, mb x p → mb s p) b → post ((nI n), f_found, (nI b), (nI (wt w b)), a_near, a_weights, a_list, c', o', a_gone, a_tried, a_bySize, a_loose, a_least, a_ways)) :
    ∀ k j, j + k = n → ∀ P, (∀ v, mb P v ↔ v < n ∧ ∀ r, r < j → mb x r → mb (N r) v) → wX_search_11 post (nI x) (nI n) f_found f_bestSet f_bestWeight a_near a_weights a_list a_clique a_open a_gone a_tried a_bySize a_loose a_least a_ways (k + 1) (nI P) (nI j) := by
  have hn := G.2.1
  have h512 := gb_512 hn hx
  intro k
  induction k with
  | zero =>
    intro j hj P hP
    obtain rfl : j = n := by omega
    have bP : P < 2 ^ j := gb_ltI (fun p hp => ((hP p).mp hp).1)
    have hA : Ad N x P := fun v hv r hr => G.2.2.2.2 _ _ (((hP v).mp hv).2 r (gb_lt hx hr) hr)
    have p9 := pc_9 P
    have p10 : 2 ^ (pc P + 1) ≤ 2 ^ 10 := pw_m (by omega)
    have e10 : 2 ^ 10 = 1024 := rfl
    refine br_t (nI_le (Nat.le_refl _) (by omega)) (wo_w hn hW hx (nm_e (nm_e ⟨2001, ?_⟩)))
    refine se_run G hN hW P 0 0 2001 x x _ _ (fun s => s = x) bP (by omega) pk_us pk_us (by omega) (by omega) hc hA hx rfl h512 ⟨rfl, fun s hs => Or.inr ⟨by rw [hs], by omega⟩⟩ ?_
    intro t' m' b' c' o' h1 h2 _ bb hB
    obtain ⟨m', rfl⟩ : ∃ m, m' = m + 1 := ⟨m' - 1, by omega⟩
    have fin := K b' c' o' bb (bst_c hB (fun s => by
      constructor
      · rintro ⟨⟨h1, h2⟩, h3⟩
        refine Or.inr ⟨h3, fun p hp => ?_, h2⟩
        by_cases e : mb x p
        · exact Or.inl e
        · exact Or.inr ((hP p).mpr ⟨gb_lt h1 hp, fun r _ hr => h2 r p (h3 r hr) hp (fun y => e (y ▸ hr))⟩)
      · rintro (h | h)
        · rw [h]; exact ⟨⟨hx, hc⟩, fun _ z => z⟩
        · exact ⟨⟨gb_ltI (fun p hp => (h.2.1 p hp).elim (gb_lt hx) (gb_lt bP)), h.2.2⟩, h.1⟩))
    exact br_c (fun _ => fin) (fun _ => br_t (by decide) fin)
  | succ k ih =>
    intro j hj P hP
    refine pk_le n j (fun z => absurd z (by omega)) (fun _ => ?_)
    by_cases z : mb x j
    · refine br_t ((cv_t1 (by omega) (by omega)).mpr z) ⟨pk_in j 9 (by omega), ?_⟩
      refine nm_r (e' := nI (P &&& N j)) (by rw [nI_clamp (n := j) (by omega), hN j (by omega), nx_and]) (nm_r (nI_1 j) (ih (j + 1) (by omega) _ (fun v => ?_)))
      rw [gb_and, hP v]
      constructor
      · rintro ⟨⟨h1, h2⟩, h3⟩
        refine ⟨h1, fun r hr hm => ?_⟩
        by_cases e : r = j
        · subst e; exact h3
        · exact h2 r (by omega) hm
      · rintro ⟨h1, h2⟩
        exact ⟨⟨h1, fun r hr hm => h2 r (by omega) hm⟩, h2 j (by omega) z⟩
    · refine br_f (fun e => z ((cv_t1 (by omega) (by omega)).mp e)) (nm_r (nI_1 j) (ih (j + 1) (by omega) P (fun v => ?_)))
      rw [hP v]
      constructor
      · rintro ⟨h1, h2⟩
        refine ⟨h1, fun r hr hm => ?_⟩
        by_cases e : r = j
        · subst e; exact absurd hm z
        · exact h2 r (by omega) hm
      · rintro ⟨h1, h2⟩
        exact ⟨h1, fun r hr hm => h2 r (by omega) hm⟩
theorem se_w {post : SX → Prop} (G : Gr n N) (hN : NR a_near N) (hW : WR a_weights w) {x : Nat} (hx : x < 2 ^ n) (hc : Cq N x)
    (K : ∀ (b : Nat) (c' o' : Nat → Int32), b < 512 → Bst w (fun s => (s < 2 ^ n ∧ Cq N s) ∧ ∀ p, mb x p → mb s p) b → post ((nI n), f_found, (nI b), (nI (wt w b)), a_near, a_weights, a_list, c', o', a_gone, a_tried, a_bySize, a_loose, a_least, a_ways)) :
    wpX_search post ((nI n), f_found, f_bestSet, f_bestWeight, a_near, a_weights, a_list, a_clique, a_open, a_gone, a_tried, a_bySize, a_loose, a_least, a_ways) (nI x) := by
  have hn := G.2.1
  exact nm_r (cv_all (by omega)) ⟨n + 1, se_lp G hN hW hx hc K n 0 (Nat.zero_add n) (2 ^ n - 1) (fun v => gb_al.trans ⟨fun h => ⟨h, fun r hr => absurd hr (by omega)⟩, fun h => h.1⟩)⟩
end
end
section
/-! X: the full cliques -/
noncomputable def Bnd (P X T m : Nat) : Nat := b01 (P = 0 ∧ X = 0) + pc T * gg m
theorem pv_sub {N : Nat → Nat} {P X T : Nat} (h : Pv N P X T) : ∀ p, mb T p → mb P p := by
  rcases h with h | ⟨u, _, e, _⟩
  · intro p hp; rw [h.2.2] at hp; exact absurd hp gb_0
  · intro p hp; rw [e, gb_nd] at hp; exact hp.1
/-- a fresh place: at most as many leaves as its candidates allow -/
theorem pv_bnd {n : Nat} {N : Nat → Nat} {P X T : Nat} (h : Pv N P X T) : ∃ m, (∀ v, mb T v → pc (P &&& N v) ≤ m) ∧ m ≤ 9 ∧ Bnd P X T m ≤ gg (pc P) := by
  rcases h with ⟨rfl, rfl, rfl⟩ | ⟨u, hu, rfl, h⟩
  · refine ⟨0, fun v hv => absurd hv gb_0, by omega, ?_⟩
    unfold Bnd
    rw [b01_t ⟨rfl, rfl⟩, pc_0, Nat.zero_mul]; decide
  · refine ⟨pc (P &&& N u), fun v hv => h v (Or.inl (gb_nd.mp hv).1), pc_9 _, ?_⟩
    unfold Bnd
    rw [b01_f (fun z => hu.elim (fun y => gb_0 (z.1 ▸ y)) (fun y => gb_0 (z.2 ▸ y))), Nat.zero_add]
    have s := pc_split P (N u)
    have p9 := pc_9 P
    by_cases z : pc (nd P (N u)) = 0
    · rw [z, Nat.zero_mul]; exact Nat.zero_le _
    · have := gg_step (pc P) (by omega) (pc (nd P (N u))) (by omega) (by omega) (by omega)
      rw [show pc P - pc (nd P (N u)) = pc (P &&& N u) from by omega] at this
      exact this
section
variable {f_found f_bestSet f_bestWeight : Int32} {a_near a_weights a_list a_clique a_open a_gone a_tried a_bySize a_loose a_least : Nat → Int32} {a_ways : Nat → Int64}
variable {n : Nat} {N w : Nat → Nat}
theorem lf_run {post : SX → Prop} (G : Gr n N) (hN : NR a_near N) : ∀ (P : Nat) (d t m R X T c q : Nat) (l : Nat → Nat) (a_list a_clique a_open a_gone a_tried : Nat → Int32) (S : Nat → Prop),
    P < 2 ^ n → d + pc P ≤ 9 → a_open d = nI P → a_clique d = nI R → a_gone d = nI X → a_tried d = nI T → X < 2 ^ n → R < 2 ^ n →
    t + 2 ^ (pc P + 1) ≤ 11000 → 11000 < m + t → Cq N R → Ad N R P → Ad N R X →
    ((P = 0 ∧ X = 0 ∧ T = 0) ∨ ∃ u, (mb P u ∨ mb X u) ∧ T = nd P (N u)) → (∀ v, mb T v → pc (P &&& N v) ≤ q) → q ≤ 9 →
    SL S c l → LA a_list c l → (∀ s, S s → s < 512) → c + Bnd P X T q ≤ 32 → (∀ s, Mx N R P X s → ¬ S s) →
    (∀ (t' m' c' : Nat) (l' : Nat → Nat) (i' k' o' g' r' : Nat → Int32), t' + 1 ≤ t + 2 ^ (pc P + 1) → 11000 < m' + t' →
      (∀ e, e < d → k' e = a_clique e ∧ o' e = a_open e ∧ g' e = a_gone e ∧ r' e = a_tried e) →
      SL (fun s => S s ∨ Mx N R P X s) c' l' → LA i' c' l' → c' ≤ c + Bnd P X T q →
      wX_listFull_48 post m' (nI d + (-1)) (nI t') (nI n) (nI c') f_bestSet f_bestWeight a_near a_weights i' k' o' g' r' a_bySize a_loose a_least a_ways) →
    wX_listFull_48 post m (nI d) (nI t) (nI n) (nI c) f_bestSet f_bestWeight a_near a_weights a_list a_clique a_open a_gone a_tried a_bySize a_loose a_least a_ways := by
  have hn := G.2.1
  intro P
  induction P using Nat.strongRecOn with
  | ind P ih =>
    intro d t m R X T c q l a_list a_clique a_open a_gone a_tried S bP hd ho hcl hgo htr bX bR ht hm hR hAP hAX hpv hq hq9 hS hL hSb hB hdis K
    have b512 := gb_512 hn bP
    have x512 := gb_512 hn bX
    have r512 := gb_512 hn bR
    have pw1 := pw_s (pc P)
    have pw2 := Nat.two_pow_pos (pc P)
    have hTP : ∀ p, mb T p → mb P p := by
      rcases hpv with h | ⟨u, _, e⟩
      · intro p hp; rw [h.2.2] at hp; exact absurd hp gb_0
      · intro p hp; rw [e, gb_nd] at hp; exact hp.1
    have t512 : T < 512 := Nat.lt_of_le_of_lt (gb_le hTP) b512
    obtain ⟨m, rfl⟩ : ∃ m', m = m' + 1 := ⟨m - 1, by omega⟩
    refine br_f (nI_ge (b := 11000) (by omega) (by decide)) (br_f (nI_pos (by omega)) ⟨pk_in d 11 (by omega), ?_⟩)
    rw [nI_clamp (n := d) (by omega), htr]
    by_cases z : T = 0
    · subst z
      refine br_t rfl ⟨pk_in d 11 (by omega), ?_⟩
      rw [ho]
      have dead : ¬ (P = 0 ∧ X = 0) → ∀ s, ¬ Mx N R P X s := by
        intro hne s
        rcases hpv with h | ⟨u, hu, e⟩
        · exact absurd ⟨h.1, h.2.1⟩ hne
        · exact mx_dead G hu e.symm hAP hAX
      have pop : ¬ (P = 0 ∧ X = 0) → ∀ x, x = nI d + (-1) → ∀ y, y = nI t + 1 → wX_listFull_48 post m x y (nI n) (nI c) f_bestSet f_bestWeight a_near a_weights a_list a_clique a_open a_gone a_tried a_bySize a_loose a_least a_ways := by
        intro hne
        refine nm_e (nm_r (nI_1 t) (K (t + 1) m c l a_list a_clique a_open a_gone a_tried (by omega) (by omega) (fun _ _ => ⟨rfl, rfl, rfl, rfl⟩) (ls_c hS (fun s => ⟨fun h => h.resolve_right (dead hne s), Or.inl⟩)) hL (by omega)))
      by_cases zP : P = 0
      · subst zP
        refine br_t rfl ⟨pk_in d 11 (by omega), ?_⟩
        rw [hgo]
        by_cases zX : X = 0
        · subst zX
          refine br_t rfl ⟨pk_in d 11 (by omega), ?_⟩
          rw [hcl]
          have e1 : Bnd 0 0 0 q = 1 := by unfold Bnd; rw [b01_t ⟨rfl, rfl⟩, pc_0, Nat.zero_mul]
          rw [e1] at hB K
          have hRn : ¬ S R := hdis R ((mx_leaf hR).mpr rfl)
          refine en_w hS hL (by omega) r512 hSb hRn (fun i' l' hS' hL' => ⟨pk_in d 11 (by omega), ?_⟩)
          refine nm_e (nm_e (nm_r (nI_1 t) (K (t + 1) m (c + 1) l' i' a_clique a_open _ a_tried (by omega) (by omega) (fun e he => ⟨rfl, rfl, pk_un (by omega), rfl⟩) (ls_c hS' (fun s => ⟨fun h => h.imp id (mx_leaf hR).mp, fun h => h.imp id (mx_leaf hR).mpr⟩)) hL' (by omega))))
        · exact br_f (nI_ne0 (by omega) (by omega)) (pop (fun h => zX h.2))
      · exact br_f (nI_ne0 (by omega) (by omega)) (pop (fun h => zP h.1))
    · refine br_f (nI_ne0 (by omega) (by omega)) ⟨pk_in d 11 (by omega), ?_⟩
      obtain ⟨p, hp9, hpT, _, hlo⟩ := lo_w t512 z
      have hp := hTP p hpT
      have ppos := pc_pos hp9 hp
      have pdel := pc_del hp9 hp
      have tdel := pc_del hp9 hpT
      have hpR : ¬ mb R p := ad_not G hAP hp
      have hpn : p < n := gb_lt bP hp
      have pnn : ¬ mb (N p) p := G.2.2.2.1 p
      have lt1 : nd P (2 ^ p) < P := gb_delt hp
      have lt2 : P &&& N p < P := gb_slt (p := p) (fun q hq => (gb_and.mp hq).1) hp (fun h => pnn (gb_and.mp h).2)
      have ple : pc (P &&& N p) ≤ pc (nd P (2 ^ p)) := pc_mono (fun q hq => gb_nd.mpr ⟨(gb_and.mp hq).1, fun h => pnn (gb_pw.mp h ▸ (gb_and.mp hq).2)⟩)
      have b1 := nd_lt (2 ^ p) bP
      have b2 : P &&& N p < 2 ^ n := Nat.lt_trans lt2 bP
      have bx2 : X &&& N p < 2 ^ n := Nat.lt_of_le_of_lt Nat.and_le_left bX
      have pw3 : 2 ^ (pc (P &&& N p) + 1) ≤ 2 ^ pc P := pw_m (by omega)
      have pw4 : 2 ^ (pc (nd P (2 ^ p)) + 1) = 2 ^ pc P := by rw [pdel]
      have hcq : Cq N (R ||| 2 ^ p) := cq_ins G hR (fun r hr => hAP p hp r hr)
      have hstep := fun s => mx_step G (R := R) (X := X) (s := s) hp
      have bR' : R ||| 2 ^ p < 2 ^ n := Nat.or_lt_two_pow bR (gb_pwlt hpn)
      have hne : ¬ (P = 0 ∧ X = 0) := fun h => gb_0 (h.1 ▸ hp)
      obtain ⟨u, hu, eT⟩ : ∃ u, (mb P u ∨ mb X u) ∧ T = nd P (N u) := hpv.resolve_left (fun h => hne ⟨h.1, h.2.1⟩)
      have eB : Bnd P X T q = pc T * gg q := by unfold Bnd; rw [b01_f hne, Nat.zero_add]
      rw [eB] at hB K
      refine hlo _ (nm_r (cv_bit (by omega)) ⟨pk_in d 11 (by omega), pk_in d 11 (by omega), ?_⟩)
      rw [cv_nd]
      refine nm_e ⟨pk_in d 11 (by omega), pk_in (d + 1) 11 (by omega) (nI_1 d), ?_⟩
      rw [hcl, cv_or, nI_1 d, nI_clamp (n := d + 1) (by omega)]
      refine nm_e ⟨pk_in d 11 (by omega), pk_in p 9 hp9, pk_in (d + 1) 11 (by omega), ?_⟩
      rw [nI_clamp (n := p) (by omega), hN p hp9, ho, hgo, nx_and, nx_and]
      refine nm_e ⟨pk_in d 11 (by omega), pk_in p 9 hp9, pk_in (d + 1) 11 (by omega), nm_e ⟨pk_in d 11 (by omega), pk_in d 11 (by omega), ?_⟩⟩
      rw [pk_un (by omega), pk_un (by omega), ho, hgo, cv_nd, cv_or]
      refine nm_e ⟨pk_in d 11 (by omega), pk_in d 11 (by omega), nm_e (nm_e ?_)⟩
      obtain ⟨T2, hT2, hch⟩ := ch_w (f_found := nI c) (f_bestSet := f_bestSet) (f_bestWeight := f_bestWeight) (a_weights := a_weights) (a_list := a_list) (a_clique := upd a_clique (d + 1) (nI (R ||| 2 ^ p))) (a_tried := upd a_tried d (nI (nd T (2 ^ p)))) (a_bySize := a_bySize) (a_loose := a_loose) (a_least := a_least) (a_ways := a_ways)
        (a_open := upd (upd a_open (d + 1) (nI (P &&& N p))) d (nI (nd P (2 ^ p)))) (a_gone := upd (upd a_gone (d + 1) (nI (X &&& N p))) d (nI (X ||| 2 ^ p)))
        G hN (d := d + 1) (P := P &&& N p) (X := X &&& N p) (by omega) (by rw [pk_un (by omega), pk_us]) (by rw [pk_un (by omega), pk_us]) b2 bx2
      refine hch _ ⟨pk_in (d + 1) 11 (by omega), ?_⟩
      rw [nI_clamp (n := d + 1) (by omega)]
      refine nm_e (nm_r (nI_1 t) ?_)
      obtain ⟨q2, hq2, hq29, hB2⟩ := pv_bnd (n := n) hT2
      have gm : gg (pc (P &&& N p)) ≤ gg q := gg_mono q (by omega) _ (by have := pc_9 (P &&& N p); omega) (hq p hpT)
      have mulT : pc T * gg q = pc (nd T (2 ^ p)) * gg q + gg q := by rw [← tdel, Nat.add_mul, Nat.one_mul]
      refine ih _ lt2 (d + 1) (t + 1) m (R ||| 2 ^ p) (X &&& N p) T2 c q2 l a_list _ _ _ _ S b2 (by omega) (by rw [pk_un (by omega), pk_us]) pk_us (by rw [pk_un (by omega), pk_us]) pk_us bx2 bR' (by omega) (by omega) hcq
        (ad_ins G hAP (fun v hv => gb_and.mp hv)) (ad_ins G hAX (fun v hv => gb_and.mp hv)) (hT2.imp id (fun ⟨u, h1, h2, _⟩ => ⟨u, h1, h2⟩)) hq2 hq29 hS hL hSb (by omega)
        (fun s hs => hdis s ((hstep s).mpr (Or.inl hs))) ?_
      intro t1 m1 c1 l1 i1 k1 o1 g1 r1 ht1 hm1 hk1 hS1 hL1 hc1
      rw [pk_m1]
      have hd1 := hk1 d (by omega)
      rw [pk_un (by omega), pk_us, pk_us, pk_un (by omega), pk_us] at hd1
      have hcl1 : k1 d = nI R := hd1.1.trans hcl
      have eB1 : Bnd (nd P (2 ^ p)) (X ||| 2 ^ p) (nd T (2 ^ p)) q = pc (nd T (2 ^ p)) * gg q := by
        unfold Bnd
        have hx : mb (X ||| 2 ^ p) p := gb_or.mpr (Or.inr (gb_pw.mpr rfl))
        rw [b01_f (P := nd P (2 ^ p) = 0 ∧ X ||| 2 ^ p = 0) (fun h => gb_ne0 hx h.2), Nat.zero_add]
      refine ih _ lt1 d t1 m1 R (X ||| 2 ^ p) (nd T (2 ^ p)) c1 q l1 i1 k1 o1 g1 r1 _ b1 (by omega) hd1.2.1 hcl1 hd1.2.2.1 hd1.2.2.2 (Nat.or_lt_two_pow bX (gb_pwlt hpn)) bR (by omega) hm1 hR
        (ad_sub hAP (fun q hq => (gb_nd.mp hq).1)) ?_ (Or.inr ⟨u, ?_, ?_⟩) ?_ hq9 hS1 hL1 ?_ (by rw [eB1]; omega) ?_ ?_
      · intro v hv r hr
        rw [gb_or, gb_pw] at hv
        rcases hv with hv | hv
        · exact hAX v hv r hr
        · subst hv; exact hAP v hp r hr
      · rw [gb_nd, gb_or, gb_pw]
        by_cases e : u = p
        · exact Or.inr (Or.inr e)
        · exact hu.imp (fun y => ⟨y, e⟩) Or.inl
      · rw [eT, nd_nd]
      · intro v hv
        refine Nat.le_trans (pc_mono (fun a ha => ?_)) (hq v (gb_nd.mp hv).1)
        rw [gb_and, gb_nd] at ha
        exact gb_and.mpr ⟨ha.1.1, ha.2⟩
      · intro s hs
        rcases hs with hs | hs
        · exact hSb s hs
        · exact gb_512 hn (gb_ltI (fun a ha => (hs.1.2.1 a ha).elim (gb_lt bR') (gb_lt b2)))
      · intro s hs hv
        rcases hv with hv | hv
        · exact hdis s ((hstep s).mpr (Or.inr hs)) hv
        · exact sb_hasnt hpR hs.1 (sb_has hv.1)
      · intro t2 m2 c2 l2 i2 k2 o2 g2 r2 ht2 hm2 hk2 hS2 hL2 hc2
        refine K t2 m2 c2 l2 i2 k2 o2 g2 r2 (by omega) hm2 (fun e he => ?_) (ls_c hS2 (fun s => ?_)) hL2 (by rw [eB1] at hc2; omega)
        · have a := hk2 e he
          have b := hk1 e (by omega)
          rw [pk_un (by omega), pk_un (by omega), pk_un (by omega), pk_un (by omega), pk_un (by omega), pk_un (by omega), pk_un (by omega)] at b
          exact ⟨a.1.trans b.1, a.2.1.trans b.2.1, a.2.2.1.trans b.2.2.1, a.2.2.2.trans b.2.2.2⟩
        · constructor
          · rintro (h | h)
            · exact Or.inl (Or.inl h)
            · rcases (hstep s).mp h with y | y
              · exact Or.inl (Or.inr y)
              · exact Or.inr y
          · rintro ((h | h) | h)
            · exact Or.inl h
            · exact Or.inr ((hstep s).mpr (Or.inl h))
            · exact Or.inr ((hstep s).mpr (Or.inr h))
theorem lf_w {post : SX → Prop} (G : Gr n N) (hN : NR a_near N)
    (K : ∀ (c : Nat) (l : Nat → Nat) (i' k' o' g' r' : Nat → Int32), SL (fun s => s < 2 ^ n ∧ Fl n N s) c l → LA i' c l → c ≤ 32 → post ((nI n), (nI c), f_bestSet, f_bestWeight, a_near, a_weights, i', k', o', g', r', a_bySize, a_loose, a_least, a_ways)) :
    wpX_listFull post ((nI n), f_found, f_bestSet, f_bestWeight, a_near, a_weights, a_list, a_clique, a_open, a_gone, a_tried, a_bySize, a_loose, a_least, a_ways) := by
  have hn := G.2.1
  have al : 2 ^ n - 1 < 2 ^ n := by have := Nat.two_pow_pos n; omega
  have p9 := pc_9 (2 ^ n - 1)
  have p10 : 2 ^ (pc (2 ^ n - 1) + 1) ≤ 2 ^ 10 := pw_m (by omega)
  have e10 : 2 ^ 10 = 1024 := rfl
  refine nm_e (nm_r (e' := upd a_open 0 (nI (2 ^ n - 1))) (by rw [cv_all (by omega)]) (nm_e ?_))
  obtain ⟨T, hT, hch⟩ := ch_w (f_found := 0) (f_bestSet := f_bestSet) (f_bestWeight := f_bestWeight) (a_weights := a_weights) (a_list := a_list) (a_clique := upd a_clique 0 0) (a_tried := a_tried) (a_bySize := a_bySize) (a_loose := a_loose) (a_least := a_least) (a_ways := a_ways)
    (a_open := upd a_open 0 (nI (2 ^ n - 1))) (a_gone := upd a_gone 0 0) G hN (d := 0) (P := 2 ^ n - 1) (X := 0) (by omega) pk_us pk_us al (Nat.two_pow_pos n)
  obtain ⟨q, hq, hq9, hB⟩ := pv_bnd (n := n) hT
  have gm : gg (pc (2 ^ n - 1)) ≤ gg 9 := gg_mono 9 (by omega) _ (by omega) p9
  have g9 : gg 9 = 27 := rfl
  refine hch _ (nm_e ⟨11001, ?_⟩)
  refine lf_run G hN (2 ^ n - 1) 0 0 11001 0 0 T 0 q (fun _ => 0) a_list _ _ _ _ (fun _ => False) al (by omega) pk_us pk_us pk_us pk_us (Nat.two_pow_pos n) (Nat.two_pow_pos n) (by omega) (by omega) (cq_0 N)
    (fun _ _ r hr => absurd hr gb_0) (fun _ _ r hr => absurd hr gb_0) (hT.imp id (fun ⟨u, h1, h2, _⟩ => ⟨u, h1, h2⟩)) hq hq9 ls_0 (fun i h => absurd h (by omega)) (fun _ h => h.elim) (by omega) (fun _ _ h => h) ?_
  intro t' m' c' l' i' k' o' g' r' h1 h2 _ hS hL hc
  obtain ⟨m', rfl⟩ : ∃ m, m' = m + 1 := ⟨m' - 1, by omega⟩
  have fin := K c' l' i' k' o' g' r' (ls_c hS (fun s => ⟨fun h => Or.inr ((mx_top G).mpr h), fun h => h.elim False.elim (mx_top G).mp⟩)) hL (by omega)
  exact br_c (fun _ => fin) (fun _ => br_t (by decide) fin)
end
end
section
/-! X: loose sets and the fewest classes -/
theorem cv_pred {a : Nat} (h : 0 < a) : nI a - 1 = nI (a - 1) := pk_sub (b := 1) h
theorem cv_bz {P : Prop} (h : P) : nI (b01 P) = 1 := by rw [b01_t h]; rfl
theorem cv_bf {P : Prop} (h : ¬ P) : nI (b01 P) = 0 := by rw [b01_f h]; rfl
theorem cv_b0 {P : Prop} : nI (b01 P) = 0 ↔ ¬ P := by
  constructor
  · intro h p
    rw [cv_bz p] at h; exact absurd h (by decide)
  · exact cv_bf
theorem cv_ap {a p : Nat} (ha : a < 512) : nI a &&& nI (2 ^ p) = 0 ↔ ¬ mb a p := by
  rw [nx_and, ← nI_0, nI_eq (Nat.lt_of_le_of_lt Nat.and_le_left (by omega)) (by decide)]
  constructor
  · intro h hm
    exact gb_0 (h ▸ gb_and.mpr ⟨hm, gb_pw.mpr rfl⟩)
  · intro h
    refine gb_z (fun q hq => ?_)
    rw [gb_and, gb_pw] at hq
    exact h (hq.2 ▸ hq.1)
section
variable {f_found f_bestSet f_bestWeight : Int32} {a_near a_weights a_list a_clique a_open a_gone a_tried a_bySize a_loose a_least : Nat → Int32} {a_ways : Nat → Int64}
variable {n : Nat} {N w : Nat → Nat}
theorem fl_lp1 {post : SX → Prop} (G : Gr n N) (hN : NR a_near N)
    (K : ∀ lo le : Nat → Int32, (∀ s, s < 2 ^ n → lo s = nI (b01 (Ind N s))) → (∀ s, s < 2 ^ n → le s = -1) → ∃ m, wX_findLoose_97 post (nI n) f_found f_bestSet f_bestWeight m 1 a_near a_weights a_list a_clique a_open a_gone a_tried a_bySize lo (upd le 0 0) a_ways) :
    ∀ k j, j + k = 2 ^ n → ∀ a_loose a_least : Nat → Int32, (∀ s, s < j → a_loose s = nI (b01 (Ind N s))) → (∀ s, s < j → a_least s = -1) → wX_findLoose_2 post (nI n) f_found f_bestSet f_bestWeight (k + 1) (nI j) a_near a_weights a_list a_clique a_open a_gone a_tried a_bySize a_loose a_least a_ways := by
  have hn := G.2.1
  have b2 := gb_p2 hn
  intro k
  induction k with
  | zero =>
    intro j hj lo le h1 h2
    refine br_t ?_ (nm_e (K lo le (fun s hs => h1 s (by omega)) (fun s hs => h2 s (by omega))))
    rw [cv_bit (by omega)]; exact nI_le (by omega) (by omega)
  | succ k ih =>
    intro j hj lo le h1 h2
    refine pk_le (2 ^ n) j (fun z => absurd z (by omega)) (fun _ => ?_) (cv_bit (by omega)) rfl (by omega) (by omega)
    have next : ∀ v : Int32, v = nI (b01 (Ind N j)) → ∀ y : Int32, wX_findLoose_2 post (nI n) f_found f_bestSet f_bestWeight (k + 1) (nI (j + 1)) a_near a_weights a_list a_clique a_open a_gone a_tried a_bySize (upd (upd lo j y) j v) (upd le j (-1)) a_ways := by
      intro v hv y
      refine ih (j + 1) (by omega) _ _ (fun s hs => ?_) (fun s hs => ?_)
      · by_cases e : s = j
        · subst e; rw [pk_us]; exact hv
        · rw [pk_un e, pk_un e]; exact h1 s (by omega)
      · by_cases e : s = j
        · subst e; exact pk_us
        · rw [pk_un e]; exact h2 s (by omega)
    by_cases z : j = 0
    · subst z
      refine br_t rfl ⟨pk_in 0 512 (by omega), nm_e (br_t rfl ⟨pk_in 0 512 (by omega), nm_e (nm_r (nI_1 0) (ih 1 (by omega) _ _ (fun s hs => ?_) (fun s hs => ?_)))⟩)⟩
      · obtain rfl : s = 0 := by omega
        exact (cv_bz (ind_0 N)).symm
      · obtain rfl : s = 0 := by omega
        exact pk_us
    · refine br_f (nI_ne0 (by omega) (by omega)) ⟨pk_in j 512 (by omega), nm_r (e' := upd lo j 0) (by rw [nI_clamp (n := j) (by omega)]; rfl) (br_f (nI_ne0 (by omega) (by omega)) ?_)⟩
      obtain ⟨p, hp9, hp, _, hlo⟩ := lo_w (by omega) z
      have lt := gb_delt hp
      have ii := ind_ins (N := N) G hp
      have j74 : ∀ (y : Int32) (b : Int32), b = 0 ∨ b = 1 → b = nI (b01 (Ind N j)) → wX_findLoose_74 post (wX_findLoose_2 post (nI n) f_found f_bestSet f_bestWeight (k + 1)) (nI j) b (nI j) (nI n) f_found f_bestSet f_bestWeight a_near a_weights a_list a_clique a_open a_gone a_tried a_bySize (upd lo j y) le a_ways := by
        intro y b hb hv
        refine ⟨pk_in j 512 (by omega), nm_r (e' := upd (upd lo j y) j b) (by rw [nI_clamp (n := j) (by omega)]; rcases hb with h | h <;> rw [h] <;> rfl) ⟨pk_in j 512 (by omega), nm_r (e' := upd le j (-1)) (by rw [nI_clamp (n := j) (by omega)]) (nm_r (nI_1 j) (next b hv y))⟩⟩
      refine hlo _ (nm_r (e' := nI (nd j (2 ^ p))) (by rw [cv_bit (by omega), cv_nd]) ⟨pk_in (nd j (2 ^ p)) 512 (by omega), ?_⟩)
      rw [nI_clamp (n := nd j (2 ^ p)) (by omega), pk_un (by omega), h1 _ lt]
      by_cases i1 : Ind N (nd j (2 ^ p))
      · rw [cv_bz i1]
        refine br_f (by decide) ⟨pk_in p 9 hp9, ?_⟩
        rw [nI_clamp (n := p) (by omega), hN p hp9, nx_and]
        by_cases i2 : nd j (2 ^ p) &&& N p = 0
        · rw [i2]
          exact br_t rfl (j74 0 1 (Or.inr rfl) (cv_bz (ii.mpr ⟨i1, i2⟩)).symm)
        · have : nd j (2 ^ p) &&& N p ≤ nd j (2 ^ p) := Nat.and_le_left
          exact br_f (nI_ne0 (by omega) (by omega)) (j74 0 0 (Or.inl rfl) (cv_bf (fun h => i2 (ii.mp h).2)).symm)
      · rw [cv_bf i1]
        exact br_t rfl (j74 0 0 (Or.inl rfl) (cv_bf (fun h => i1 (ii.mp h).1)).symm)
/-- what the fewest classes are by the parts above a -/
def Lv (N M : Nat → Nat) (s p a : Nat) (v : Int32) : Prop := (v = -1 ∧ ∀ q, Vd N s q → mb q p → q ≤ a) ∨ ∃ q0, Vd N s q0 ∧ mb q0 p ∧ v = nI (M (nd s q0) + 1) ∧ ∀ q, Vd N s q → mb q p → a < q → M (nd s q0) ≤ M (nd s q)
theorem fl_lp2 {post : SX → Prop} {J : Int32 → (Nat → Int32) → (Nat → Int32) → (Nat → Int32) → (Nat → Int32) → (Nat → Int32) → (Nat → Int32) → (Nat → Int32) → (Nat → Int32) → (Nat → Int32) → (Nat → Int32) → (Nat → Int64) → Prop} (G : Gr n N) {s p : Nat} (hs : s < 2 ^ n) (hp : mb s p) (hlo : ∀ s, s < 2 ^ n → a_loose s = nI (b01 (Ind N s))) {M : Nat → Nat} {le : Nat → Int32} (hM : ∀ t, t < s → le t = nI (M t) ∧ M t ≤ t)
    (K : ∀ cur : Nat → Int32, (∀ t, t ≠ s → cur t = le t) → Lv N M s p 0 (cur s) → J (nI (s + 1)) a_near a_weights a_list a_clique a_open a_gone a_tried a_bySize a_loose cur a_ways) :
    ∀ m a, ∀ cur : Nat → Int32, a < m → sbs a s → (∀ t, t ≠ s → cur t = le t) → Lv N M s p a (cur s) → wX_findLoose_114 post J (nI s) (nI (2 ^ p)) (nI n) f_found f_bestSet f_bestWeight m (nI a) a_near a_weights a_list a_clique a_open a_gone a_tried a_bySize a_loose cur a_ways := by
  have hn := G.2.1
  have h512 := gb_512 hn hs
  intro m
  induction m with
  | zero => intro a cur h; exact absurd h (by omega)
  | succ m ih =>
    intro a cur ha hsa hcur hv
    have ale : a ≤ s := gb_le hsa
    by_cases z : a = 0
    · subst z
      exact br_t (by decide) (nm_r (nI_1 s) (K cur hcur hv))
    · have a' : (a - 1) &&& s ≤ a - 1 := Nat.and_le_left
      have sa' : sbs ((a - 1) &&& s) s := fun q hq => (gb_and.mp hq).2
      have nx : ∀ q, Vd N s q → (a - 1) &&& s < q → ¬ q < a := fun q hq h1 h2 => by
        have := gb_next s a q (by omega) hsa hq.1 h2
        omega
      have ee : (nI a - 1) &&& nI s = nI ((a - 1) &&& s) := by rw [cv_pred (by omega), nx_and]
      refine br_f (nI_nle (by omega) (by omega)) ?_
      have skip : ¬ (Ind N a ∧ mb a p) → wX_findLoose_114 post J (nI s) (nI (2 ^ p)) (nI n) f_found f_bestSet f_bestWeight m (nI ((a - 1) &&& s)) a_near a_weights a_list a_clique a_open a_gone a_tried a_bySize a_loose cur a_ways := by
        intro hno
        refine ih _ cur (by omega) sa' hcur ?_
        rcases hv with ⟨h1, h2⟩ | ⟨q0, h1, h2, h3, h4⟩
        · refine Or.inl ⟨h1, fun q hq hqp => ?_⟩
          have g1 := h2 q hq hqp
          have g2 : q ≠ a := fun e => hno ⟨e ▸ hq.2, e ▸ hqp⟩
          have g3 := nx q hq
          omega
        · refine Or.inr ⟨q0, h1, h2, h3, fun q hq hqp hlt => h4 q hq hqp ?_⟩
          have g2 : q ≠ a := fun e => hno ⟨e ▸ hq.2, e ▸ hqp⟩
          have g3 := nx q hq hlt
          omega
      by_cases hap : mb a p
      · refine br_f (fun e => (cv_ap (by omega)).mp e hap) ⟨pk_in a 512 (by omega), ?_⟩
        rw [nI_clamp (n := a) (by omega), hlo a (by omega)]
        by_cases hai : Ind N a
        · rw [cv_bz hai]
          have hva : Vd N s a := ⟨hsa, hai⟩
          have ltn : nd s a < s := gb_slt (p := p) (fun q hq => (gb_nd.mp hq).1) hp (fun h => (gb_nd.mp h).2 hap)
          have hMn := hM _ ltn
          have cn' : cur (nd s a) = nI (M (nd s a)) := (hcur _ (by omega)).trans hMn.1
          have put : (∀ q, Vd N s q → mb q p → (a - 1) &&& s < q → M (nd s a) ≤ M (nd s q)) → wX_findLoose_163 post J (wX_findLoose_114 post J (nI s) (nI (2 ^ p)) (nI n) f_found f_bestSet f_bestWeight m) (nI s) (nI a) (nI (2 ^ p)) (nI n) f_found f_bestSet f_bestWeight a_near a_weights a_list a_clique a_open a_gone a_tried a_bySize a_loose cur a_ways := by
            intro hmin
            unfold wX_findLoose_163
            rw [cv_nd, nI_clamp (n := s) (by omega), nI_clamp (n := nd s a) (by omega), cn', nI_1]
            refine ⟨pk_in (nd s a) 512 (by omega), pk_in s 512 (by omega), nm_e (nm_r ee (ih _ _ (by omega) sa' (fun t ht => by rw [pk_un ht]; exact hcur t ht) (Or.inr ⟨a, hva, hap, pk_us, hmin⟩)))⟩
          refine br_f (by decide) ⟨pk_in s 512 (by omega), ?_⟩
          rw [nI_clamp (n := s) (by omega), cv_nd, nI_clamp (n := nd s a) (by omega), cn', nI_1]
          rcases hv with ⟨h1, h2⟩ | ⟨q0, h1, h2, h3, h4⟩
          · rw [h1]
            refine br_t (by decide) (put (fun q hq hqp hlt => ?_))
            have g1 := h2 q hq hqp
            have g3 := nx q hq hlt
            obtain rfl : q = a := by omega
            exact Nat.le_refl _
          · rw [h3]
            have lt0 : nd s q0 < s := gb_slt (p := p) (fun q hq => (gb_nd.mp hq).1) hp (fun h => (gb_nd.mp h).2 h2)
            have hM0 := hM _ lt0
            refine br_f (nI_pos (by omega)) ⟨pk_in (nd s a) 512 (by omega), pk_in s 512 (by omega), ?_⟩
            refine pk_le (M (nd s q0) + 1) (M (nd s a) + 1) (fun y => nm_r ee (ih _ cur (by omega) sa' hcur (Or.inr ⟨q0, h1, h2, h3, fun q hq hqp hlt => ?_⟩))) (fun y => put (fun q hq hqp hlt => ?_))
            · have g3 := nx q hq hlt
              by_cases e : q = a
              · subst e; omega
              · exact h4 q hq hqp (by omega)
            · have g3 := nx q hq hlt
              by_cases e : q = a
              · subst e; exact Nat.le_refl _
              · have := h4 q hq hqp (by omega); omega
        · rw [cv_bf hai]
          exact br_t rfl (nm_r ee (skip (fun h => hai h.1)))
      · exact br_t ((cv_ap (by omega)).mpr hap) (nm_r ee (skip (fun h => hap h.2)))
theorem fl_lp3 {post : SX → Prop} (G : Gr n N) (hlo : ∀ s, s < 2 ^ n → a_loose s = nI (b01 (Ind N s)))
    (K : ∀ le : Nat → Int32, (∀ s, s < 2 ^ n → ∃ m, m ≤ s ∧ le s = nI m ∧ Lst N s m) → post ((nI n), f_found, f_bestSet, f_bestWeight, a_near, a_weights, a_list, a_clique, a_open, a_gone, a_tried, a_bySize, a_loose, le, a_ways)) :
    ∀ k j, j + k = 2 ^ n → 1 ≤ j → ∀ a_least : Nat → Int32, (∀ s, s < j → ∃ m, m ≤ s ∧ a_least s = nI m ∧ Lst N s m) → (∀ s, j ≤ s → s < 2 ^ n → a_least s = -1) → wX_findLoose_97 post (nI n) f_found f_bestSet f_bestWeight (k + 1) (nI j) a_near a_weights a_list a_clique a_open a_gone a_tried a_bySize a_loose a_least a_ways := by
  have hn := G.2.1
  have b2 := gb_p2 hn
  intro k
  induction k with
  | zero =>
    intro j hj _ le h1 _
    refine br_t ?_ (K le (fun s hs => h1 s (by omega)))
    rw [cv_bit (by omega)]; exact nI_le (by omega) (by omega)
  | succ k ih =>
    intro j hj hj1 le h1 h2
    refine pk_le (2 ^ n) j (fun z => absurd z (by omega)) (fun _ => nm_r (lb_cv (by omega) (by omega)) ⟨513, ?_⟩) (cv_bit (by omega)) rfl (by omega) (by omega)
    have hp := (lb_ok (s := j) (by omega) (by omega)).1
    have hM : ∀ t, t < j → le t = nI (le t).toNatClampNeg ∧ (le t).toNatClampNeg ≤ t ∧ Lst N t (le t).toNatClampNeg := by
      intro t ht
      obtain ⟨m, g1, g2, g3⟩ := h1 t ht
      rw [g2, nI_clamp (by omega)]
      exact ⟨rfl, g1, g3⟩
    refine fl_lp2 (M := fun t => (le t).toNatClampNeg) (le := le) G (by omega) hp hlo (fun t ht => ⟨(hM t ht).1, (hM t ht).2.1⟩) ?_ 513 j le (by omega) (fun _ h => h) (fun _ _ => rfl) (Or.inl ⟨h2 j (Nat.le_refl _) (by omega), fun q hq _ => gb_le hq.1⟩)
    intro cur hcur hv
    rcases hv with ⟨_, h⟩ | ⟨q0, g1, g2, g3, g4⟩
    · have := h (2 ^ lb j) ⟨fun q hq => gb_pw.mp hq ▸ hp, ind_1 G _⟩ (gb_pw.mpr rfl)
      have := Nat.two_pow_pos (lb j)
      omega
    · have ltn : nd j q0 < j := gb_slt (p := lb j) (fun q hq => (gb_nd.mp hq).1) hp (fun h => (gb_nd.mp h).2 g2)
      refine ih (j + 1) (by omega) (by omega) cur (fun s hs => ?_) (fun s h3 h4 => ?_)
      · by_cases e : s = j
        · subst e
          refine ⟨(le (nd s q0)).toNatClampNeg + 1, by have := (hM _ ltn).2.1; omega, g3, lst_step hp (fun t ht => (hM t ht).2.2) g1 g2 (fun q hq hqp => g4 q hq hqp ?_)⟩
          have := gb_ne0 hqp
          omega
        · rw [hcur s e]; exact h1 s (by omega)
      · rw [hcur s (by omega)]; exact h2 s (by omega) h4
theorem fl_w {post : SX → Prop} (G : Gr n N) (hN : NR a_near N)
    (K : ∀ lo le : Nat → Int32, (∀ s, s < 2 ^ n → lo s = nI (b01 (Ind N s))) → (∀ s, s < 2 ^ n → ∃ m, m ≤ s ∧ le s = nI m ∧ Lst N s m) → post ((nI n), f_found, f_bestSet, f_bestWeight, a_near, a_weights, a_list, a_clique, a_open, a_gone, a_tried, a_bySize, lo, le, a_ways)) : wpX_findLoose post ((nI n), f_found, f_bestSet, f_bestWeight, a_near, a_weights, a_list, a_clique, a_open, a_gone, a_tried, a_bySize, a_loose, a_least, a_ways) := by
  have b2 := Nat.two_pow_pos n
  refine ⟨2 ^ n + 1, fl_lp1 G hN ?_ (2 ^ n) 0 (Nat.zero_add _) a_loose a_least (fun s h => absurd h (by omega)) (fun s h => absurd h (by omega))⟩
  intro lo le h1 h2
  refine ⟨2 ^ n - 1 + 1, fl_lp3 G h1 (fun le' h => K lo le' h1 h) (2 ^ n - 1) 1 (by omega) (Nat.le_refl _) _ (fun s hs => ?_) (fun s h3 h4 => ?_)⟩
  · obtain rfl : s = 0 := by omega
    exact ⟨0, Nat.le_refl _, pk_us, lst_0 N⟩
  · rw [pk_un (by omega)]; exact h2 s h4
end
end
section
/-! X: counting classes, colourings -/
theorem cv_10 (s i : Nat) : (10 * nI s) + nI i = nI (10 * s + i) := by
  rw [show (10 : Int32) = nI 10 from rfl, pk_mul, nI_add]
theorem cv_10p (s i : Nat) : ((10 * nI s) + nI (i + 1)) - 1 = nI (10 * s + i) := by
  rw [cv_10, cv_pred (by omega)]; exact congrArg nI (by omega)
section
variable {f_found f_bestSet f_bestWeight : Int32} {a_near a_weights a_list a_clique a_open a_gone a_tried a_bySize a_loose a_least : Nat → Int32} {a_ways : Nat → Int64}
variable {n : Nat} {N w : Nat → Nat}
theorem aw_lp {post : SX → Prop} {s r k : Nat} (hs : s < 512) (hr : r < s) (hk : k ≤ 4) {W : Nat → Int64}
    (K : ∀ W' : Nat → Int64, (∀ x, (∀ i, 1 ≤ i → i ≤ k → x ≠ 10 * s + i) → W' x = W x) → (∀ i, i < k → W' (10 * s + (i + 1)) = W (10 * s + (i + 1)) + W (10 * r + i)) → post ((nI n), f_found, f_bestSet, f_bestWeight, a_near, a_weights, a_list, a_clique, a_open, a_gone, a_tried, a_bySize, a_loose, a_least, W')) :
    ∀ d j, j + d = k → ∀ W' : Nat → Int64, (∀ x, (∀ i, 1 ≤ i → i ≤ j → x ≠ 10 * s + i) → W' x = W x) → (∀ i, i < j → W' (10 * s + (i + 1)) = W (10 * s + (i + 1)) + W (10 * r + i)) →
      wX_addWays_3 post (nI s) (nI r) (nI k) (nI n) f_found f_bestSet f_bestWeight (d + 1) (nI (j + 1)) a_near a_weights a_list a_clique a_open a_gone a_tried a_bySize a_loose a_least W' := by
  intro d
  induction d with
  | zero =>
    intro j hj W' h1 h2
    obtain rfl : j = k := by omega
    exact br_t (nI_lt (by omega) (by omega)) (K W' h1 h2)
  | succ d ih =>
    intro j hj W' h1 h2
    refine pk_lt k (j + 1) (fun z => absurd z (by omega)) (fun _ => ?_)
    rw [cv_10p, cv_10, nI_clamp (n := 10 * s + (j + 1)) (by omega), nI_clamp (n := 10 * r + j) (by omega)]
    refine ⟨vp_in_nI (by omega) (by omega), vp_in_nI (by omega) (by omega), vp_in_nI (by omega) (by omega), nm_e (nm_r (nI_1 (j + 1)) (ih (j + 1) (by omega) _ (fun x hx => ?_) (fun i hi => ?_)))⟩
    · rw [pk_uLn (hx (j + 1) (by omega) (Nat.le_refl _))]
      exact h1 x (fun i g1 g2 => hx i g1 (by omega))
    · by_cases e : i = j
      · subst e
        rw [pk_uLs, h1 _ (fun i' g1 g2 => by omega), h1 (10 * r + i) (fun i' g1 g2 => by omega)]
      · rw [pk_uLn (by omega)]; exact h2 i (by omega)
theorem aw_w {post : SX → Prop} {s r k : Nat} (hs : s < 512) (hr : r < s) (hk : k ≤ 4)
    (K : ∀ W' : Nat → Int64, (∀ x, (∀ i, 1 ≤ i → i ≤ k → x ≠ 10 * s + i) → W' x = a_ways x) → (∀ i, i < k → W' (10 * s + (i + 1)) = a_ways (10 * s + (i + 1)) + a_ways (10 * r + i)) → post ((nI n), f_found, f_bestSet, f_bestWeight, a_near, a_weights, a_list, a_clique, a_open, a_gone, a_tried, a_bySize, a_loose, a_least, W')) :
    wpX_addWays post ((nI n), f_found, f_bestSet, f_bestWeight, a_near, a_weights, a_list, a_clique, a_open, a_gone, a_tried, a_bySize, a_loose, a_least, a_ways) (nI s) (nI r) (nI k) :=
  ⟨k + 1, aw_lp hs hr hk K k 0 (Nat.zero_add k) a_ways (fun _ _ => rfl) (fun i h => absurd h (by omega))⟩
/-- the term of a part -/
noncomputable def Tm (N : Nat → Nat) (s p i q : Nat) : Nat := b01 (Vd N s q ∧ mb q p) * Af N i (nd s q)
theorem tm_f {N : Nat → Nat} {s p i q : Nat} (h : ¬ (Vd N s q ∧ mb q p)) : Tm N s p i q = 0 := by unfold Tm; rw [b01_f h, Nat.zero_mul]
theorem tm_t {N : Nat → Nat} {s p i q : Nat} (h : Vd N s q ∧ mb q p) : Tm N s p i q = Af N i (nd s q) := by unfold Tm; rw [b01_t h, Nat.one_mul]
theorem cc_lp1 {post : SX → Prop} {J : Int32 → Int32 → Int32 → Int32 → Int32 → (Nat → Int32) → (Nat → Int32) → (Nat → Int32) → (Nat → Int32) → (Nat → Int32) → (Nat → Int32) → (Nat → Int32) → (Nat → Int32) → (Nat → Int32) → (Nat → Int32) → (Nat → Int64) → Prop} (hn : n ≤ 9) {s p k : Nat} (hk : k ≤ 4) (hs : s < 2 ^ n) (hp : mb s p) (hlo : ∀ s, s < 2 ^ n → a_loose s = nI (b01 (Ind N s))) {W : Nat → Int64}
    (hW : ∀ t, t < s → ∀ i, i ≤ k → W (10 * t + i) = lN (Af N i t))
    (K : ∀ W' : Nat → Int64, (∀ x, x < 10 * s + 1 ∨ 10 * s + k < x → W' x = W x) → (∀ i, i < k → W' (10 * s + (i + 1)) = lN (smg (Tm N s p i) 0)) → J (nI (s + 1)) (nI n) f_found f_bestSet f_bestWeight a_near a_weights a_list a_clique a_open a_gone a_tried a_bySize a_loose a_least W') :
    ∀ m a, ∀ W' : Nat → Int64, a < m → sbs a s → (∀ x, x < 10 * s + 1 ∨ 10 * s + k < x → W' x = W x) → (∀ i, i < k → W' (10 * s + (i + 1)) = lN (smg (Tm N s p i) a)) →
      wX_countClasses_75 post J (nI k) (nI s) (nI (2 ^ p)) m (nI a) (nI n) f_found f_bestSet f_bestWeight a_near a_weights a_list a_clique a_open a_gone a_tried a_bySize a_loose a_least W' := by
  have h512 := gb_512 hn hs
  intro m
  induction m with
  | zero => intro a W' h; exact absurd h (by omega)
  | succ m ih =>
    intro a W' ha hsa hW1 hW2
    have ale : a ≤ s := gb_le hsa
    by_cases z : a = 0
    · subst z
      exact br_t (by decide) (nm_r (nI_1 s) (K W' hW1 hW2))
    · have a' : (a - 1) &&& s ≤ a - 1 := Nat.and_le_left
      have sa' : sbs ((a - 1) &&& s) s := fun q hq => (gb_and.mp hq).2
      have stepS : ∀ i, smg (Tm N s p i) ((a - 1) &&& s) = smg (Tm N s p i) a + Tm N s p i a := fun i =>
        smg_step (by omega) (by omega) (fun q h1 h2 => tm_f (fun h => by
          have := gb_next s a q (by omega) hsa h.1.1 h2
          omega))
      have ee : (nI a - 1) &&& nI s = nI ((a - 1) &&& s) := by rw [cv_pred (by omega), nx_and]
      refine br_f (nI_nle (by omega) (by omega)) ?_
      have skip : ¬ (Ind N a ∧ mb a p) → wX_countClasses_75 post J (nI k) (nI s) (nI (2 ^ p)) m (nI ((a - 1) &&& s)) (nI n) f_found f_bestSet f_bestWeight a_near a_weights a_list a_clique a_open a_gone a_tried a_bySize a_loose a_least W' := by
        intro hno
        refine ih _ W' (by omega) sa' hW1 (fun i hi => ?_)
        rw [stepS i, tm_f (fun h => hno ⟨h.1.2, h.2⟩), Nat.add_zero]
        exact hW2 i hi
      by_cases hap : mb a p
      · refine br_f (fun e => (cv_ap (by omega)).mp e hap) ⟨pk_in a 512 (by omega), ?_⟩
        rw [nI_clamp (n := a) (by omega), hlo a (by omega)]
        by_cases hai : Ind N a
        · rw [cv_bz hai, cv_nd]
          have ltn : nd s a < s := gb_slt (p := p) (fun q hq => (gb_nd.mp hq).1) hp (fun h => (gb_nd.mp h).2 hap)
          refine br_f (by decide) (aw_w h512 ltn hk (fun W2 g1 g2 => nm_r ee (ih _ W2 (by omega) sa' (fun x hx => ?_) (fun i hi => ?_))))
          · rw [g1 x (fun i h1 h2 => by omega)]; exact hW1 x hx
          · rw [g2 i hi, hW2 i hi, hW1 (10 * nd s a + i) (Or.inl (by omega)), hW _ ltn i (by omega), lN_add, stepS i, tm_t ⟨⟨hsa, hai⟩, hap⟩]
        · rw [cv_bf hai]
          exact br_t rfl (nm_r ee (skip (fun h => hai h.1)))
      · exact br_t ((cv_ap (by omega)).mpr hap) (nm_r ee (skip (fun h => hap h.2)))
theorem cc_lp2 {post : SX → Prop} {J : Int32 → Int32 → Int32 → Int32 → Int32 → (Nat → Int32) → (Nat → Int32) → (Nat → Int32) → (Nat → Int32) → (Nat → Int32) → (Nat → Int32) → (Nat → Int32) → (Nat → Int32) → (Nat → Int32) → (Nat → Int32) → (Nat → Int64) → Prop} (hn : n ≤ 9) {s k : Nat} (hk : k ≤ 4) (hs : s < 2 ^ n) (hz : s ≠ 0) (hlo : ∀ s, s < 2 ^ n → a_loose s = nI (b01 (Ind N s))) {W : Nat → Int64}
    (hW : ∀ t, t < s → ∀ i, i ≤ k → W (10 * t + i) = lN (Af N i t))
    (K : ∀ W' : Nat → Int64, (∀ t, t < s + 1 → ∀ i, i ≤ k → W' (10 * t + i) = lN (Af N i t)) → J (nI (s + 1)) (nI n) f_found f_bestSet f_bestWeight a_near a_weights a_list a_clique a_open a_gone a_tried a_bySize a_loose a_least W') :
    ∀ d j, j + d = 10 → ∀ W' : Nat → Int64, (∀ x, x < 10 * s → W' x = W x) → (∀ i, i < j → W' (10 * s + i) = 0) → wX_countClasses_43 post J (nI k) (nI s) (nI n) f_found f_bestSet f_bestWeight (d + 1) (nI j) a_near a_weights a_list a_clique a_open a_gone a_tried a_bySize a_loose a_least W' := by
  have h512 := gb_512 hn hs
  intro d
  induction d with
  | zero =>
    intro j hj W' h1 h2
    obtain rfl : j = 10 := by omega
    refine br_t (by decide) (nm_r (lb_cv h512 hz) ⟨513, ?_⟩)
    refine cc_lp1 (W := W') hn hk hs (lb_ok h512 hz).1 hlo (fun t ht i hi => ?_) (fun W2 g1 g2 => K W2 (fun t ht i hi => ?_)) 513 s W' (by omega) (fun _ h => h) (fun _ _ => rfl) (fun i hi => ?_)
    · rw [h1 _ (by omega)]; exact hW t ht i hi
    · by_cases e : t = s
      · subst e
        cases i with
        | zero =>
          rw [g1 _ (Or.inl (by omega)), h2 0 (by omega)]
          show (0 : Int64) = lN (b01 (t = 0))
          rw [b01_f hz]; rfl
        | succ i =>
          rw [g2 i (by omega), smg_0 (tm_f (fun h => gb_0 h.2))]
          refine congrArg lN ?_
          show _ = b01 (t ≠ 0) * sm (fun q => b01 (Vd N t q ∧ mb q (lb t)) * Af N i (nd t q)) 512
          rw [b01_t hz, Nat.one_mul]; rfl
      · rw [g1 _ (Or.inl (by omega)), h1 _ (by omega)]; exact hW t (by omega) i hi
    · rw [h2 (i + 1) (by omega), smg_top (fun q hq => tm_f (fun h => by have := gb_le h.1.1; omega))]
      rfl
  | succ d ih =>
    intro j hj W' h1 h2
    refine pk_le 10 j (fun z => absurd z (by omega)) (fun _ => ?_)
    rw [cv_10, nI_clamp (n := 10 * s + j) (by omega)]
    refine ⟨vp_in_nI (by omega) (by omega), nm_e (nm_r (nI_1 j) (ih (j + 1) (by omega) _ (fun x hx => ?_) (fun i hi => ?_)))⟩
    · rw [pk_uLn (by omega)]; exact h1 x hx
    · by_cases e : i = j
      · subst e; exact pk_uLs
      · rw [pk_uLn (by omega)]; exact h2 i (by omega)
theorem cc_lp3 {post : SX → Prop} (hn : n ≤ 9) {k : Nat} (hk : k ≤ 4) (hlo : ∀ s, s < 2 ^ n → a_loose s = nI (b01 (Ind N s)))
    (K : ∀ W : Nat → Int64, (∀ t, t < 2 ^ n → ∀ i, i ≤ k → W (10 * t + i) = lN (Af N i t)) → post ((nI n), f_found, f_bestSet, f_bestWeight, a_near, a_weights, a_list, a_clique, a_open, a_gone, a_tried, a_bySize, a_loose, a_least, W)) :
    ∀ d j, j + d = 2 ^ n → 1 ≤ j → ∀ W : Nat → Int64, (∀ t, t < j → ∀ i, i ≤ k → W (10 * t + i) = lN (Af N i t)) → wX_countClasses_31 post (nI k) (d + 1) (nI j) (nI n) f_found f_bestSet f_bestWeight a_near a_weights a_list a_clique a_open a_gone a_tried a_bySize a_loose a_least W := by
  have b2 := gb_p2 hn
  intro d
  induction d with
  | zero =>
    intro j hj _ W h
    refine br_t ?_ (K W (fun t ht => h t (by omega)))
    rw [cv_bit (by omega)]; exact nI_le (by omega) (by omega)
  | succ d ih =>
    intro j hj hj1 W h
    refine pk_le (2 ^ n) j (fun z => absurd z (by omega)) (fun _ => ⟨11, ?_⟩) (cv_bit (by omega)) rfl (by omega) (by omega)
    exact cc_lp2 (W := W) hn hk (by omega) (by omega) hlo h (fun W' h' => ih (j + 1) (by omega) (by omega) W' h') 10 0 rfl W (fun _ _ => rfl) (fun i hi => absurd hi (by omega))
theorem cc_lp4 {post : SX → Prop} (hn : n ≤ 9) {k : Nat} (hk : k ≤ 4) (hlo : ∀ s, s < 2 ^ n → a_loose s = nI (b01 (Ind N s)))
    (K : ∀ W : Nat → Int64, (∀ t, t < 2 ^ n → ∀ i, i ≤ k → W (10 * t + i) = lN (Af N i t)) → post ((nI n), f_found, f_bestSet, f_bestWeight, a_near, a_weights, a_list, a_clique, a_open, a_gone, a_tried, a_bySize, a_loose, a_least, W)) :
    ∀ d j, j + d = 10 → ∀ W : Nat → Int64, (∀ i, i < j → W i = lN (Af N i 0)) → wX_countClasses_2 post (nI k) (nI n) f_found f_bestSet f_bestWeight (d + 1) (nI j) a_near a_weights a_list a_clique a_open a_gone a_tried a_bySize a_loose a_least W := by
  have b2 := Nat.two_pow_pos n
  intro d
  induction d with
  | zero =>
    intro j hj W h
    obtain rfl : j = 10 := by omega
    refine br_t (by decide) ⟨2 ^ n - 1 + 1, cc_lp3 hn hk hlo K (2 ^ n - 1) 1 (by omega) (Nat.le_refl _) W (fun t ht i hi => ?_)⟩
    obtain rfl : t = 0 := by omega
    rw [Nat.mul_zero, Nat.zero_add]
    exact h i (by omega)
  | succ d ih =>
    intro j hj W h
    refine pk_le 10 j (fun z => absurd z (by omega)) (fun _ => ?_)
    have next : ∀ v : Int64, v = lN (Af N j 0) → wX_countClasses_2 post (nI k) (nI n) f_found f_bestSet f_bestWeight (d + 1) (nI (j + 1)) a_near a_weights a_list a_clique a_open a_gone a_tried a_bySize a_loose a_least (vp_updL W j v) := by
      intro v hv
      refine ih (j + 1) (by omega) _ (fun i hi => ?_)
      by_cases e : i = j
      · subst e; rw [pk_uLs]; exact hv
      · rw [pk_uLn e]; exact h i (by omega)
    rw [nI_clamp (n := j) (by omega)]
    by_cases z : j = 0
    · subst z
      refine br_t rfl ⟨pk_in 0 5120 (by omega), nm_e (nm_r (nI_1 0) (next 1 ?_))⟩
      show (1 : Int64) = lN (b01 ((0 : Nat) = 0))
      rw [b01_t rfl]; rfl
    · refine br_f (nI_ne0 (by omega) (by omega)) ⟨pk_in j 5120 (by omega), nm_e (nm_r (nI_1 j) (next 0 ?_))⟩
      obtain ⟨i, rfl⟩ : ∃ i, j = i + 1 := ⟨j - 1, by omega⟩
      show (0 : Int64) = lN (b01 ((0 : Nat) ≠ 0) * _)
      rw [b01_f (fun h => h rfl), Nat.zero_mul]; rfl
theorem cc_w {post : SX → Prop} (hn : n ≤ 9) {k : Nat} (hk : k ≤ 4) (hlo : ∀ s, s < 2 ^ n → a_loose s = nI (b01 (Ind N s)))
    (K : ∀ W : Nat → Int64, (∀ t, t < 2 ^ n → ∀ i, i ≤ k → W (10 * t + i) = lN (Af N i t)) → post ((nI n), f_found, f_bestSet, f_bestWeight, a_near, a_weights, a_list, a_clique, a_open, a_gone, a_tried, a_bySize, a_loose, a_least, W)) : wpX_countClasses post ((nI n), f_found, f_bestSet, f_bestWeight, a_near, a_weights, a_list, a_clique, a_open, a_gone, a_tried, a_bySize, a_loose, a_least, a_ways) (nI k) :=
  ⟨11, cc_lp4 hn hk hlo K 10 0 rfl a_ways (fun i h => absurd h (by omega))⟩
theorem cg_lp {post : Int32 → SX → Prop} (hn : n ≤ 9) {k : Nat} (hk : k ≤ 4) (hW : ∀ t, t < 2 ^ n → ∀ i, i ≤ k → a_ways (10 * t + i) = lN (Af N i t))
    (K : post (nI (Wf N k (2 ^ n - 1))) ((nI n), f_found, f_bestSet, f_bestWeight, a_near, a_weights, a_list, a_clique, a_open, a_gone, a_tried, a_bySize, a_loose, a_least, a_ways)) :
    ∀ d j, j + d = k + 1 → wX_colourings_28 post (nI k) (nI n) f_found f_bestSet f_bestWeight a_near a_weights a_list a_clique a_open a_gone a_tried a_bySize a_loose a_least a_ways (d + 1) (lN (sm (fun j => Af N j (2 ^ n - 1) * ff k j) j)) (lN (ff k j)) (nI j) := by
  have b2 := gb_p2 hn
  have b0 := Nat.two_pow_pos n
  intro d
  induction d with
  | zero =>
    intro j hj
    obtain rfl : j = k + 1 := by omega
    refine br_t (nI_lt (by omega) (by omega)) ?_
    rw [lN_i, ← wf_af N k (2 ^ n - 1) (by omega)]
    exact K
  | succ d ih =>
    intro j hj
    refine pk_lt k j (fun z => absurd z (by omega)) (fun _ => ?_)
    rw [cv_all (by omega), cv_10, nI_clamp (n := 10 * (2 ^ n - 1) + j) (by omega), hW (2 ^ n - 1) (by omega) j (by omega), lN_mul, lN_add, pk_sub (by omega), nI_l (by omega), lN_mul]
    exact ⟨vp_in_nI (by omega) (by omega), nm_e (nm_e (nm_r (nI_1 j) (ih (j + 1) (by omega))))⟩
theorem al_lp {post : Int32 → SX → Prop} (hn : n ≤ 9) {p q k : Nat} (hp : p < n) (hq : q < n) (hk : k ≤ 9) (hlo : ∀ s, s < 2 ^ n → a_loose s = nI (b01 (Ind N s))) (hle : ∀ s, s < 2 ^ n → ∃ m, m ≤ s ∧ a_least s = nI m ∧ Lst N s m)
    (K1 : (∃ s, s < 2 ^ n ∧ (mb s p ∧ mb s q) ∧ Ind N s ∧ ∃ j, j < k ∧ Col N j (nd (2 ^ n - 1) s)) → post 1 ((nI n), f_found, f_bestSet, f_bestWeight, a_near, a_weights, a_list, a_clique, a_open, a_gone, a_tried, a_bySize, a_loose, a_least, a_ways)) (K0 : ¬ (∃ s, s < 2 ^ n ∧ (mb s p ∧ mb s q) ∧ Ind N s ∧ ∃ j, j < k ∧ Col N j (nd (2 ^ n - 1) s)) → post 0 ((nI n), f_found, f_bestSet, f_bestWeight, a_near, a_weights, a_list, a_clique, a_open, a_gone, a_tried, a_bySize, a_loose, a_least, a_ways)) :
    ∀ d j, j + d = 2 ^ n → (∀ s, s < j → ¬ ((mb s p ∧ mb s q) ∧ Ind N s ∧ ∃ i, i < k ∧ Col N i (nd (2 ^ n - 1) s))) → wX_alike_57 post (nI k) (nI (2 ^ n - 1)) (nI (2 ^ p ||| 2 ^ q)) (nI n) f_found f_bestSet f_bestWeight a_near a_weights a_list a_clique a_open a_gone a_tried a_bySize a_loose a_least a_ways (d + 1) (nI j) := by
  have b2 := gb_p2 hn
  have b0 := Nat.two_pow_pos n
  intro d
  induction d with
  | zero =>
    intro j hj h
    refine br_t (nI_lt (by omega) (by omega)) (K0 ?_)
    rintro ⟨s, hs, h'⟩
    exact h s (by omega) h'
  | succ d ih =>
    intro j hj h
    refine pk_lt (2 ^ n - 1) j (fun z => absurd z (by omega)) (fun _ => ?_)
    have next : ¬ ((mb j p ∧ mb j q) ∧ Ind N j ∧ ∃ i, i < k ∧ Col N i (nd (2 ^ n - 1) j)) → wX_alike_57 post (nI k) (nI (2 ^ n - 1)) (nI (2 ^ p ||| 2 ^ q)) (nI n) f_found f_bestSet f_bestWeight a_near a_weights a_list a_clique a_open a_gone a_tried a_bySize a_loose a_least a_ways (d + 1) (nI (j + 1)) := by
      intro hno
      refine ih (j + 1) (by omega) (fun s hs => ?_)
      by_cases e : s = j
      · subst e; exact hno
      · exact h s (by omega)
    have bb : 2 ^ p ||| 2 ^ q < 512 := Nat.or_lt_two_pow (n := 9) (gb_pwlt (by omega)) (gb_pwlt (by omega))
    have both : nI j &&& nI (2 ^ p ||| 2 ^ q) = nI (2 ^ p ||| 2 ^ q) ↔ mb j p ∧ mb j q := by
      rw [nx_and, nI_eq (Nat.lt_of_le_of_lt Nat.and_le_left (by omega)) (by omega)]
      constructor
      · intro e
        have h1 : mb (j &&& (2 ^ p ||| 2 ^ q)) p := by rw [e, gb_or]; exact Or.inl (gb_pw.mpr rfl)
        have h2 : mb (j &&& (2 ^ p ||| 2 ^ q)) q := by rw [e, gb_or]; exact Or.inr (gb_pw.mpr rfl)
        exact ⟨(gb_and.mp h1).1, (gb_and.mp h2).1⟩
      · rintro ⟨h1, h2⟩
        refine gb_ext (fun x => ?_)
        rw [gb_and, gb_or, gb_pw, gb_pw]
        exact ⟨fun z => z.2, fun z => ⟨z.elim (fun y => y ▸ h1) (fun y => y ▸ h2), z⟩⟩
    by_cases hb : mb j p ∧ mb j q
    · refine br_t (both.mpr hb) ⟨pk_in j 512 (by omega), ?_⟩
      rw [nI_clamp (n := j) (by omega), hlo j (by omega)]
      by_cases hi : Ind N j
      · rw [cv_bz hi, cv_nd]
        have lt := nd_lt (M := 2 ^ n) j (show 2 ^ n - 1 < 2 ^ n by omega)
        obtain ⟨m, g1, g2, g3⟩ := hle _ lt
        refine br_f (by decide) ⟨vp_in_nI (by omega) (by omega), ?_⟩
        rw [nI_clamp (n := nd (2 ^ n - 1) j) (by omega), g2]
        refine pk_le k m (fun y => nm_r (nI_1 j) (next (fun z => ?_))) (fun y => K1 ⟨j, by omega, hb, hi, m, y, g3.1⟩)
        obtain ⟨i, hi', hc⟩ := z.2.2
        have := (lst_le g3).mp hc
        omega
      · rw [cv_bf hi]
        exact br_t rfl (nm_r (nI_1 j) (next (fun z => hi z.2.1)))
    · exact br_f (fun e => hb (both.mp e)) (nm_r (nI_1 j) (next (fun z => hb z.1)))
end
end
section
/-! Y: the small methods -/
def TR (b : Nat → Int32) (N : Nat → Nat) : Prop := ∀ p q, p < 9 → q < 9 → b (9 * p + q) = nI (if (N p).testBit q then 1 else 0)
theorem cv_9 (p q : Nat) : (nI p * 9) + nI q = nI (9 * p + q) := by
  rw [show (9 : Int32) = nI 9 from rfl, pk_mul, nI_add, Nat.mul_comm]
theorem tr_1 {b : Nat → Int32} {N : Nat → Nat} (h : TR b N) {p q : Nat} (hp : p < 9) (hq : q < 9) : b (9 * p + q) = 1 ↔ mb (N p) q := by
  rw [h p q hp hq]
  unfold mb
  cases (N p).testBit q <;> decide
theorem tr_0 {b : Nat → Int32} {N : Nat → Nat} (h : TR b N) {p q : Nat} (hp : p < 9) (hq : q < 9) : b (9 * p + q) = 0 ↔ ¬ mb (N p) q := by
  rw [h p q hp hq]
  unfold mb
  cases (N p).testBit q <;> decide
section
variable {b_tied b_weight b_ways b_past b_apart : Nat → Int32}
variable {n : Nat} {N w : Nat → Nat}
theorem bd_no {post : Int32 → Prop} {p : Int32} (h : p < 0 ∨ nI n ≤ p) (hp : post 1) : wpY_bad post ((nI n), b_tied, b_weight, b_ways, b_past, b_apart) p := by
  by_cases z : p < 0
  · exact br_t z hp
  · exact br_f z (br_f (Int32.not_lt.mpr (h.resolve_left z)) hp)
theorem bd_yes {post : Int32 → Prop} {j : Nat} (hn : n ≤ 9) (hj : j < n) (hp : post 0) : wpY_bad post ((nI n), b_tied, b_weight, b_ways, b_past, b_apart) (nI j) :=
  br_f (nI_pos (by omega)) (br_t (nI_lt hj (by omega)) hp)
theorem bs_no {post : Int32 → Prop} {s : Int32} (hn : n ≤ 9) (h : s < 0 ∨ nI (2 ^ n) ≤ s) (hp : post 1) : wpY_badSet post ((nI n), b_tied, b_weight, b_ways, b_past, b_apart) s := by
  by_cases z : s < 0
  · exact br_t z hp
  · refine br_f z (br_f ?_ hp)
    rw [cv_bit (by omega)]; exact Int32.not_lt.mpr (h.resolve_left z)
theorem bs_yes {post : Int32 → Prop} {s : Nat} (hn : n ≤ 9) (hs : s < 2 ^ n) (hp : post 0) : wpY_badSet post ((nI n), b_tied, b_weight, b_ways, b_past, b_apart) (nI s) := by
  have b := gb_p2 hn
  refine br_f (nI_pos (by omega)) (br_t ?_ hp)
  rw [cv_bit (by omega)]; exact nI_lt hs (by omega)
theorem ho_w {post : Int32 → Prop} {s p : Nat} (hs : s < 512) (hp : p < 9) (h1 : mb s p → post 1) (h0 : ¬ mb s p → post 0) : wpY_holds post ((nI n), b_tied, b_weight, b_ways, b_past, b_apart) (nI s) (nI p) := by
  by_cases z : mb s p
  · exact br_t ((cv_t1 (by omega) (by omega)).mpr z) (h1 z)
  · exact br_f (fun e => z ((cv_t1 (by omega) (by omega)).mp e)) (h0 z)
theorem ev_lp1 {post : Int32 → Prop} {J : Int32 → Prop} {wv : Int32} {Q : Nat → Nat → Prop} (hQ : ∀ p q, p < 9 → q < 9 → (b_tied (9 * p + q) = wv ↔ Q p q)) {s p : Nat} (hs : s < 512) (hp : p < 9)
    (K : (∀ q, q < p → mb s p → mb s q → Q p q) → J (nI (p + 1))) (K0 : ∀ q, q < p → mb s p → mb s q → ¬ Q p q → post 0) :
    ∀ d j, j + d = p → (∀ q, q < j → mb s p → mb s q → Q p q) → wY_even_13 post J (nI s) wv (nI p) (nI n) b_tied b_weight b_ways b_past b_apart (d + 1) (nI j) := by
  intro d
  induction d with
  | zero =>
    intro j hj h
    obtain rfl : j = p := by omega
    exact br_t (nI_le (Nat.le_refl _) (by omega)) (nm_r (nI_1 j) (K h))
  | succ d ih =>
    intro j hj h
    refine pk_le p j (fun z => absurd z (by omega)) (fun _ => ?_)
    have next : (mb s p → mb s j → Q p j) → wY_even_13 post J (nI s) wv (nI p) (nI n) b_tied b_weight b_ways b_past b_apart (d + 1) (nI (j + 1)) := by
      intro hq
      refine ih (j + 1) (by omega) (fun q hqj => ?_)
      by_cases e : q = j
      · subst e; exact hq
      · exact h q (by omega)
    refine ho_w hs hp (fun z => br_f (by decide) ?_) (fun z => br_t rfl (nm_r (nI_1 j) (next (fun y => absurd y z))))
    refine ho_w hs (by omega) (fun y => br_f (by decide) ?_) (fun y => br_t rfl (nm_r (nI_1 j) (next (fun _ v => absurd v y))))
    rw [cv_9, nI_clamp (n := 9 * p + j) (by omega)]
    refine ⟨vp_in_nI (by omega) (by omega), ?_⟩
    by_cases v : Q p j
    · exact br_t ((hQ p j hp (by omega)).mpr v) (nm_r (nI_1 j) (next (fun _ _ => v)))
    · exact br_f (fun e => v ((hQ p j hp (by omega)).mp e)) (K0 j (by omega) z y v)
theorem ev_lp2 {post : Int32 → Prop} {wv : Int32} {Q : Nat → Nat → Prop} (hn : n ≤ 9) (hQ : ∀ p q, p < 9 → q < 9 → (b_tied (9 * p + q) = wv ↔ Q p q)) {s : Nat} (hs : s < 512)
    (K1 : (∀ p q, q < p → p < n → mb s p → mb s q → Q p q) → post 1) (K0 : ¬ (∀ p q, q < p → p < n → mb s p → mb s q → Q p q) → post 0) :
    ∀ d j, j + d = n → (∀ p q, q < p → p < j → mb s p → mb s q → Q p q) → wY_even_2 post (nI s) wv (nI n) b_tied b_weight b_ways b_past b_apart (d + 1) (nI j) := by
  intro d
  induction d with
  | zero =>
    intro j hj h
    obtain rfl : j = n := by omega
    exact br_t (nI_le (Nat.le_refl _) (by omega)) (K1 h)
  | succ d ih =>
    intro j hj h
    refine pk_le n j (fun z => absurd z (by omega)) (fun _ => ⟨j + 1, ?_⟩)
    refine ev_lp1 hQ hs (by omega) (fun hh => ih (j + 1) (by omega) (fun p q h1 h2 h3 h4 => ?_)) (fun q h1 h2 h3 h4 => K0 (fun hh => h4 (hh j q h1 (by omega) h2 h3))) j 0 (Nat.zero_add j) (fun q hq => absurd hq (by omega))
    by_cases e : p = j
    · subst e; exact hh q h1 h3 h4
    · exact h p q h1 (by omega) h3 h4
theorem ec_w {post : Int32 → Prop} (G : Gr n N) (hT : TR b_tied N) {s : Nat} (hs : s < 2 ^ n) (K1 : Cq N s → post 1) (K0 : ¬ Cq N s → post 0) : wpY_even post ((nI n), b_tied, b_weight, b_ways, b_past, b_apart) (nI s) 1 := by
  have hn := G.2.1
  refine ⟨n + 1, ev_lp2 hn (fun p q hp hq => tr_1 hT hp hq) (gb_512 hn hs) (fun h => K1 (fun p q hp hq hpq => ?_)) (fun h => K0 (fun c => h (fun p q h1 _ h3 h4 => c p q h3 h4 (by omega)))) n 0 (Nat.zero_add n) (fun p q _ h => absurd h (by omega))⟩
  rcases Nat.lt_or_ge q p with z | z
  · exact h p q z (gb_lt hs hp) hp hq
  · exact G.2.2.2.2 _ _ (h q p (by omega) (gb_lt hs hq) hq hp)
theorem ei_w {post : Int32 → Prop} (G : Gr n N) (hT : TR b_tied N) {s : Nat} (hs : s < 2 ^ n) (K : post (nI (b01 (Ind N s)))) : wpY_even post ((nI n), b_tied, b_weight, b_ways, b_past, b_apart) (nI s) 0 := by
  have hn := G.2.1
  refine ⟨n + 1, ev_lp2 hn (fun p q hp hq => tr_0 hT hp hq) (gb_512 hn hs) (fun h => ?_) (fun h => ?_) n 0 (Nat.zero_add n) (fun p q _ h => absurd h (by omega))⟩
  · have i : Ind N s := by
      intro p q hp hq hpq
      rcases Nat.lt_trichotomy q p with z | z | z
      · exact h p q z (gb_lt hs hp) hp hq hpq
      · subst z; exact G.2.2.2.1 _ hpq
      · exact h q p z (gb_lt hs hq) hq hp (G.2.2.2.2 _ _ hpq)
    rw [cv_bz i] at K; exact K
  · have i : ¬ Ind N s := fun c => h (fun p q _ _ h3 h4 => c p q h3 h4)
    rw [cv_bf i] at K; exact K
theorem yp_lp {post : Int32 → Prop} (K : post (nI (sm (fun k => if b_tied k = 0 then 0 else 1) 81 / 2))) : ∀ d j, j + d = 81 → wY_pairs_4 post (nI n) b_tied b_weight b_ways b_past b_apart (d + 1) (nI (sm (fun k => if b_tied k = 0 then 0 else 1) j)) (nI j) := by
  have hb : ∀ j, sm (fun k => if b_tied k = 0 then 0 else 1) j ≤ 1 * j := fun j => by
    rw [← sm_k]
    refine sm_le (fun i _ => ?_)
    by_cases z : b_tied i = 0
    · rw [if_pos z]; omega
    · rw [if_neg z]; omega
  intro d
  induction d with
  | zero =>
    intro j hj
    obtain rfl : j = 81 := by omega
    have := hb 81
    refine br_t (by decide) ⟨by decide, ?_⟩
    rw [show (2 : Int32) = nI 2 from rfl, pk_div (by omega) (by omega) (by omega)]
    exact K
  | succ d ih =>
    intro j hj
    refine pk_le 81 j (fun z => absurd z (by omega)) (fun _ => ⟨vp_in_nI (by omega) (by omega), ?_⟩)
    rw [nI_clamp (n := j) (by omega)]
    by_cases z : b_tied j = 0
    · refine br_t z (nm_r (nI_1 j) ?_)
      have := ih (j + 1) (by omega)
      simp only [sm] at this
      rw [if_pos z, Nat.add_zero] at this
      exact this
    · refine br_f z (nm_r (nI_1 _) (nm_r (nI_1 j) ?_))
      have := ih (j + 1) (by omega)
      simp only [sm] at this
      rw [if_neg z] at this
      exact this
theorem yp_sum {b : Nat → Int32} {N : Nat → Nat} (h : TR b N) : ∀ j, j ≤ 9 → sm (fun k => if b k = 0 then 0 else 1) (9 * j) = sm (fun p => pc (N p)) j
  | 0, _ => rfl
  | j + 1, hj => by
    rw [Nat.mul_succ, sm_split, yp_sum h j (by omega)]
    simp only [sm]
    congr 1
    refine sm_c (f := fun i => if b (9 * j + i) = 0 then 0 else 1) (g := fun p => if (N j).testBit p then 1 else 0) (k := 9) (fun i hi => ?_)
    show (if b (9 * j + i) = 0 then 0 else 1) = if (N j).testBit i = true then 1 else 0
    rw [h j i (by omega) hi]
    cases (N j).testBit i <;> rfl
theorem yp_w {post : Int32 → Prop} (G : Gr n N) (hT : TR b_tied N) (K : post (nI (sm (fun p => pc (N p)) n / 2))) : wpY_pairs post ((nI n), b_tied, b_weight, b_ways, b_past, b_apart) := by
  refine ⟨82, yp_lp ?_ 81 0 rfl⟩
  have e := yp_sum hT 9 (Nat.le_refl _)
  rw [show 9 * 9 = 81 from rfl] at e
  rw [e, sm_ext G.2.1 (fun i hi _ => ?_)]
  · exact K
  · have : N i = 0 := gb_z (fun q hq => by have := (G.2.2.1 i q hq).1; omega)
    show pc (N i) = 0
    rw [this, pc_0]
theorem me_lp {post : Int32 → Prop} (hn : n ≤ 9) {s : Nat} (hs : s < 2 ^ n) (K : post (nI (pc s))) : ∀ d j, j + d = n → wY_members_4 post (nI s) (nI n) b_tied b_weight b_ways b_past b_apart (d + 1) (nI (sm (fun p => if s.testBit p then (fun _ => 1) p else 0) j)) (nI j) := by
  have h512 := gb_512 hn hs
  intro d
  induction d with
  | zero =>
    intro j hj
    obtain rfl : j = n := by omega
    refine br_t (nI_le (Nat.le_refl _) (by omega)) ?_
    rw [wt_n hn hs]; exact K
  | succ d ih =>
    intro j hj
    have next := ih (j + 1) (by omega)
    simp only [sm] at next
    refine pk_le n j (fun z => absurd z (by omega)) (fun _ => ho_w h512 (by omega) (fun z => br_f (by decide) (nm_r (nI_1 _) (nm_r (nI_1 j) ?_))) (fun z => br_t rfl (nm_r (nI_1 j) ?_)))
    · rw [if_pos (mb_t z)] at next; exact next
    · rw [if_neg (mb_f z), Nat.add_zero] at next; exact next
theorem me_w {post : Int32 → Prop} (hn : n ≤ 9) {s : Nat} (hs : s < 2 ^ n) (K : post (nI (pc s))) : wpY_members post ((nI n), b_tied, b_weight, b_ways, b_past, b_apart) (nI s) :=
  ⟨n + 1, me_lp hn hs K n 0 (Nat.zero_add n)⟩
theorem he_lp {post : Int32 → Prop} (hn : n ≤ 9) (hW : WR b_weight w) {s : Nat} (hs : s < 2 ^ n) (K : post (nI (wt w s))) : ∀ d j, j + d = n → wY_heavy_4 post (nI s) (nI n) b_tied b_weight b_ways b_past b_apart (d + 1) (nI (sm (fun p => if s.testBit p then w p else 0) j)) (nI j) := by
  have h512 := gb_512 hn hs
  intro d
  induction d with
  | zero =>
    intro j hj
    obtain rfl : j = n := by omega
    refine br_t (nI_le (Nat.le_refl _) (by omega)) ?_
    rw [wt_n hn hs]; exact K
  | succ d ih =>
    intro j hj
    have next := ih (j + 1) (by omega)
    simp only [sm] at next
    refine pk_le n j (fun z => absurd z (by omega)) (fun _ => ho_w h512 (by omega) (fun z => br_f (by decide) ⟨vp_in_nI (by omega) (by omega), ?_⟩) (fun z => br_t rfl (nm_r (nI_1 j) ?_)))
    · rw [if_pos (mb_t z)] at next
      rw [nI_clamp (n := j) (by omega), (hW j (by omega)).1, nI_add]
      exact nm_e (nm_r (nI_1 j) next)
    · rw [if_neg (mb_f z), Nat.add_zero] at next; exact next
theorem he_w {post : Int32 → Prop} (hn : n ≤ 9) (hW : WR b_weight w) {s : Nat} (hs : s < 2 ^ n) (K : post (nI (wt w s))) : wpY_heavy post ((nI n), b_tied, b_weight, b_ways, b_past, b_apart) (nI s) :=
  ⟨n + 1, he_lp hn hW hs K n 0 (Nat.zero_add n)⟩
theorem jt_lp {post : Int32 → Prop} (G : Gr n N) (hT : TR b_tied N) {p : Nat} (hp : p < n) (K : post (nI (N p))) : ∀ d j, j + d = n → ∀ S, (∀ q, mb S q ↔ mb (N p) q ∧ q < j) → wY_joinedTo_14 post (nI p) (nI n) b_tied b_weight b_ways b_past b_apart (d + 1) (nI S) (nI j) := by
  have hn := G.2.1
  intro d
  induction d with
  | zero =>
    intro j hj S h
    obtain rfl : j = n := by omega
    obtain rfl : S = N p := gb_ext (fun q => (h q).trans ⟨fun z => z.1, fun z => ⟨z, (G.2.2.1 p q z).2⟩⟩)
    exact br_t (nI_le (Nat.le_refl _) (by omega)) K
  | succ d ih =>
    intro j hj S h
    refine pk_le n j (fun z => absurd z (by omega)) (fun _ => ?_)
    rw [cv_9, nI_clamp (n := 9 * p + j) (by omega)]
    refine ⟨vp_in_nI (by omega) (by omega), ?_⟩
    by_cases z : mb (N p) j
    · refine br_f (fun e => (tr_0 hT (by omega) (by omega)).mp e z) (nm_r (e' := nI (S ||| 2 ^ j)) (by rw [cv_bit (by omega), cv_or]) (nm_r (nI_1 j) (ih (j + 1) (by omega) _ (fun q => ?_))))
      rw [gb_or, gb_pw, h q]
      constructor
      · rintro (y | y)
        · exact ⟨y.1, by omega⟩
        · subst y; exact ⟨z, by omega⟩
      · rintro ⟨y1, y2⟩
        by_cases e : q = j
        · exact Or.inr e
        · exact Or.inl ⟨y1, by omega⟩
    · refine br_t ((tr_0 hT (by omega) (by omega)).mpr z) (nm_r (nI_1 j) (ih (j + 1) (by omega) S (fun q => ?_)))
      rw [h q]
      constructor
      · exact fun y => ⟨y.1, by omega⟩
      · rintro ⟨y1, y2⟩
        by_cases e : q = j
        · subst e; exact absurd y1 z
        · exact ⟨y1, by omega⟩
theorem if_lp {post : Int32 → Prop} (G : Gr n N) (hT : TR b_tied N) {s : Nat} (hs : s < 2 ^ n) (hc : Cq N s) (K1 : Fl n N s → post 1) (K0 : ¬ Fl n N s → post 0) : ∀ d j, j + d = n → (∀ p, p < j → ¬ mb s p → ¬ Cq N (s ||| 2 ^ p)) → wY_isFull_13 post (nI s) (nI n) b_tied b_weight b_ways b_past b_apart (d + 1) (nI j) := by
  have hn := G.2.1
  have h512 := gb_512 hn hs
  intro d
  induction d with
  | zero =>
    intro j hj h
    obtain rfl : j = n := by omega
    exact br_t (nI_le (Nat.le_refl _) (by omega)) (K1 ⟨hc, h⟩)
  | succ d ih =>
    intro j hj h
    have next : (¬ mb s j → ¬ Cq N (s ||| 2 ^ j)) → wY_isFull_13 post (nI s) (nI n) b_tied b_weight b_ways b_past b_apart (d + 1) (nI (j + 1)) := by
      intro hj'
      refine ih (j + 1) (by omega) (fun p hp => ?_)
      by_cases e : p = j
      · subst e; exact hj'
      · exact h p (by omega)
    refine pk_le n j (fun z => absurd z (by omega)) (fun _ => ho_w h512 (by omega) (fun z => br_f (by decide) (nm_r (nI_1 j) (next (fun y => absurd z y)))) (fun z => br_t rfl ?_))
    rw [cv_bit (by omega), cv_or]
    exact ec_w G hT (Nat.or_lt_two_pow hs (gb_pwlt (by omega))) (fun y => br_f (by decide) (K0 (fun f => f.2 j (by omega) z y))) (fun y => br_t rfl (nm_r (nI_1 j) (next (fun _ => y))))
theorem if_w {post : Int32 → Prop} (G : Gr n N) (hT : TR b_tied N) {s : Nat} (hs : s < 2 ^ n) (K1 : Fl n N s → post 1) (K0 : ¬ Fl n N s → post 0) : wpY_isFull post ((nI n), b_tied, b_weight, b_ways, b_past, b_apart) (nI s) :=
  ec_w G hT hs (fun y => br_f (by decide) ⟨n + 1, if_lp G hT hs y K1 K0 n 0 (Nat.zero_add n) (fun p h => absurd h (by omega))⟩) (fun y => br_t rfl (K0 (fun f => y f.1)))
end
end
section
/-! Y: the searches over all sets -/
theorem cn_j {P : Nat → Prop} {j : Nat} : (P j → nI (cn P j) + 1 = nI (cn P (j + 1))) ∧ (¬ P j → nI (cn P j) = nI (cn P (j + 1))) :=
  ⟨fun h => by rw [cn_t h, nI_1], fun h => by rw [cn_f h]⟩
section
variable {b_tied b_weight b_ways b_past b_apart : Nat → Int32}
variable {n : Nat} {N w : Nat → Nat}
theorem fc_lp {post : Int32 → Prop} (G : Gr n N) (hT : TR b_tied N) (K : post (nI (cn (Fl n N) (2 ^ n)))) : ∀ d j, j + d = 2 ^ n → wY_fullCliques_4 post (nI n) b_tied b_weight b_ways b_past b_apart (d + 1) (nI (cn (Fl n N) j)) (nI j) := by
  have hn := G.2.1
  have b2 := gb_p2 hn
  intro d
  induction d with
  | zero =>
    intro j hj
    obtain rfl : j = 2 ^ n := by omega
    refine br_t ?_ K
    rw [cv_bit (by omega)]; exact nI_le (Nat.le_refl _) (by omega)
  | succ d ih =>
    intro j hj
    refine pk_le (2 ^ n) j (fun z => absurd z (by omega)) (fun _ => ?_) (cv_bit (by omega)) rfl (by omega) (by omega)
    refine if_w G hT (by omega) (fun h => br_f (by decide) (nm_r (cn_j.1 h) (nm_r (nI_1 j) (ih (j + 1) (by omega))))) (fun h => br_t rfl (nm_r (nI_1 j) ?_))
    rw [cn_j.2 h]; exact ih (j + 1) (by omega)
theorem fu_lp {post : Int32 → Prop} (G : Gr n N) (hT : TR b_tied N) {v : Int32} (K1 : ∀ s, s < 2 ^ n → Fl n N s → nI (cn (Fl n N) s) = v → post (nI s)) (K0 : (∀ s, s < 2 ^ n → Fl n N s → nI (cn (Fl n N) s) ≠ v) → post (-1)) :
    ∀ d j, j + d = 2 ^ n → (∀ s, s < j → Fl n N s → nI (cn (Fl n N) s) ≠ v) → wY_full_4 post v (nI n) b_tied b_weight b_ways b_past b_apart (d + 1) (nI (cn (Fl n N) j)) (nI j) := by
  have hn := G.2.1
  have b2 := gb_p2 hn
  intro d
  induction d with
  | zero =>
    intro j hj h
    obtain rfl : j = 2 ^ n := by omega
    refine br_t ?_ (K0 h)
    rw [cv_bit (by omega)]; exact nI_le (Nat.le_refl _) (by omega)
  | succ d ih =>
    intro j hj h
    have ext : (Fl n N j → nI (cn (Fl n N) j) ≠ v) → ∀ s, s < j + 1 → Fl n N s → nI (cn (Fl n N) s) ≠ v := by
      intro hj' s hs
      by_cases e : s = j
      · subst e; exact hj'
      · exact h s (by omega)
    refine pk_le (2 ^ n) j (fun z => absurd z (by omega)) (fun _ => ?_) (cv_bit (by omega)) rfl (by omega) (by omega)
    refine if_w G hT (by omega) (fun hf => br_f (by decide) ?_) (fun hf => br_t rfl (nm_r (nI_1 j) ?_))
    · by_cases e : nI (cn (Fl n N) j) = v
      · exact br_t e (K1 j (by omega) hf e)
      · exact br_f e (nm_r (cn_j.1 hf) (nm_r (nI_1 j) (ih (j + 1) (by omega) (ext (fun _ => e)))))
    · rw [cn_j.2 hf]; exact ih (j + 1) (by omega) (ext (fun y => absurd y hf))
theorem cq_lp {post : Int32 → Prop} (G : Gr n N) (hT : TR b_tied N) {k : Nat} (hk : k < 10) (K : post (nI (cn (fun s => pc s = k ∧ Cq N s) (2 ^ n)))) : ∀ d j, j + d = 2 ^ n → wY_cliques_16 post (nI k) (nI n) b_tied b_weight b_ways b_past b_apart (d + 1) (nI (cn (fun s => pc s = k ∧ Cq N s) j)) (nI j) := by
  have hn := G.2.1
  have b2 := gb_p2 hn
  intro d
  induction d with
  | zero =>
    intro j hj
    obtain rfl : j = 2 ^ n := by omega
    refine br_t ?_ K
    rw [cv_bit (by omega)]; exact nI_le (Nat.le_refl _) (by omega)
  | succ d ih =>
    intro j hj
    have p9 := pc_9 j
    have no : ¬ (pc j = k ∧ Cq N j) → wY_cliques_16 post (nI k) (nI n) b_tied b_weight b_ways b_past b_apart (d + 1) (nI (cn (fun s => pc s = k ∧ Cq N s) j)) (nI (j + 1)) := by
      intro h
      rw [(cn_j (P := fun s => pc s = k ∧ Cq N s)).2 h]; exact ih (j + 1) (by omega)
    refine pk_le (2 ^ n) j (fun z => absurd z (by omega)) (fun _ => ?_) (cv_bit (by omega)) rfl (by omega) (by omega)
    refine me_w hn (by omega) (pk_eq (pc j) k (fun e => ?_) (fun e => nm_r (nI_1 j) (no (fun h => e h.1))))
    exact ec_w G hT (by omega) (fun h => br_f (by decide) (nm_r ((cn_j (P := fun s => pc s = k ∧ Cq N s)).1 ⟨e, h⟩) (nm_r (nI_1 j) (ih (j + 1) (by omega))))) (fun h => br_t rfl (nm_r (nI_1 j) (no (fun y => h y.2))))
/-- a greatest value over the cliques -/
def Gt (N : Nat → Nat) (f : Nat → Nat) (M v : Nat) : Prop := (∀ s, s < M → Cq N s → f s ≤ v) ∧ (v = 0 ∨ ∃ s, s < M ∧ Cq N s ∧ f s = v)
theorem gt_0 (N f : Nat → Nat) : Gt N f 0 0 := ⟨fun s h => absurd h (by omega), Or.inl rfl⟩
theorem gt_keep {N f : Nat → Nat} {M v : Nat} (h : Gt N f M v) (hv : Cq N M → f M ≤ v) : Gt N f (M + 1) v := by
  refine ⟨fun s hs hc => ?_, h.2.imp id (fun ⟨s, h1, h2⟩ => ⟨s, by omega, h2⟩)⟩
  by_cases e : s = M
  · subst e; exact hv hc
  · exact h.1 s (by omega) hc
theorem gt_new {N f : Nat → Nat} {M v : Nat} (h : Gt N f M v) (hc : Cq N M) (hv : v ≤ f M) : Gt N f (M + 1) (f M) := by
  refine ⟨fun s hs hc' => ?_, Or.inr ⟨M, by omega, hc, rfl⟩⟩
  by_cases e : s = M
  · subst e; exact Nat.le_refl _
  · exact Nat.le_trans (h.1 s (by omega) hc') hv
theorem gt_u {N f : Nat → Nat} {M v v' : Nat} (h : Gt N f M v) (h' : Gt N f M v') : v = v' := by
  have a : v ≤ v' := by
    rcases h.2 with e | ⟨s, h1, h2, h3⟩
    · omega
    · have := h'.1 s h1 h2; omega
  have b : v' ≤ v := by
    rcases h'.2 with e | ⟨s, h1, h2, h3⟩
    · omega
    · have := h.1 s h1 h2; omega
  omega
theorem hv_lp {post : Int32 → Prop} (G : Gr n N) (hT : TR b_tied N) (hW : WR b_weight w) (K : ∀ v, Gt N (wt w) (2 ^ n) v → post (nI v)) : ∀ d j, j + d = 2 ^ n → ∀ v, v ≤ 180 → Gt N (wt w) j v → wY_heaviest_4 post (nI n) b_tied b_weight b_ways b_past b_apart (d + 1) (nI v) (nI j) := by
  have hn := G.2.1
  have b2 := gb_p2 hn
  intro d
  induction d with
  | zero =>
    intro j hj v hv h
    obtain rfl : j = 2 ^ n := by omega
    refine br_t ?_ (K v h)
    rw [cv_bit (by omega)]; exact nI_le (Nat.le_refl _) (by omega)
  | succ d ih =>
    intro j hj v hv h
    have w1 := wt_20 (fun p hp => (hW p hp).2.2) j
    refine pk_le (2 ^ n) j (fun z => absurd z (by omega)) (fun _ => ?_) (cv_bit (by omega)) rfl (by omega) (by omega)
    refine he_w hn hW (by omega) (pk_le (wt w j) v (fun e => nm_r (nI_1 j) (ih (j + 1) (by omega) v hv (gt_keep h (fun _ => e)))) (fun e => ?_))
    exact ec_w G hT (by omega) (fun hc => br_f (by decide) (nm_r (nI_1 j) (ih (j + 1) (by omega) _ w1 (gt_new h hc (by omega))))) (fun hc => br_t rfl (nm_r (nI_1 j) (ih (j + 1) (by omega) v hv (gt_keep h (fun y => absurd y hc)))))
theorem sz_lp {post : Int32 → Prop} (G : Gr n N) (hT : TR b_tied N) (K : ∀ v, Gt N pc (2 ^ n) v → post (nI v)) : ∀ d j, j + d = 2 ^ n → ∀ v, v ≤ 9 → Gt N pc j v → wY_size_4 post (nI n) b_tied b_weight b_ways b_past b_apart (d + 1) (nI v) (nI j) := by
  have hn := G.2.1
  have b2 := gb_p2 hn
  intro d
  induction d with
  | zero =>
    intro j hj v hv h
    obtain rfl : j = 2 ^ n := by omega
    refine br_t ?_ (K v h)
    rw [cv_bit (by omega)]; exact nI_le (Nat.le_refl _) (by omega)
  | succ d ih =>
    intro j hj v hv h
    have w1 := pc_9 j
    refine pk_le (2 ^ n) j (fun z => absurd z (by omega)) (fun _ => ?_) (cv_bit (by omega)) rfl (by omega) (by omega)
    refine me_w hn (by omega) (pk_le (pc j) v (fun e => nm_r (nI_1 j) (ih (j + 1) (by omega) v hv (gt_keep h (fun _ => e)))) (fun e => ?_))
    exact ec_w G hT (by omega) (fun hc => br_f (by decide) (nm_r (nI_1 j) (ih (j + 1) (by omega) _ w1 (gt_new h hc (by omega))))) (fun hc => br_t rfl (nm_r (nI_1 j) (ih (j + 1) (by omega) v hv (gt_keep h (fun y => absurd y hc)))))
/-- the candidates of bestWith below a border -/
def Cd (N : Nat → Nat) (x M s : Nat) : Prop := (s < M ∧ Cq N s) ∧ ∀ p, mb x p → mb s p
theorem bw_lp {post : Int32 → Prop} (G : Gr n N) (hT : TR b_tied N) (hW : WR b_weight w) {x : Nat} (hx : x < 2 ^ n) (K1 : ∀ b, Bst w (Cd N x (2 ^ n)) b → post (nI b)) (K0 : (∀ s, ¬ Cd N x (2 ^ n) s) → post (-2)) :
    ∀ d j, j + d = 2 ^ n → ∀ most found : Int32, ((most = -1 ∧ found = -2 ∧ ∀ s, ¬ Cd N x j s) ∨ ∃ b, most = nI (wt w b) ∧ found = nI b ∧ Bst w (Cd N x j) b) → wY_bestWith_18 post (nI x) (nI n) b_tied b_weight b_ways b_past b_apart (d + 1) most found (nI j) := by
  have hn := G.2.1
  have b2 := gb_p2 hn
  intro d
  induction d with
  | zero =>
    intro j hj most found h
    obtain rfl : j = 2 ^ n := by omega
    refine br_t (by rw [cv_bit (by omega)]; exact nI_le (Nat.le_refl _) (by omega)) ?_
    rcases h with ⟨_, rfl, h⟩ | ⟨b, _, rfl, h⟩
    · exact K0 h
    · exact K1 b h
  | succ d ih =>
    intro j hj most found h
    have w1 := wt_20 (fun p hp => (hW p hp).2.2) j
    refine pk_le (2 ^ n) j (fun z => absurd z (by omega)) (fun _ => ?_) (cv_bit (by omega)) rfl (by omega) (by omega)
    have sup : nI j &&& nI x = nI x ↔ ∀ p, mb x p → mb j p := by
      have := gb_512 hn hx
      rw [nx_and, nI_eq (Nat.lt_of_le_of_lt Nat.and_le_left (by omega)) (by omega)]
      constructor
      · intro e p hp
        rw [← e] at hp
        exact (gb_and.mp hp).1
      · intro g
        exact gb_ext (fun p => gb_and.trans ⟨fun z => z.2, fun z => ⟨g p z, z⟩⟩)
    have old : ∀ s, Cd N x j s → Cd N x (j + 1) s := fun s hs => ⟨⟨by have := hs.1.1; omega, hs.1.2⟩, hs.2⟩
    have cut : ∀ s, Cd N x (j + 1) s → s ≠ j → Cd N x j s := fun s hs e => ⟨⟨by have := hs.1.1; omega, hs.1.2⟩, hs.2⟩
    have keep : (Cd N x (j + 1) j → ∃ b, found = nI b ∧ Bst w (Cd N x j) b ∧ wt w j < wt w b) → wY_bestWith_18 post (nI x) (nI n) b_tied b_weight b_ways b_past b_apart (d + 1) most found (nI (j + 1)) := by
      intro hno
      refine ih (j + 1) (by omega) most found ?_
      rcases h with ⟨g1, g2, g3⟩ | ⟨b, g1, g2, g3⟩
      · refine Or.inl ⟨g1, g2, fun s hs => ?_⟩
        by_cases e : s = j
        · subst e
          obtain ⟨b, _, hb, _⟩ := hno hs
          exact g3 b hb.1
        · exact g3 s (cut s hs e)
      · refine Or.inr ⟨b, g1, g2, old b g3.1, fun s hs => ?_⟩
        by_cases e : s = j
        · subst e
          obtain ⟨b', e', hb', hlt⟩ := hno hs
          rcases hb'.2 b g3.1 with y | y
          · rcases g3.2 b' hb'.1 with y' | y'
            · omega
            · omega
          · rcases g3.2 b' hb'.1 with y' | y'
            · omega
            · omega
        · exact g3.2 s (cut s hs e)
    have new : Cd N x (j + 1) j → (∀ b, most = nI (wt w b) → Bst w (Cd N x j) b → wt w b ≤ wt w j) → wY_bestWith_18 post (nI x) (nI n) b_tied b_weight b_ways b_past b_apart (d + 1) (nI (wt w j)) (nI j) (nI (j + 1)) := by
      intro hc hw
      refine ih (j + 1) (by omega) _ _ (Or.inr ⟨j, rfl, rfl, hc, fun s hs => ?_⟩)
      by_cases e : s = j
      · subst e; exact Or.inr ⟨rfl, Nat.le_refl _⟩
      · have hs' := cut s hs e
        rcases h with ⟨_, _, g3⟩ | ⟨b, g1, g2, g3⟩
        · exact absurd hs' (g3 s)
        · have a := hw b g1 g3
          have l := hs'.1.1
          rcases g3.2 s hs' with y | y
          · omega
          · omega
    by_cases z : ∀ p, mb x p → mb j p
    · refine br_t (sup.mpr z) (ec_w G hT (by omega) (fun hc => br_f (by decide) (he_w hn hW (by omega) ?_)) (fun hc => br_t rfl (nm_r (nI_1 j) (keep (fun y => absurd y.1.2 hc)))))
      have hcd : Cd N x (j + 1) j := ⟨⟨by omega, hc⟩, z⟩
      rcases h with ⟨g1, g2, g3⟩ | ⟨b, g1, g2, g3⟩
      · refine br_f ?_ (nm_r (nI_1 j) (new hcd (fun b _ hb => absurd hb.1 (g3 b))))
        rw [g1, Int32.lt_iff_toInt_lt, nI_toInt (by omega)]
        have : (-1 : Int32).toInt = -1 := by decide
        omega
      · have w2 := wt_20 (fun p hp => (hW p hp).2.2) b
        rw [g1]
        refine pk_lt (wt w j) (wt w b) (fun y => nm_r (nI_1 j) ?_) (fun y => nm_r (nI_1 j) (new hcd (fun b' e' hb' => ?_)))
        · rw [← g1]; exact keep (fun _ => ⟨b, g2, g3, y⟩)
        · have w3 := wt_20 (fun p hp => (hW p hp).2.2) b'
          rw [g1, nI_eq (by omega) (by omega)] at e'
          omega
    · exact br_f (fun e => z (sup.mp e)) (nm_r (nI_1 j) (keep (fun y => absurd y.2 z)))
end
end
section
/-! Y: painting -/
theorem cv_nb (P : Prop) : vp_nar .boolean (nI (b01 P)) = nI (b01 P) := by
  by_cases h : P
  · rw [cv_bz h]; rfl
  · rw [cv_bf h]; rfl
theorem col_pc {n : Nat} {N : Nat → Nat} (G : Gr n N) : ∀ s, s < 512 → Col N (pc s) s := by
  intro s
  induction s using Nat.strongRecOn with
  | ind s ih =>
    intro hs
    by_cases z : s = 0
    · subst z; rw [pc_0]; rfl
    · obtain ⟨p, hp⟩ := gb_ne z
      have hp9 := gb_lt (n := 9) hs hp
      have lt := gb_delt hp
      rw [← pc_del hp9 hp]
      exact ⟨2 ^ p, ⟨fun q hq => gb_pw.mp hq ▸ hp, ind_1 G p⟩, ih _ lt (by omega)⟩
theorem lst_9 {n : Nat} {N : Nat → Nat} (G : Gr n N) {s m : Nat} (hs : s < 512) (h : Lst N s m) : m ≤ 9 :=
  Nat.le_trans ((lst_le h).mp (col_pc G s hs)) (pc_9 s)
theorem lst_u {N : Nat → Nat} {s m m' : Nat} (h : Lst N s m) (h' : Lst N s m') : m = m' :=
  Nat.le_antisymm ((lst_le h).mp h'.1) ((lst_le h').mp h.1)
section
variable {b_tied b_weight b_ways b_past b_apart : Nat → Int32}
variable {n : Nat} {N w : Nat → Nat}
theorem mo_lp {post : Int32 → Prop} (hn : n ≤ 9) {s : Nat} (hs : s < 2 ^ n) {pa : Nat → Nat} (hP : ∀ t, t < 2 ^ n → b_past t = nI (pa t)) (hA : ∀ t, t < 2 ^ n → b_apart t = nI (b01 (Ind N t)))
    (K : post (nI (sm (fun q => b01 (Vd N s q) * pa (nd s q)) 512))) : ∀ d j, j + d = s + 1 → wY_more_4 post (nI s) (nI n) b_tied b_weight b_ways b_past b_apart (d + 1) (nI (sm (fun q => b01 (Vd N s q) * pa (nd s q)) j)) (nI j) := by
  have h512 := gb_512 hn hs
  intro d
  induction d with
  | zero =>
    intro j hj
    obtain rfl : j = s + 1 := by omega
    refine br_t (nI_lt (by omega) (by omega)) ?_
    rw [sm_ext (a := s + 1) (b := 512) (by omega) (fun i hi _ => ?_)] at K
    · exact K
    · rw [b01_f (P := Vd N s i) (fun h => by have := gb_le h.1; omega), Nat.zero_mul]
  | succ d ih =>
    intro j hj
    have next := ih (j + 1) (by omega)
    simp only [sm] at next
    refine pk_lt s j (fun z => absurd z (by omega)) (fun _ => ?_)
    have sub : nI j &&& nI s = nI j ↔ sbs j s := by
      rw [nx_and, nI_eq (Nat.lt_of_le_of_lt Nat.and_le_left (by omega)) (by omega)]
      constructor
      · intro e p hp
        rw [← e] at hp
        exact (gb_and.mp hp).2
      · intro g
        exact gb_ext (fun p => gb_and.trans ⟨fun z => z.1, fun z => ⟨z, g p z⟩⟩)
    by_cases z : sbs j s
    · refine br_t (sub.mpr z) (br_f (by decide) ⟨vp_in_nI (by omega) (by omega), ?_⟩)
      rw [nI_clamp (n := j) (by omega), hA j (by omega)]
      by_cases y : Ind N j
      · rw [cv_bz y]
        refine br_f (by decide) ?_
        have lt := nd_lt j hs
        rw [b01_t ⟨z, y⟩, Nat.one_mul] at next
        rw [pk_sub (by omega), gb_subm z, nI_clamp (n := nd s j) (by have := gb_512 hn lt; omega), hP _ lt, nI_add]
        exact ⟨vp_in_nI (gb_512 hn lt) (by omega), nm_e (nm_r (nI_1 j) next)⟩
      · rw [cv_bf y]
        rw [b01_f (P := Vd N s j) (fun h => y h.2), Nat.zero_mul, Nat.add_zero] at next
        exact br_t rfl (nm_r (nI_1 j) next)
    · rw [b01_f (P := Vd N s j) (fun h => z h.1), Nat.zero_mul, Nat.add_zero] at next
      exact br_f (fun e => z (sub.mp e)) (br_t rfl (nm_r (nI_1 j) next))
theorem mo_w {post : Int32 → Prop} (hn : n ≤ 9) {s : Nat} (hs : s < 2 ^ n) {pa : Nat → Nat} (hP : ∀ t, t < 2 ^ n → b_past t = nI (pa t)) (hA : ∀ t, t < 2 ^ n → b_apart t = nI (b01 (Ind N t)))
    (K : post (nI (sm (fun q => b01 (Vd N s q) * pa (nd s q)) 512))) : wpY_more post ((nI n), b_tied, b_weight, b_ways, b_past, b_apart) (nI s) :=
  ⟨s + 1 + 1, mo_lp hn hs hP hA K (s + 1) 0 (Nat.zero_add _)⟩
theorem ac_lp1 {post : SY → Prop} (hn : n ≤ 9) {k : Nat} (hP : ∀ t, t < 2 ^ n → b_past t = nI (Wf N k t)) (hA : ∀ t, t < 2 ^ n → b_apart t = nI (b01 (Ind N t)))
    (K : ∀ W : Nat → Int32, (∀ t, t < 2 ^ n → W t = nI (Wf N (k + 1) t)) → post ((nI n), b_tied, b_weight, W, b_past, b_apart)) :
    ∀ d j, j + d = 2 ^ n → ∀ W : Nat → Int32, (∀ t, t < j → W t = nI (Wf N (k + 1) t)) → wY_addColour_32 post (nI n) (d + 1) (nI j) b_tied b_weight W b_past b_apart := by
  have b2 := gb_p2 hn
  intro d
  induction d with
  | zero =>
    intro j hj W h
    refine br_t ?_ (K W (fun t ht => h t (by omega)))
    rw [cv_bit (by omega)]; exact nI_le (by omega) (by omega)
  | succ d ih =>
    intro j hj W h
    refine pk_le (2 ^ n) j (fun z => absurd z (by omega)) (fun _ => ?_) (cv_bit (by omega)) rfl (by omega) (by omega)
    refine mo_w hn (by omega) hP hA ⟨vp_in_nI (by omega) (by omega), ?_⟩
    rw [nI_clamp (n := j) (by omega)]
    refine nm_e (nm_r (nI_1 j) (ih (j + 1) (by omega) _ (fun t ht => ?_)))
    by_cases e : t = j
    · subst e; exact pk_us
    · rw [pk_un e]; exact h t (by omega)
theorem ac_lp2 {post : SY → Prop} (hn : n ≤ 9) {k : Nat} (hW : ∀ t, t < 2 ^ n → b_ways t = nI (Wf N k t)) (hA : ∀ t, t < 2 ^ n → b_apart t = nI (b01 (Ind N t)))
    (K : ∀ W Q : Nat → Int32, (∀ t, t < 2 ^ n → W t = nI (Wf N (k + 1) t)) → post ((nI n), b_tied, b_weight, W, Q, b_apart)) :
    ∀ d j, j + d = 2 ^ n → ∀ Q : Nat → Int32, (∀ t, t < j → Q t = nI (Wf N k t)) → wY_addColour_2 post (nI n) (d + 1) (nI j) b_tied b_weight b_ways Q b_apart := by
  have b2 := gb_p2 hn
  intro d
  induction d with
  | zero =>
    intro j hj Q h
    refine br_t ?_ ⟨2 ^ n + 1, ac_lp1 hn (fun t ht => h t (by omega)) hA (fun W hW' => K W Q hW') (2 ^ n) 0 (Nat.zero_add _) b_ways (fun t ht => absurd ht (by omega))⟩
    rw [cv_bit (by omega)]; exact nI_le (by omega) (by omega)
  | succ d ih =>
    intro j hj Q h
    refine pk_le (2 ^ n) j (fun z => absurd z (by omega)) (fun _ => ⟨vp_in_nI (by omega) (by omega), vp_in_nI (by omega) (by omega), ?_⟩) (cv_bit (by omega)) rfl (by omega) (by omega)
    rw [nI_clamp (n := j) (by omega)]
    refine nm_e (nm_r (nI_1 j) (ih (j + 1) (by omega) _ (fun t ht => ?_)))
    by_cases e : t = j
    · subst e; rw [pk_us]; exact hW t (by omega)
    · rw [pk_un e]; exact h t (by omega)
theorem ac_w {post : SY → Prop} (hn : n ≤ 9) {k : Nat} (hW : ∀ t, t < 2 ^ n → b_ways t = nI (Wf N k t)) (hA : ∀ t, t < 2 ^ n → b_apart t = nI (b01 (Ind N t)))
    (K : ∀ W Q : Nat → Int32, (∀ t, t < 2 ^ n → W t = nI (Wf N (k + 1) t)) → post ((nI n), b_tied, b_weight, W, Q, b_apart)) : wpY_addColour post ((nI n), b_tied, b_weight, b_ways, b_past, b_apart) :=
  ⟨2 ^ n + 1, ac_lp2 hn hW hA K (2 ^ n) 0 (Nat.zero_add _) b_past (fun t ht => absurd ht (by omega))⟩
theorem pt_lp1 {post : SY → Prop} (hn : n ≤ 9) {k : Nat} (hk : k ≤ 9)
    (K : ∀ W Q : Nat → Int32, (∀ t, t < 2 ^ n → W t = nI (Wf N k t)) → post ((nI n), b_tied, b_weight, W, Q, b_apart)) (hA : ∀ t, t < 2 ^ n → b_apart t = nI (b01 (Ind N t))) :
    ∀ d j, j + d = k → ∀ W Q : Nat → Int32, (∀ t, t < 2 ^ n → W t = nI (Wf N j t)) → wY_paint_47 post (nI k) (d + 1) (nI j) (nI n) b_tied b_weight W Q b_apart := by
  intro d
  induction d with
  | zero =>
    intro j hj W Q h
    obtain rfl : j = k := by omega
    exact br_t (nI_le (Nat.le_refl _) (by omega)) (K W Q h)
  | succ d ih =>
    intro j hj W Q h
    refine pk_le k j (fun z => absurd z (by omega)) (fun _ => ac_w hn h hA (fun W' Q' h' => nm_r (nI_1 j) (ih (j + 1) (by omega) W' Q' h')))
theorem pt_lp2 {post : SY → Prop} (G : Gr n N) (hT : TR b_tied N) {k : Nat} (hk : k ≤ 9)
    (K : ∀ W Q A : Nat → Int32, (∀ t, t < 2 ^ n → W t = nI (Wf N k t)) → (∀ t, t < 2 ^ n → A t = nI (b01 (Ind N t))) → post ((nI n), b_tied, b_weight, W, Q, A)) :
    ∀ d j, j + d = 2 ^ n → ∀ W A : Nat → Int32, (∀ t, t < j → W t = nI (Wf N 0 t)) → (∀ t, t < j → A t = nI (b01 (Ind N t))) → wY_paint_2 post (nI k) (nI n) (d + 1) (nI j) b_tied b_weight W b_past A := by
  have hn := G.2.1
  have b2 := gb_p2 hn
  intro d
  induction d with
  | zero =>
    intro j hj W A h1 h2
    refine br_t ?_ ⟨k + 1, pt_lp1 (N := N) (b_apart := A) hn hk (fun W' Q' h => K W' Q' A h (fun t ht => h2 t (by omega))) (fun t ht => h2 t (by omega)) k 0 (Nat.zero_add k) W b_past (fun t ht => h1 t (by omega))⟩
    rw [cv_bit (by omega)]; exact nI_le (by omega) (by omega)
  | succ d ih =>
    intro j hj W A h1 h2
    refine pk_le (2 ^ n) j (fun z => absurd z (by omega)) (fun _ => ?_) (cv_bit (by omega)) rfl (by omega) (by omega)
    have go : ∀ v : Int32, v = nI (Wf N 0 j) → wY_paint_26 post (wY_paint_2 post (nI k) (nI n) (d + 1)) (nI k) (nI j) v (nI j) (nI n) b_tied b_weight W b_past A := by
      intro v hv
      refine ⟨vp_in_nI (by omega) (by omega), nm_e (ei_w G hT (by omega) ⟨vp_in_nI (by omega) (by omega), ?_⟩)⟩
      rw [nI_clamp (n := j) (by omega), cv_nb]
      refine nm_e (nm_r (nI_1 j) (ih (j + 1) (by omega) _ _ (fun t ht => ?_) (fun t ht => ?_)))
      · by_cases e : t = j
        · subst e; rw [pk_us]; exact hv
        · rw [pk_un e]; exact h1 t (by omega)
      · by_cases e : t = j
        · subst e; exact pk_us
        · rw [pk_un e]; exact h2 t (by omega)
    by_cases z : j = 0
    · subst z
      exact br_t rfl (go 1 (cv_bz rfl).symm)
    · exact br_f (nI_ne0 (by omega) (by omega)) (go 0 (cv_bf z).symm)
theorem pt_w {post : SY → Prop} (G : Gr n N) (hT : TR b_tied N) {k : Nat} (hk : k ≤ 9)
    (K : ∀ W Q A : Nat → Int32, (∀ t, t < 2 ^ n → W t = nI (Wf N k t)) → (∀ t, t < 2 ^ n → A t = nI (b01 (Ind N t))) → post ((nI n), b_tied, b_weight, W, Q, A)) : wpY_paint post ((nI n), b_tied, b_weight, b_ways, b_past, b_apart) (nI k) :=
  ⟨2 ^ n + 1, pt_lp2 G hT hk K (2 ^ n) 0 (Nat.zero_add _) b_ways b_apart (fun t ht => absurd ht (by omega)) (fun t ht => absurd ht (by omega))⟩
theorem wf_z {N : Nat → Nat} {k s : Nat} (hk : k ≤ 9) (hs : s < 512) : nI (Wf N k s) ≤ 0 ↔ ¬ Col N k s := by
  have b := wf_bd (N := N) hk hs
  rw [← wf_pos hs, ← nI_0, nI_leI b (by decide)]
  omega
theorem yc_lp {post : Int32 → SY → Prop} (G : Gr n N) (hA : ∀ t, t < 2 ^ n → b_apart t = nI (b01 (Ind N t)))
    (K : ∀ (m : Nat) (W Q : Nat → Int32), Lst N (2 ^ n - 1) m → post (nI m) ((nI n), b_tied, b_weight, W, Q, b_apart)) :
    ∀ d j, j + d = 9 → ∀ W Q : Nat → Int32, (∀ t, t < 2 ^ n → W t = nI (Wf N j t)) → (∀ i, i < j → ¬ Col N i (2 ^ n - 1)) → wY_colours_16 post (nI (2 ^ n - 1)) (d + 1) (nI j) (nI n) b_tied b_weight W Q b_apart := by
  have hn := G.2.1
  have b2 := gb_p2 hn
  have b0 := Nat.two_pow_pos n
  intro d
  induction d with
  | zero =>
    intro j hj W Q h1 h2
    obtain rfl : j = 9 := by omega
    exact br_t (by decide) (K 9 W Q ⟨col_le (col_pc G (2 ^ n - 1) (by omega)) (pc_9 _), h2⟩)
  | succ d ih =>
    intro j hj W Q h1 h2
    refine pk_le 9 j (fun z => absurd z (by omega)) (fun _ => ⟨vp_in_nI (by omega) (by omega), ?_⟩)
    rw [nI_clamp (n := 2 ^ n - 1) (by omega), h1 _ (by omega)]
    by_cases z : Col N j (2 ^ n - 1)
    · exact br_f (fun e => (wf_z (by omega) (by omega)).mp e z) (K j W Q ⟨z, h2⟩)
    · refine br_t ((wf_z (by omega) (by omega)).mpr z) (ac_w hn h1 hA (fun W' Q' h' => nm_r (nI_1 j) (ih (j + 1) (by omega) W' Q' h' (fun i hi => ?_))))
      by_cases e : i = j
      · subst e; exact z
      · exact h2 i (by omega)
theorem ya_lp {post : Int32 → SY → Prop} (hn : n ≤ 9) {p q k : Nat} (hp : p < n) (hq : q < n) (hk : k ≤ 9) (hW : ∀ t, t < 2 ^ n → b_ways t = nI (Wf N k t)) (hA : ∀ t, t < 2 ^ n → b_apart t = nI (b01 (Ind N t)))
    (K1 : (∃ s, s < 2 ^ n ∧ (mb s p ∧ mb s q) ∧ Ind N s ∧ Col N k (nd (2 ^ n - 1) s)) → post 1 ((nI n), b_tied, b_weight, b_ways, b_past, b_apart)) (K0 : ¬ (∃ s, s < 2 ^ n ∧ (mb s p ∧ mb s q) ∧ Ind N s ∧ Col N k (nd (2 ^ n - 1) s)) → post 0 ((nI n), b_tied, b_weight, b_ways, b_past, b_apart)) :
    ∀ d j, j + d = 2 ^ n → (∀ s, s < j → ¬ ((mb s p ∧ mb s q) ∧ Ind N s ∧ Col N k (nd (2 ^ n - 1) s))) → wY_alike_57 post (nI p) (nI q) (nI (2 ^ n - 1)) (nI n) b_tied b_weight b_ways b_past b_apart (d + 1) (nI j) := by
  have b2 := gb_p2 hn
  have b0 := Nat.two_pow_pos n
  intro d
  induction d with
  | zero =>
    intro j hj h
    refine br_t (nI_lt (by omega) (by omega)) (K0 ?_)
    rintro ⟨s, hs, h'⟩
    exact h s (by omega) h'
  | succ d ih =>
    intro j hj h
    refine pk_lt (2 ^ n - 1) j (fun z => absurd z (by omega)) (fun _ => ?_)
    have next : ¬ ((mb j p ∧ mb j q) ∧ Ind N j ∧ Col N k (nd (2 ^ n - 1) j)) → wY_alike_57 post (nI p) (nI q) (nI (2 ^ n - 1)) (nI n) b_tied b_weight b_ways b_past b_apart (d + 1) (nI (j + 1)) := by
      intro hno
      refine ih (j + 1) (by omega) (fun s hs => ?_)
      by_cases e : s = j
      · subst e; exact hno
      · exact h s (by omega)
    have no : ¬ ((mb j p ∧ mb j q) ∧ Ind N j ∧ Col N k (nd (2 ^ n - 1) j)) → wY_alike_88 post (wY_alike_57 post (nI p) (nI q) (nI (2 ^ n - 1)) (nI n) b_tied b_weight b_ways b_past b_apart (d + 1)) (nI p) (nI q) (nI (2 ^ n - 1)) (nI j) (nI n) b_tied b_weight b_ways b_past b_apart :=
      fun hno => br_t rfl (nm_r (nI_1 j) (next hno))
    have sub : sbs j (2 ^ n - 1) := fun x hx => gb_al.mpr (gb_lt (show j < 2 ^ n by omega) hx)
    have lt := nd_lt (M := 2 ^ n) j (show 2 ^ n - 1 < 2 ^ n by omega)
    refine ho_w (by omega) (by omega) (fun z1 => br_f (by decide) ?_) (fun z1 => br_t rfl (no (fun h => z1 h.1.1)))
    refine ho_w (by omega) (by omega) (fun z2 => br_f (by decide) ?_) (fun z2 => br_t rfl (no (fun h => z2 h.1.2)))
    refine br_f (by decide) ?_
    rw [pk_sub (by omega), gb_subm sub, nI_clamp (n := nd (2 ^ n - 1) j) (by omega), hW _ lt]
    refine ⟨vp_in_nI (by omega) (by omega), ?_⟩
    by_cases hc : Col N k (nd (2 ^ n - 1) j)
    · refine br_f (fun e => (wf_z hk (by omega)).mp e hc) ⟨vp_in_nI (by omega) (by omega), ?_⟩
      rw [nI_clamp (n := j) (by omega), hA j (by omega)]
      by_cases hi : Ind N j
      · rw [cv_bz hi]
        exact br_f (by decide) (K1 ⟨j, by omega, ⟨z1, z2⟩, hi, hc⟩)
      · rw [cv_bf hi]
        exact br_t rfl (nm_r (nI_1 j) (next (fun h => hi h.2.1)))
    · exact br_t ((wf_z hk (by omega)).mpr hc) (nm_r (nI_1 j) (next (fun h => hc h.2.2)))
end
end
section
/-! joining, weaving, inverting -/
def sp (f : Bool) (s q : Nat) : Nat := if f then s ||| 2 ^ q else nd s (2 ^ q)
def Np (N : Nat → Nat) (p q : Nat) (f : Bool) : Nat → Nat := fun r => if r = q then sp f (N q) p else if r = p then sp f (N p) q else N r
theorem sp_mb {f : Bool} {s q x : Nat} : mb (sp f s q) x ↔ (x = q ∧ f = true) ∨ (x ≠ q ∧ mb s x) := by
  unfold sp
  cases f with
  | true =>
    rw [if_pos rfl, gb_or, gb_pw]
    by_cases e : x = q
    · exact ⟨fun _ => Or.inl ⟨e, rfl⟩, fun _ => Or.inr e⟩
    · exact ⟨fun h => Or.inr ⟨e, h.resolve_right e⟩, fun h => Or.inl (h.resolve_left (fun y => e y.1)).2⟩
  | false =>
    rw [if_neg (by decide), gb_nd, gb_pw]
    constructor
    · exact fun h => Or.inr ⟨h.2, h.1⟩
    · rintro (h | h)
      · exact absurd h.2 (by decide)
      · exact ⟨h.2, h.1⟩
theorem np_mb {N : Nat → Nat} {p q : Nat} {f : Bool} (hpq : p ≠ q) {r x : Nat} : mb (Np N p q f r) x ↔ (((r = p ∧ x = q) ∨ (r = q ∧ x = p)) ∧ f = true) ∨ (¬ ((r = p ∧ x = q) ∨ (r = q ∧ x = p)) ∧ mb (N r) x) := by
  unfold Np
  by_cases e1 : r = q
  · subst e1
    rw [if_pos rfl, sp_mb]
    by_cases e2 : x = p
    · constructor
      · rintro (h | h)
        · exact Or.inl ⟨Or.inr ⟨rfl, e2⟩, h.2⟩
        · exact absurd e2 h.1
      · rintro (h | h)
        · exact Or.inl ⟨e2, h.2⟩
        · exact absurd (Or.inr ⟨rfl, e2⟩) h.1
    · have no : ¬ ((r = p ∧ x = r) ∨ (r = r ∧ x = p)) := fun h => h.elim (fun y => hpq y.1.symm) (fun y => e2 y.2)
      constructor
      · rintro (h | h)
        · exact absurd h.1 e2
        · exact Or.inr ⟨no, h.2⟩
      · rintro (h | h)
        · exact absurd h.1 no
        · exact Or.inr ⟨e2, h.2⟩
  · rw [if_neg e1]
    by_cases e3 : r = p
    · subst e3
      rw [if_pos rfl, sp_mb]
      by_cases e2 : x = q
      · constructor
        · rintro (h | h)
          · exact Or.inl ⟨Or.inl ⟨rfl, e2⟩, h.2⟩
          · exact absurd e2 h.1
        · rintro (h | h)
          · exact Or.inl ⟨e2, h.2⟩
          · exact absurd (Or.inl ⟨rfl, e2⟩) h.1
      · have no : ¬ ((r = r ∧ x = q) ∨ (r = q ∧ x = r)) := fun h => h.elim (fun y => e2 y.2) (fun y => e1 y.1)
        constructor
        · rintro (h | h)
          · exact absurd h.1 e2
          · exact Or.inr ⟨no, h.2⟩
        · rintro (h | h)
          · exact absurd h.1 no
          · exact Or.inr ⟨e2, h.2⟩
    · rw [if_neg e3]
      have no : ¬ ((r = p ∧ x = q) ∨ (r = q ∧ x = p)) := fun h => h.elim (fun y => e3 y.1) (fun y => e1 y.1)
      exact ⟨fun h => Or.inr ⟨no, h⟩, fun h => (h.resolve_left (fun y => no y.1)).2⟩
theorem np_gr {n : Nat} {N : Nat → Nat} (G : Gr n N) {p q : Nat} (f : Bool) (hp : p < n) (hq : q < n) (hpq : p ≠ q) : Gr n (Np N p q f) := by
  refine ⟨G.1, G.2.1, fun r x h => ?_, fun r h => ?_, fun r x h => ?_⟩
  · rw [np_mb hpq] at h
    rcases h with h | h
    · omega
    · exact G.2.2.1 r x h.2
  · rw [np_mb hpq] at h
    rcases h with h | h
    · omega
    · exact G.2.2.2.1 r h.2
  · rw [np_mb hpq] at h ⊢
    rcases h with h | h
    · exact Or.inl ⟨by omega, h.2⟩
    · exact Or.inr ⟨by omega, G.2.2.2.2 r x h.2⟩
section
variable {f_found f_bestSet f_bestWeight : Int32} {a_near a_weights a_list a_clique a_open a_gone a_tried a_bySize a_loose a_least : Nat → Int32} {a_ways : Nat → Int64}
variable {n : Nat} {N w : Nat → Nat}
theorem sp_nr (hN : NR a_near N) {p q : Nat} (f : Bool) : NR (upd (upd a_near p (nI (sp f (N p) q))) q (nI (sp f (N q) p))) (Np N p q f) := by
  intro r hr
  unfold Np
  by_cases e1 : r = q
  · subst e1; rw [pk_us, if_pos rfl]
  · rw [pk_un e1, if_neg e1]
    by_cases e2 : r = p
    · subst e2; rw [pk_us, if_pos rfl]
    · rw [pk_un e2, if_neg e2]; exact hN r hr
theorem sp_w {post : SX → Prop} (hN : NR a_near N) {p q : Nat} (hp : p < 9) (hq : q < 9) (hpq : p ≠ q) {z : Int32} {f : Bool} (hf : z = if f then 1 else 0)
    (K : ∀ A, NR A (Np N p q f) → post ((nI n), f_found, f_bestSet, f_bestWeight, A, a_weights, a_list, a_clique, a_open, a_gone, a_tried, a_bySize, a_loose, a_least, a_ways)) : wpX_setPair post ((nI n), f_found, f_bestSet, f_bestWeight, a_near, a_weights, a_list, a_clique, a_open, a_gone, a_tried, a_bySize, a_loose, a_least, a_ways) (nI p) (nI q) z := by
  have fin := K _ (sp_nr hN f)
  cases f with
  | true =>
    rw [if_pos rfl] at hf
    subst hf
    refine br_f (by decide) ⟨vp_in_nI hp (by omega), ?_⟩
    rw [nI_clamp (n := p) (by omega), hN p hp, cv_bit (by omega), cv_or]
    refine ⟨vp_in_nI hp (by omega), nm_r (e' := upd a_near p (nI (N p ||| 2 ^ q))) (by rw [nI_clamp (n := p) (by omega)]) (br_f (by decide) ⟨vp_in_nI hq (by omega), vp_in_nI hq (by omega), ?_⟩)⟩
    rw [nI_clamp (n := q) (by omega), pk_un (Ne.symm hpq), hN q hq, cv_bit (by omega), cv_or]
    exact nm_e fin
  | false =>
    rw [if_neg (by decide)] at hf
    subst hf
    refine br_t rfl ⟨vp_in_nI hp (by omega), ?_⟩
    rw [nI_clamp (n := p) (by omega), hN p hp, cv_bit (by omega), cv_nd]
    refine ⟨vp_in_nI hp (by omega), nm_r (e' := upd a_near p (nI (nd (N p) (2 ^ q)))) (by rw [nI_clamp (n := p) (by omega)]) (br_t rfl ⟨vp_in_nI hq (by omega), vp_in_nI hq (by omega), ?_⟩)⟩
    rw [nI_clamp (n := q) (by omega), pk_un (Ne.symm hpq), hN q hq, cv_bit (by omega), cv_nd]
    exact nm_e fin
theorem xj_w {post : Int32 → SX → Prop} (G : Gr n N) (hN : NR a_near N) {p q : Nat} (hp : p < n) (hq : q < n) (hpq : p ≠ q) {z : Int32}
    (K : ∀ A, NR A (Np N p q (decide (z ≠ 0))) → post (nI (if (N p).testBit q then 1 else 0)) ((nI n), f_found, f_bestSet, f_bestWeight, A, a_weights, a_list, a_clique, a_open, a_gone, a_tried, a_bySize, a_loose, a_least, a_ways)) : wpX_join post ((nI n), f_found, f_bestSet, f_bestWeight, a_near, a_weights, a_list, a_clique, a_open, a_gone, a_tried, a_bySize, a_loose, a_least, a_ways) (nI p) (nI q) z := by
  have hn := G.2.1
  unfold wpX_join
  refine ip_yes hn hp ?_
  refine br_f (by decide) ?_
  refine ip_yes hn hq ?_
  refine br_f (by decide) (br_f (fun e => hpq ((nI_eq (by omega) (by omega)).mp e)) ⟨vp_in_nI (by omega) (by omega), ?_⟩)
  rw [nI_clamp (n := p) (by omega), hN p (by omega), cv_tb (by have := gr_512 G p; omega) (by omega)]
  by_cases e : z = 0
  · refine nm_e (br_t e (sp_w hN (by omega) (by omega) hpq (f := decide (z ≠ 0)) ?_ K))
    rw [decide_eq_false (fun h => h e)]; rfl
  · refine nm_e (br_f e (sp_w hN (by omega) (by omega) hpq (f := decide (z ≠ 0)) ?_ K))
    rw [decide_eq_true e]; rfl
/-- weave's rule -/
def cw (seed share p q : Nat) : Bool := decide ((p * p + p * q + q * q + seed) % 7 < share)
theorem cw_sym (seed share p q : Nat) : cw seed share p q = cw seed share q p := by
  unfold cw
  rw [Nat.mul_comm q p, show p * p + p * q + q * q = q * q + p * q + p * p from by omega]
theorem cw_e {seed p q : Nat} (hp : p < 9) (hq : q < 9) (hs : seed ≤ 6) : ((((nI p * nI p) + (nI p * nI q)) + (nI q * nI q)) + nI seed) - ((((nI p * nI p) + (nI p * nI q)) + (nI q * nI q)) + nI seed) / 7 * 7 = nI ((p * p + p * q + q * q + seed) % 7) := by
  have h1 : p * p ≤ 8 * 8 := Nat.mul_le_mul (by omega) (by omega)
  have h2 : p * q ≤ 8 * 8 := Nat.mul_le_mul (by omega) (by omega)
  have h3 : q * q ≤ 8 * 8 := Nat.mul_le_mul (by omega) (by omega)
  rw [pk_mul, pk_mul, pk_mul, nI_add, nI_add, nI_add, show (7 : Int32) = nI 7 from rfl]
  exact pk_rem (by omega) (by omega) (by omega)
theorem xw_lp1 {post : Int32 → SX → Prop} {J : Int32 → Int32 → Int32 → Int32 → Int32 → (Nat → Int32) → (Nat → Int32) → (Nat → Int32) → (Nat → Int32) → (Nat → Int32) → (Nat → Int32) → (Nat → Int32) → (Nat → Int32) → (Nat → Int32) → (Nat → Int32) → (Nat → Int64) → Prop} {seed share p : Nat} (hs : seed ≤ 6) (hh : share ≤ 7) (hp : p < n)
    (K : ∀ (N : Nat → Nat) (A : Nat → Int32), Gr n N → NR A N → (∀ a b, a < b → b < n → a < p + 1 → (mb (N a) b ↔ cw seed share a b = true)) → J (nI (p + 1)) (nI n) f_found f_bestSet f_bestWeight A a_weights a_list a_clique a_open a_gone a_tried a_bySize a_loose a_least a_ways) :
    ∀ d j, j + d = n → p < j → ∀ (N : Nat → Nat) (A : Nat → Int32), Gr n N → NR A N → (∀ a b, a < b → b < n → (a < p ∨ (a = p ∧ b < j)) → (mb (N a) b ↔ cw seed share a b = true)) → wX_weave_40 post J (nI seed) (nI share) (nI p) (d + 1) (nI j) (nI n) f_found f_bestSet f_bestWeight A a_weights a_list a_clique a_open a_gone a_tried a_bySize a_loose a_least a_ways := by
  intro d
  induction d with
  | zero =>
    intro j hj hpj N A G hN h
    have hn := G.2.1
    obtain rfl : j = n := by omega
    exact br_t (nI_le (Nat.le_refl _) (by omega)) (nm_r (nI_1 p) (K N A G hN (fun a b h1 h2 h3 => h a b h1 h2 (by omega))))
  | succ d ih =>
    intro j hj hpj N A G hN h
    have hn := G.2.1
    refine pk_le n j (fun z => absurd z (by omega)) (fun _ => ⟨by decide, ?_⟩)
    rw [cw_e (by omega) (by omega) hs]
    have go : ∀ z : Int32, z = (if cw seed share p j then 1 else 0) → wX_weave_81 post J (wX_weave_40 post J (nI seed) (nI share) (nI p) (d + 1)) (nI seed) (nI share) (nI p) (nI j) z (nI j) (nI p) (nI n) f_found f_bestSet f_bestWeight A a_weights a_list a_clique a_open a_gone a_tried a_bySize a_loose a_least a_ways := by
      intro z hz
      refine sp_w hN (by omega) (by omega) (by omega) hz (fun A' hA' => nm_r (nI_1 j) (ih (j + 1) (by omega) (by omega) _ A' (np_gr G _ hp (by omega) (by omega)) hA' (fun a b h1 h2 h3 => ?_)))
      rw [np_mb (by omega)]
      by_cases e : a = p ∧ b = j
      · constructor
        · rintro (y | y)
          · rw [e.1, e.2]; exact y.2
          · exact absurd (Or.inl e) y.1
        · intro y
          rw [e.1, e.2] at y
          exact Or.inl ⟨Or.inl e, y⟩
      · have no : ¬ ((a = p ∧ b = j) ∨ (a = j ∧ b = p)) := by omega
        rw [← h a b h1 h2 (by omega)]
        exact ⟨fun y => (y.resolve_left (fun v => no v.1)).2, fun y => Or.inr ⟨no, y⟩⟩
    have mlt := Nat.mod_lt (p * p + p * j + j * j + seed) (show 0 < 7 by omega)
    refine pk_le share ((p * p + p * j + j * j + seed) % 7) (fun z => go 0 ?_) (fun z => go 1 ?_)
    · have : cw seed share p j = false := decide_eq_false (by omega)
      rw [this]; rfl
    · have : cw seed share p j = true := decide_eq_true z
      rw [this]; rfl
theorem xw_lp2 {post : Int32 → SX → Prop} {seed share : Nat} (hs : seed ≤ 6) (hh : share ≤ 7)
    (K : ∀ (N : Nat → Nat) (A : Nat → Int32), Gr n N → NR A N → (∀ a b, a < b → b < n → (mb (N a) b ↔ cw seed share a b = true)) → post (nI (sm (fun p => pc (N p)) n / 2)) ((nI n), f_found, f_bestSet, f_bestWeight, A, a_weights, a_list, a_clique, a_open, a_gone, a_tried, a_bySize, a_loose, a_least, a_ways)) :
    ∀ d j, j + d = n → ∀ (N : Nat → Nat) (A : Nat → Int32), Gr n N → NR A N → (∀ a b, a < b → b < n → a < j → (mb (N a) b ↔ cw seed share a b = true)) → wX_weave_27 post (nI seed) (nI share) (d + 1) (nI j) (nI n) f_found f_bestSet f_bestWeight A a_weights a_list a_clique a_open a_gone a_tried a_bySize a_loose a_least a_ways := by
  intro d
  induction d with
  | zero =>
    intro j hj N A G hN h
    have hn := G.2.1
    obtain rfl : j = n := by omega
    exact br_t (nI_le (Nat.le_refl _) (by omega)) (pr_w G hN (K N A G hN (fun a b h1 h2 => h a b h1 h2 (by omega))))
  | succ d ih =>
    intro j hj N A G hN h
    have hn := G.2.1
    refine pk_le n j (fun z => absurd z (by omega)) (fun _ => nm_r (nI_1 j) ⟨n - (j + 1) + 1, ?_⟩)
    exact xw_lp1 hs hh (by omega) (fun N' A' G' hN' h' => ih (j + 1) (by omega) N' A' G' hN' h') (n - (j + 1)) (j + 1) (by omega) (by omega) N A G hN (fun a b h1 h2 h3 => h a b h1 h2 (by omega))
/-- the graph of what wasn't joined -/
def Iv (n : Nat) (N : Nat → Nat) : Nat → Nat := fun p => if p < n then nd (nd (2 ^ n - 1) (N p)) (2 ^ p) else 0
theorem iv_mb {n : Nat} {N : Nat → Nat} {p q : Nat} : mb (Iv n N p) q ↔ p < n ∧ q < n ∧ ¬ mb (N p) q ∧ q ≠ p := by
  unfold Iv
  by_cases e : p < n
  · rw [if_pos e, gb_nd, gb_nd, gb_al, gb_pw]
    exact ⟨fun h => ⟨e, h.1.1, h.1.2, h.2⟩, fun h => ⟨⟨h.2.1, h.2.2.1⟩, h.2.2.2⟩⟩
  · rw [if_neg e]
    exact ⟨fun h => absurd h gb_0, fun h => absurd h.1 e⟩
theorem iv_gr {n : Nat} {N : Nat → Nat} (G : Gr n N) : Gr n (Iv n N) := by
  refine ⟨G.1, G.2.1, fun p q h => ?_, fun p h => ?_, fun p q h => ?_⟩
  · rw [iv_mb] at h; exact ⟨h.1, h.2.1⟩
  · rw [iv_mb] at h; exact h.2.2.2 rfl
  · rw [iv_mb] at h ⊢
    exact ⟨h.2.1, h.1, fun y => h.2.2.1 (G.2.2.2.2 _ _ y), fun e => h.2.2.2 e.symm⟩
theorem xi_lp {post : Int32 → SX → Prop} (G : Gr n N) (hN : NR a_near N) (K : ∀ A, NR A (Iv n N) → post (nI (sm (fun p => pc (Iv n N p)) n / 2)) ((nI n), f_found, f_bestSet, f_bestWeight, A, a_weights, a_list, a_clique, a_open, a_gone, a_tried, a_bySize, a_loose, a_least, a_ways)) :
    ∀ d j, j + d = n → ∀ A : Nat → Int32, (∀ p, p < 9 → A p = nI (if p < j then Iv n N p else N p)) → wX_invert_2 post (nI n) f_found f_bestSet f_bestWeight (d + 1) (nI j) A a_weights a_list a_clique a_open a_gone a_tried a_bySize a_loose a_least a_ways := by
  have hn := G.2.1
  intro d
  induction d with
  | zero =>
    intro j hj A h
    obtain rfl : j = n := by omega
    have hA : NR A (Iv j N) := by
      intro p hp
      rw [h p hp]
      by_cases e : p < j
      · rw [if_pos e]
      · rw [if_neg e]
        have e1 : N p = 0 := gb_z (fun q hq => by have := (G.2.2.1 p q hq).1; omega)
        have e2 : Iv j N p = 0 := if_neg e
        rw [e1, e2]
    exact br_t (nI_le (Nat.le_refl _) (by omega)) (pr_w (iv_gr G) hA (K A hA))
  | succ d ih =>
    intro j hj A h
    refine pk_le n j (fun z => absurd z (by omega)) (fun _ => ⟨vp_in_nI (by omega) (by omega), vp_in_nI (by omega) (by omega), ?_⟩)
    rw [nI_clamp (n := j) (by omega), h j (by omega), if_neg (Nat.lt_irrefl j), cv_all (by omega), cv_bit (by omega), cv_nd, cv_nd]
    refine nm_e (nm_r (nI_1 j) (ih (j + 1) (by omega) _ (fun p hp => ?_)))
    by_cases e : p = j
    · subst e
      rw [pk_us, if_pos (by omega)]
      unfold Iv
      rw [if_pos (by omega)]
    · rw [pk_un e, h p hp]
      by_cases e2 : p < j
      · rw [if_pos e2, if_pos (by omega)]
      · rw [if_neg e2, if_neg (by omega)]
end
end
section
/-! Y: joining, weaving, inverting -/
theorem tr_v {s q : Nat} {v : Int32} (h1 : mb s q → v = 1) (h0 : ¬ mb s q → v = 0) : v = nI (if s.testBit q then 1 else 0) := by
  by_cases h : mb s q
  · rw [h1 h, if_pos (mb_t h)]; rfl
  · rw [h0 h, if_neg (mb_f h)]; rfl
theorem tj_tr {b : Nat → Int32} {N : Nat → Nat} (hT : TR b N) {p q : Nat} {f : Bool} (hp : p < 9) (hq : q < 9) (hpq : p ≠ q) {v : Int32} (hv : v = if f then 1 else 0) : TR (upd (upd b (9 * p + q) v) (9 * q + p) v) (Np N p q f) := by
  intro r x hr hx
  have vt : f = true → v = 1 := fun h => by rw [hv, if_pos h]
  have vf : ¬ f = true → v = 0 := fun h => by rw [hv, if_neg h]
  by_cases e1 : r = q ∧ x = p
  · obtain ⟨rfl, rfl⟩ := e1
    rw [pk_us]
    refine tr_v (fun h => ?_) (fun h => ?_)
    · rw [np_mb hpq] at h
      rcases h with h | h
      · exact vt h.2
      · exact absurd (Or.inr ⟨rfl, rfl⟩) h.1
    · exact vf (fun y => h ((np_mb hpq).mpr (Or.inl ⟨Or.inr ⟨rfl, rfl⟩, y⟩)))
  · rw [pk_un (by omega)]
    by_cases e2 : r = p ∧ x = q
    · obtain ⟨rfl, rfl⟩ := e2
      rw [pk_us]
      refine tr_v (fun h => ?_) (fun h => ?_)
      · rw [np_mb hpq] at h
        rcases h with h | h
        · exact vt h.2
        · exact absurd (Or.inl ⟨rfl, rfl⟩) h.1
      · exact vf (fun y => h ((np_mb hpq).mpr (Or.inl ⟨Or.inl ⟨rfl, rfl⟩, y⟩)))
    · rw [pk_un (by omega)]
      have no : ¬ ((r = p ∧ x = q) ∨ (r = q ∧ x = p)) := fun h => h.elim e2 e1
      refine tr_v (fun h => (tr_1 hT hr hx).mpr ?_) (fun h => (tr_0 hT hr hx).mpr ?_)
      · rw [np_mb hpq] at h
        exact (h.resolve_left (fun y => no y.1)).2
      · exact fun y => h ((np_mb hpq).mpr (Or.inr ⟨no, y⟩))
/-- rows below p, and of row p the places below j, are new -/
def YI (b : Nat → Int32) (n : Nat) (new : Nat → Nat → Prop) (p j : Nat) (T : Nat → Int32) : Prop := ∀ a c, a < 9 → c < 9 → ((c < n ∧ (a < p ∨ (a = p ∧ c < j))) → T (9 * a + c) = nI (b01 (new a c))) ∧ (¬ (c < n ∧ (a < p ∨ (a = p ∧ c < j))) → T (9 * a + c) = b (9 * a + c))
theorem yi_0 {b : Nat → Int32} {n : Nat} {new : Nat → Nat → Prop} : YI b n new 0 0 b := fun a c _ _ => ⟨fun h => absurd h (by omega), fun _ => rfl⟩
theorem yi_row {b : Nat → Int32} {n : Nat} {new : Nat → Nat → Prop} {p : Nat} {T : Nat → Int32} (h : YI b n new p n T) : YI b n new (p + 1) 0 T :=
  fun a c ha hc => ⟨fun g => (h a c ha hc).1 (by omega), fun g => (h a c ha hc).2 (by omega)⟩
theorem yi_put {b : Nat → Int32} {n : Nat} {new : Nat → Nat → Prop} {p j : Nat} {T : Nat → Int32} {v : Int32} (h : YI b n new p j T) (hp : p < 9) (hj : j < n) (hn : n ≤ 9) (hv : v = nI (b01 (new p j))) : YI b n new p (j + 1) (upd T (9 * p + j) v) := by
  intro a c ha hc
  by_cases e : a = p ∧ c = j
  · obtain ⟨rfl, rfl⟩ := e
    exact ⟨fun _ => by rw [pk_us]; exact hv, fun g => absurd ⟨hj, Or.inr ⟨rfl, by omega⟩⟩ g⟩
  · rw [pk_un (by omega)]
    exact ⟨fun g => (h a c ha hc).1 (by omega), fun g => (h a c ha hc).2 (by omega)⟩
theorem yi_tr {b : Nat → Int32} {n : Nat} {new : Nat → Nat → Prop} {T : Nat → Int32} {N N' : Nat → Nat} (h : YI b n new n 0 T) (hT : TR b N) (G : Gr n N) (G' : Gr n N') (hnew : ∀ a c, a < n → c < n → (new a c ↔ mb (N' a) c)) : TR T N' := by
  intro a c ha hc
  by_cases e : a < n ∧ c < n
  · rw [(h a c ha hc).1 (by omega)]
    exact tr_v (fun y => cv_bz ((hnew a c e.1 e.2).mpr y)) (fun y => cv_bf (fun z => y ((hnew a c e.1 e.2).mp z)))
  · rw [(h a c ha hc).2 (by omega)]
    refine tr_v (fun y => absurd (G'.2.2.1 a c y) e) (fun _ => (tr_0 hT ha hc).mpr (fun y => e (G.2.2.1 a c y)))
section
variable {b_tied b_weight b_ways b_past b_apart : Nat → Int32}
variable {n : Nat} {N w : Nat → Nat}
theorem yj_w {post : Int32 → SY → Prop} (G : Gr n N) (hT : TR b_tied N) {p q : Nat} (hp : p < n) (hq : q < n) (hpq : p ≠ q) {z : Int32}
    (K : ∀ T, TR T (Np N p q (decide (z ≠ 0))) → post (nI (if (N p).testBit q then 1 else 0)) ((nI n), T, b_weight, b_ways, b_past, b_apart)) : wpY_join post ((nI n), b_tied, b_weight, b_ways, b_past, b_apart) (nI p) (nI q) z := by
  have hn := G.2.1
  unfold wpY_join
  refine bd_yes hn hp ?_
  refine br_t rfl ?_
  refine bd_yes hn hq ?_
  refine br_t rfl (br_f (fun e => hpq ((nI_eq (by omega) (by omega)).mp e)) ?_)
  rw [cv_9, nI_clamp (n := 9 * p + q) (by omega)]
  refine ⟨vp_in_nI (by omega) (by omega), ?_⟩
  have go : ∀ o : Int32, o = nI (if (N p).testBit q then 1 else 0) → wY_join_45 post (nI p) (nI q) z o (nI n) b_tied b_weight b_ways b_past b_apart := by
    intro o ho
    unfold wY_join_45
    rw [cv_9]
    by_cases e : z = 0
    · have tr := tj_tr hT (f := decide (z ≠ 0)) (v := 0) (by omega) (by omega) hpq (by rw [decide_eq_false (fun h => h e)]; rfl)
      have fin := K _ tr
      rw [← ho] at fin
      refine br_t e ⟨vp_in_nI (by omega) (by omega), nm_r (e' := upd b_tied (9 * p + q) 0) (by rw [nI_clamp (n := 9 * p + q) (by omega)]; rfl) (br_t e ?_)⟩
      rw [cv_9]
      exact ⟨vp_in_nI (by omega) (by omega), nm_r (e' := upd (upd b_tied (9 * p + q) 0) (9 * q + p) 0) (by rw [nI_clamp (n := 9 * q + p) (by omega)]; rfl) fin⟩
    · have tr := tj_tr hT (f := decide (z ≠ 0)) (v := 1) (by omega) (by omega) hpq (by rw [decide_eq_true e]; rfl)
      have fin := K _ tr
      rw [← ho] at fin
      refine br_f e ⟨vp_in_nI (by omega) (by omega), nm_r (e' := upd b_tied (9 * p + q) 1) (by rw [nI_clamp (n := 9 * p + q) (by omega)]; rfl) (br_f e ?_)⟩
      rw [cv_9]
      exact ⟨vp_in_nI (by omega) (by omega), nm_r (e' := upd (upd b_tied (9 * p + q) 1) (9 * q + p) 1) (by rw [nI_clamp (n := 9 * q + p) (by omega)]; rfl) fin⟩
  by_cases e : mb (N p) q
  · exact br_f (fun y => (tr_0 hT (by omega) (by omega)).mp y e) (go 1 (tr_v (fun _ => rfl) (fun y => absurd e y)))
  · exact br_t ((tr_0 hT (by omega) (by omega)).mpr e) (go 0 (tr_v (fun y => absurd y e) (fun _ => rfl)))
theorem yw_lp1 {post : Int32 → SY → Prop} {J : Int32 → (Nat → Int32) → (Nat → Int32) → (Nat → Int32) → (Nat → Int32) → (Nat → Int32) → Prop} (hn : n ≤ 9) {seed share p : Nat} (hs : seed ≤ 6) (hh : share ≤ 7) (hp : p < n)
    (K : ∀ T, YI b_tied n (fun a c => a ≠ c ∧ cw seed share a c = true) p n T → J (nI (p + 1)) T b_weight b_ways b_past b_apart) :
    ∀ d j, j + d = n → ∀ T, YI b_tied n (fun a c => a ≠ c ∧ cw seed share a c = true) p j T → wY_weave_38 post J (nI seed) (nI share) (nI p) (nI n) (d + 1) (nI j) T b_weight b_ways b_past b_apart := by
  intro d
  induction d with
  | zero =>
    intro j hj T h
    obtain rfl : j = n := by omega
    exact br_t (nI_le (Nat.le_refl _) (by omega)) (nm_r (nI_1 p) (K T h))
  | succ d ih =>
    intro j hj T h
    have put : ∀ v : Int32, v = nI (b01 (p ≠ j ∧ cw seed share p j = true)) → wY_weave_38 post J (nI seed) (nI share) (nI p) (nI n) (d + 1) (nI (j + 1)) (upd T (9 * p + j) v) b_weight b_ways b_past b_apart :=
      fun v hv => ih (j + 1) (by omega) _ (yi_put h (by omega) (by omega) hn hv)
    refine pk_le n j (fun z => absurd z (by omega)) (fun _ => ?_)
    rw [cv_9, nI_clamp (n := 9 * p + j) (by omega)]
    refine pk_eq p j (fun e => ⟨vp_in_nI (by omega) (by omega), nm_e (nm_r (nI_1 j) (put 0 (cv_bf (fun y => y.1 e)).symm))⟩) (fun e => ⟨by decide, ?_⟩)
    rw [cw_e (by omega) (by omega) hs]
    have mlt := Nat.mod_lt (p * p + p * j + j * j + seed) (show 0 < 7 by omega)
    refine pk_le share ((p * p + p * j + j * j + seed) % 7) (fun z => ⟨vp_in_nI (by omega) (by omega), nm_e (nm_r (nI_1 j) (put 0 (cv_bf (fun y => ?_)).symm))⟩) (fun z => ⟨vp_in_nI (by omega) (by omega), nm_e (nm_r (nI_1 j) (put 1 (cv_bz ⟨e, decide_eq_true z⟩).symm))⟩)
    have := of_decide_eq_true y.2
    omega
theorem yw_lp2 {post : Int32 → SY → Prop} (hn : n ≤ 9) {seed share : Nat} (hs : seed ≤ 6) (hh : share ≤ 7)
    (K : ∀ T, YI b_tied n (fun a c => a ≠ c ∧ cw seed share a c = true) n 0 T → wpY_pairs (fun r => post r ((nI n), T, b_weight, b_ways, b_past, b_apart)) ((nI n), T, b_weight, b_ways, b_past, b_apart)) :
    ∀ d j, j + d = n → ∀ T, YI b_tied n (fun a c => a ≠ c ∧ cw seed share a c = true) j 0 T → wY_weave_27 post (nI seed) (nI share) (nI n) (d + 1) (nI j) T b_weight b_ways b_past b_apart := by
  intro d
  induction d with
  | zero =>
    intro j hj T h
    obtain rfl : j = n := by omega
    exact br_t (nI_le (Nat.le_refl _) (by omega)) (K T h)
  | succ d ih =>
    intro j hj T h
    refine pk_le n j (fun z => absurd z (by omega)) (fun _ => ⟨n + 1, ?_⟩)
    exact yw_lp1 hn hs hh (by omega) (fun T' h' => ih (j + 1) (by omega) T' (yi_row h')) n 0 (Nat.zero_add n) T h
theorem yv_lp1 {post : Int32 → SY → Prop} {J : Int32 → (Nat → Int32) → (Nat → Int32) → (Nat → Int32) → (Nat → Int32) → (Nat → Int32) → Prop} (hn : n ≤ 9) (hT : TR b_tied N) {p : Nat} (hp : p < n)
    (K : ∀ T, YI b_tied n (fun a c => a ≠ c ∧ ¬ mb (N a) c) p n T → J (nI (p + 1)) T b_weight b_ways b_past b_apart) :
    ∀ d j, j + d = n → ∀ T, YI b_tied n (fun a c => a ≠ c ∧ ¬ mb (N a) c) p j T → wY_invert_12 post J (nI p) (nI n) (d + 1) (nI j) T b_weight b_ways b_past b_apart := by
  intro d
  induction d with
  | zero =>
    intro j hj T h
    obtain rfl : j = n := by omega
    exact br_t (nI_le (Nat.le_refl _) (by omega)) (nm_r (nI_1 p) (K T h))
  | succ d ih =>
    intro j hj T h
    have put : ∀ v : Int32, v = nI (b01 (p ≠ j ∧ ¬ mb (N p) j)) → wY_invert_12 post J (nI p) (nI n) (d + 1) (nI (j + 1)) (upd T (9 * p + j) v) b_weight b_ways b_past b_apart :=
      fun v hv => ih (j + 1) (by omega) _ (yi_put h (by omega) (by omega) hn hv)
    refine pk_le n j (fun z => absurd z (by omega)) (fun _ => ?_)
    rw [cv_9, nI_clamp (n := 9 * p + j) (by omega)]
    refine pk_eq p j (fun e => ⟨vp_in_nI (by omega) (by omega), nm_e (nm_r (nI_1 j) (put 0 (cv_bf (fun y => y.1 e)).symm))⟩) (fun e => ⟨vp_in_nI (by omega) (by omega), ?_⟩)
    rw [(h p j (by omega) (by omega)).2 (by omega)]
    by_cases z : mb (N p) j
    · exact br_f (fun y => (tr_0 hT (by omega) (by omega)).mp y z) ⟨vp_in_nI (by omega) (by omega), nm_e (nm_r (nI_1 j) (put 0 (cv_bf (fun y => y.2 z)).symm))⟩
    · exact br_t ((tr_0 hT (by omega) (by omega)).mpr z) ⟨vp_in_nI (by omega) (by omega), nm_e (nm_r (nI_1 j) (put 1 (cv_bz ⟨e, z⟩).symm))⟩
theorem yv_lp2 {post : Int32 → SY → Prop} (hn : n ≤ 9) (hT : TR b_tied N)
    (K : ∀ T, YI b_tied n (fun a c => a ≠ c ∧ ¬ mb (N a) c) n 0 T → wpY_pairs (fun r => post r ((nI n), T, b_weight, b_ways, b_past, b_apart)) ((nI n), T, b_weight, b_ways, b_past, b_apart)) :
    ∀ d j, j + d = n → ∀ T, YI b_tied n (fun a c => a ≠ c ∧ ¬ mb (N a) c) j 0 T → wY_invert_2 post (nI n) (d + 1) (nI j) T b_weight b_ways b_past b_apart := by
  intro d
  induction d with
  | zero =>
    intro j hj T h
    obtain rfl : j = n := by omega
    exact br_t (nI_le (Nat.le_refl _) (by omega)) (K T h)
  | succ d ih =>
    intro j hj T h
    refine pk_le n j (fun z => absurd z (by omega)) (fun _ => ⟨n + 1, ?_⟩)
    exact yv_lp1 hn hT (by omega) (fun T' h' => ih (j + 1) (by omega) T' (yi_row h')) n 0 (Nat.zero_add n) T h
end
end
section
/-! the methods by their outer names -/
section
variable {f_found f_bestSet f_bestWeight : Int32} {a_near a_weights a_list a_clique a_open a_gone a_tried a_bySize a_loose a_least : Nat → Int32} {a_ways : Nat → Int64}
variable {n : Nat} {N w : Nat → Nat}
theorem xj_bad {post : Int32 → SX → Prop} (hn : n ≤ 9) {p q z : Int32} (h : (p < 0 ∨ nI n ≤ p) ∨ (q < 0 ∨ nI n ≤ q)) (K : post (-1) ((nI n), f_found, f_bestSet, f_bestWeight, a_near, a_weights, a_list, a_clique, a_open, a_gone, a_tried, a_bySize, a_loose, a_least, a_ways)) : wpX_join post ((nI n), f_found, f_bestSet, f_bestWeight, a_near, a_weights, a_list, a_clique, a_open, a_gone, a_tried, a_bySize, a_loose, a_least, a_ways) p q z := by
  unfold wpX_join
  rcases pk_ix p (n := n) (by omega) with e | e | ⟨j, hj, rfl⟩
  · refine ip_no (Or.inl e) ?_
    exact br_t rfl K
  · refine ip_no (Or.inr e) ?_
    exact br_t rfl K
  · refine ip_yes hn hj ?_
    refine br_f (by decide) ?_
    refine ip_no (h.resolve_left (fun y => y.elim (nI_pos (by omega)) (nI_ge hj (by omega)))) ?_
    exact br_t rfl K
theorem xj_eq {post : Int32 → SX → Prop} (hn : n ≤ 9) {j : Nat} (hj : j < n) {z : Int32} (K : post (-2) ((nI n), f_found, f_bestSet, f_bestWeight, a_near, a_weights, a_list, a_clique, a_open, a_gone, a_tried, a_bySize, a_loose, a_least, a_ways)) : wpX_join post ((nI n), f_found, f_bestSet, f_bestWeight, a_near, a_weights, a_list, a_clique, a_open, a_gone, a_tried, a_bySize, a_loose, a_least, a_ways) (nI j) (nI j) z := by
  unfold wpX_join
  refine ip_yes hn hj ?_
  refine br_f (by decide) ?_
  refine ip_yes hn hj ?_
  exact br_f (by decide) (br_t rfl K)
theorem xg_bad {post : Int32 → SX → Prop} {p x : Int32} (h : p < 0 ∨ nI n ≤ p) (K : post (-1) ((nI n), f_found, f_bestSet, f_bestWeight, a_near, a_weights, a_list, a_clique, a_open, a_gone, a_tried, a_bySize, a_loose, a_least, a_ways)) : wpX_weigh post ((nI n), f_found, f_bestSet, f_bestWeight, a_near, a_weights, a_list, a_clique, a_open, a_gone, a_tried, a_bySize, a_loose, a_least, a_ways) p x := by
  unfold wpX_weigh
  refine ip_no h ?_
  exact br_t rfl K
theorem xg_rng {post : Int32 → SX → Prop} (hn : n ≤ 9) {j : Nat} (hj : j < n) {x : Int32} (h : x < 1 ∨ ¬ x ≤ 20) (K : post (-2) ((nI n), f_found, f_bestSet, f_bestWeight, a_near, a_weights, a_list, a_clique, a_open, a_gone, a_tried, a_bySize, a_loose, a_least, a_ways)) : wpX_weigh post ((nI n), f_found, f_bestSet, f_bestWeight, a_near, a_weights, a_list, a_clique, a_open, a_gone, a_tried, a_bySize, a_loose, a_least, a_ways) (nI j) x := by
  unfold wpX_weigh
  refine ip_yes hn hj ?_
  refine br_f (by decide) ?_
  by_cases e : x < 1
  · exact br_t e K
  · exact br_f e (br_f (h.resolve_left e) K)
theorem xg_ok {post : Int32 → SX → Prop} (hn : n ≤ 9) (hW : WR a_weights w) {j : Nat} (hj : j < n) {x : Nat} (h1 : 1 ≤ x) (h2 : x ≤ 20) (K : post (nI (w j)) ((nI n), f_found, f_bestSet, f_bestWeight, a_near, (upd a_weights j (nI x)), a_list, a_clique, a_open, a_gone, a_tried, a_bySize, a_loose, a_least, a_ways)) : wpX_weigh post ((nI n), f_found, f_bestSet, f_bestWeight, a_near, a_weights, a_list, a_clique, a_open, a_gone, a_tried, a_bySize, a_loose, a_least, a_ways) (nI j) (nI x) := by
  unfold wpX_weigh
  refine ip_yes hn hj ?_
  refine br_f (by decide) (br_f (nI_nlt (b := 1) h1 (by omega)) (br_t (nI_le (b := 20) h2 (by decide)) ⟨vp_in_nI (by omega) (by omega), ?_⟩))
  rw [nI_clamp (n := j) (by omega), (hW j (by omega)).1]
  exact nm_e ⟨vp_in_nI (by omega) (by omega), nm_e K⟩
theorem wr_upd {a : Nat → Int32} {w : Nat → Nat} (hW : WR a w) {j x : Nat} (h1 : 1 ≤ x) (h2 : x ≤ 20) : WR (upd a j (nI x)) (fun p => if p = j then x else w p) := by
  intro p hp
  show upd a j (nI x) p = nI (if p = j then x else w p) ∧ 1 ≤ (if p = j then x else w p) ∧ (if p = j then x else w p) ≤ 20
  by_cases e : p = j
  · subst e; rw [pk_us, if_pos rfl]; exact ⟨rfl, h1, h2⟩
  · rw [pk_un e, if_neg e]; exact hW p hp
theorem xt_bad {post : Int32 → Prop} {p : Int32} (h : p < 0 ∨ nI n ≤ p) (K : post (-1)) : wpX_joinedTo post ((nI n), f_found, f_bestSet, f_bestWeight, a_near, a_weights, a_list, a_clique, a_open, a_gone, a_tried, a_bySize, a_loose, a_least, a_ways) p := by
  unfold wpX_joinedTo
  refine ip_no h ?_
  exact br_t rfl K
theorem xt_ok {post : Int32 → Prop} (hn : n ≤ 9) (hN : NR a_near N) {j : Nat} (hj : j < n) (K : post (nI (N j))) : wpX_joinedTo post ((nI n), f_found, f_bestSet, f_bestWeight, a_near, a_weights, a_list, a_clique, a_open, a_gone, a_tried, a_bySize, a_loose, a_least, a_ways) (nI j) := by
  unfold wpX_joinedTo
  refine ip_yes hn hj ?_
  refine br_f (by decide) ⟨vp_in_nI (by omega) (by omega), ?_⟩
  rw [nI_clamp (n := j) (by omega), hN j (by omega)]; exact K
theorem xc_bad {post : Int32 → Prop} (hn : n ≤ 9) {s : Int32} (h : s < 0 ∨ nI (2 ^ n) ≤ s) (K : post (-1)) : wpX_isClique post ((nI n), f_found, f_bestSet, f_bestWeight, a_near, a_weights, a_list, a_clique, a_open, a_gone, a_tried, a_bySize, a_loose, a_least, a_ways) s := by
  unfold wpX_isClique
  refine is_no hn h ?_
  exact br_t rfl K
theorem xc_ok {post : Int32 → Prop} (G : Gr n N) (hN : NR a_near N) {s : Nat} (hs : s < 2 ^ n) (K1 : Cq N s → post 1) (K0 : ¬ Cq N s → post 0) : wpX_isClique post ((nI n), f_found, f_bestSet, f_bestWeight, a_near, a_weights, a_list, a_clique, a_open, a_gone, a_tried, a_bySize, a_loose, a_least, a_ways) (nI s) := by
  unfold wpX_isClique
  refine is_yes G.2.1 hs ?_
  refine br_f (by decide) ?_
  exact ti_w G hN hs (fun h => br_f (by decide) (K1 h)) (fun h => br_t rfl (K0 h))
theorem xf_w {post : Int32 → SX → Prop} (G : Gr n N) (hN : NR a_near N)
    (K : ∀ (c : Nat) (l : Nat → Nat) (i' k' o' g' r' : Nat → Int32), SL (fun s => s < 2 ^ n ∧ Fl n N s) c l → post (nI c) ((nI n), (nI c), f_bestSet, f_bestWeight, a_near, a_weights, i', k', o', g', r', a_bySize, a_loose, a_least, a_ways)) :
    wpX_fullCliques post ((nI n), f_found, f_bestSet, f_bestWeight, a_near, a_weights, a_list, a_clique, a_open, a_gone, a_tried, a_bySize, a_loose, a_least, a_ways) := by
  unfold wpX_fullCliques
  refine lf_w G hN ?_
  intro c l i' k' o' g' r' h _ _
  exact K c l i' k' o' g' r' h
theorem xu_w {post : Int32 → SX → Prop} (G : Gr n N) (hN : NR a_near N) {v : Int32}
    (K0 : ∀ (c : Nat) (l : Nat → Nat) (i' k' o' g' r' : Nat → Int32), SL (fun s => s < 2 ^ n ∧ Fl n N s) c l → (∀ i, i < c → v ≠ nI i) → post (-1) ((nI n), (nI c), f_bestSet, f_bestWeight, a_near, a_weights, i', k', o', g', r', a_bySize, a_loose, a_least, a_ways))
    (K1 : ∀ (c : Nat) (l : Nat → Nat) (i' k' o' g' r' : Nat → Int32), SL (fun s => s < 2 ^ n ∧ Fl n N s) c l → ∀ i, i < c → i < 32 → v = nI i → post (nI (l i)) ((nI n), (nI c), f_bestSet, f_bestWeight, a_near, a_weights, i', k', o', g', r', a_bySize, a_loose, a_least, a_ways)) :
    wpX_full post ((nI n), f_found, f_bestSet, f_bestWeight, a_near, a_weights, a_list, a_clique, a_open, a_gone, a_tried, a_bySize, a_loose, a_least, a_ways) v := by
  unfold wpX_full
  refine lf_w G hN ?_
  intro c l i' k' o' g' r' h hL hc
  by_cases e : v < 0
  · exact br_t e (K0 c l i' k' o' g' r' h (fun i hi y => nI_pos (n := i) (by omega) (y ▸ e)))
  · refine br_f e ?_
    by_cases e2 : nI c ≤ v
    · refine br_t e2 (K0 c l i' k' o' g' r' h (fun i hi y => nI_ge hi (by omega) (y ▸ e2)))
    · obtain ⟨j, hj, rfl⟩ := nI_of e
      have hjc : j < c := by
        rcases Nat.lt_or_ge j c with z | z
        · exact z
        · exact absurd (nI_le z hj) e2
      refine br_f e2 ⟨vp_in_nI (by omega) (by omega), ?_⟩
      rw [nI_clamp (n := j) (by omega), hL j hjc]
      exact K1 c l i' k' o' g' r' h j hjc (by omega) rfl
theorem xs_lp {post : Int32 → SX → Prop} (hb : ∀ k, k < 10 → a_bySize k = nI (cn (Cz n N k) 512)) (hn : n ≤ 9) (K : ∀ v, Gt N pc (2 ^ n) v → post (nI v) ((nI n), f_found, f_bestSet, f_bestWeight, a_near, a_weights, a_list, a_clique, a_open, a_gone, a_tried, a_bySize, a_loose, a_least, a_ways)) :
    ∀ j, j < 10 → (∀ k, j < k → k < 10 → ∀ s, s < 512 → ¬ Cz n N k s) → wX_size_7 post (nI n) f_found f_bestSet f_bestWeight a_near a_weights a_list a_clique a_open a_gone a_tried a_bySize a_loose a_least a_ways (j + 1) (nI j) := by
  have b2 := gb_p2 hn
  have up : ∀ j, (∀ k, j < k → k < 10 → ∀ s, s < 512 → ¬ Cz n N k s) → ∀ s, s < 2 ^ n → Cq N s → pc s ≤ j := by
    intro j h s hs hc
    rcases Nat.lt_or_ge j (pc s) with z | z
    · exact absurd ⟨⟨hs, hc⟩, rfl⟩ (h (pc s) z (by have := pc_9 s; omega) s (by omega))
    · exact z
  intro j
  induction j with
  | zero =>
    intro _ h
    exact br_t (by decide) (K 0 ⟨up 0 h, Or.inl rfl⟩)
  | succ j ih =>
    intro hj h
    refine br_f (nI_nle (by omega) (by omega)) ⟨vp_in_nI (by omega) (by omega), ?_⟩
    have c512 := cn_le (Cz n N (j + 1)) 512
    rw [nI_clamp (n := j + 1) (by omega), hb (j + 1) hj]
    by_cases z : cn (Cz n N (j + 1)) 512 = 0
    · rw [z]
      refine br_t rfl (nm_r (pk_m1 j) (ih (by omega) (fun k h1 h2 s hs hc => ?_)))
      by_cases e : k = j + 1
      · subst e
        have := cn_pos (P := Cz n N (j + 1)) hs hc
        omega
      · exact h k (by omega) h2 s hs hc
    · refine br_f (nI_ne0 (by omega) (by omega)) (K (j + 1) ⟨up (j + 1) h, ?_⟩)
      obtain ⟨s, hs, hc⟩ := cn_ex z
      exact Or.inr ⟨s, hc.1.1, hc.1.2, hc.2⟩
theorem xs_w {post : Int32 → SX → Prop} (G : Gr n N) (hN : NR a_near N) (K : ∀ (v : Nat) (o' b' : Nat → Int32), Gt N pc (2 ^ n) v → post (nI v) ((nI n), f_found, f_bestSet, f_bestWeight, a_near, a_weights, a_list, a_clique, o', a_gone, a_tried, b', a_loose, a_least, a_ways)) : wpX_size post ((nI n), f_found, f_bestSet, f_bestWeight, a_near, a_weights, a_list, a_clique, a_open, a_gone, a_tried, a_bySize, a_loose, a_least, a_ways) := by
  unfold wpX_size
  refine cs_w G hN ?_
  intro o' b' hb
  exact ⟨10, xs_lp hb G.2.1 (fun v h => K v o' b' h) 9 (by omega) (fun k h1 h2 => absurd h2 (by omega))⟩
theorem xh_w {post : Int32 → SX → Prop} (G : Gr n N) (hN : NR a_near N) (hW : WR a_weights w)
    (K : ∀ (b : Nat) (c' o' : Nat → Int32), Bst w (Cd N 0 (2 ^ n)) b → post (nI (wt w b)) ((nI n), f_found, (nI b), (nI (wt w b)), a_near, a_weights, a_list, c', o', a_gone, a_tried, a_bySize, a_loose, a_least, a_ways)) : wpX_heaviest post ((nI n), f_found, f_bestSet, f_bestWeight, a_near, a_weights, a_list, a_clique, a_open, a_gone, a_tried, a_bySize, a_loose, a_least, a_ways) := by
  unfold wpX_heaviest
  refine se_w (x := 0) G hN hW (Nat.two_pow_pos n) (cq_0 N) ?_
  intro b c' o' _ h
  exact K b c' o' h
theorem xb_w {post : Int32 → SX → Prop} (G : Gr n N) (hN : NR a_near N) (hW : WR a_weights w)
    (K : ∀ (b : Nat) (c' o' : Nat → Int32), Bst w (Cd N 0 (2 ^ n)) b → post (nI b) ((nI n), f_found, (nI b), (nI (wt w b)), a_near, a_weights, a_list, c', o', a_gone, a_tried, a_bySize, a_loose, a_least, a_ways)) : wpX_best post ((nI n), f_found, f_bestSet, f_bestWeight, a_near, a_weights, a_list, a_clique, a_open, a_gone, a_tried, a_bySize, a_loose, a_least, a_ways) := by
  unfold wpX_best
  refine se_w (x := 0) G hN hW (Nat.two_pow_pos n) (cq_0 N) ?_
  intro b c' o' _ h
  exact K b c' o' h
theorem xbw_bad {post : Int32 → SX → Prop} (hn : n ≤ 9) {s : Int32} (h : s < 0 ∨ nI (2 ^ n) ≤ s) (K : post (-1) ((nI n), f_found, f_bestSet, f_bestWeight, a_near, a_weights, a_list, a_clique, a_open, a_gone, a_tried, a_bySize, a_loose, a_least, a_ways)) : wpX_bestWith post ((nI n), f_found, f_bestSet, f_bestWeight, a_near, a_weights, a_list, a_clique, a_open, a_gone, a_tried, a_bySize, a_loose, a_least, a_ways) s := by
  unfold wpX_bestWith
  refine is_no hn h ?_
  exact br_t rfl K
theorem xbw_ok {post : Int32 → SX → Prop} (G : Gr n N) (hN : NR a_near N) (hW : WR a_weights w) {x : Nat} (hx : x < 2 ^ n)
    (K0 : ¬ Cq N x → post (-2) ((nI n), f_found, f_bestSet, f_bestWeight, a_near, a_weights, a_list, a_clique, a_open, a_gone, a_tried, a_bySize, a_loose, a_least, a_ways))
    (K : ∀ (b : Nat) (c' o' : Nat → Int32), Cq N x → Bst w (Cd N x (2 ^ n)) b → post (nI b) ((nI n), f_found, (nI b), (nI (wt w b)), a_near, a_weights, a_list, c', o', a_gone, a_tried, a_bySize, a_loose, a_least, a_ways)) : wpX_bestWith post ((nI n), f_found, f_bestSet, f_bestWeight, a_near, a_weights, a_list, a_clique, a_open, a_gone, a_tried, a_bySize, a_loose, a_least, a_ways) (nI x) := by
  unfold wpX_bestWith
  refine is_yes G.2.1 hx ?_
  refine br_f (by decide) ?_
  refine ti_w G hN hx (fun h => br_f (by decide) ?_) (fun h => br_t rfl (K0 h))
  refine se_w G hN hW hx h ?_
  intro b c' o' _ hb
  exact K b c' o' h hb
theorem xo_w {post : Int32 → SX → Prop} (G : Gr n N) (hN : NR a_near N)
    (K : ∀ (m : Nat) (lo le : Nat → Int32), Lst N (2 ^ n - 1) m → post (nI m) ((nI n), f_found, f_bestSet, f_bestWeight, a_near, a_weights, a_list, a_clique, a_open, a_gone, a_tried, a_bySize, lo, le, a_ways)) : wpX_colours post ((nI n), f_found, f_bestSet, f_bestWeight, a_near, a_weights, a_list, a_clique, a_open, a_gone, a_tried, a_bySize, a_loose, a_least, a_ways) := by
  have hn := G.2.1
  have b2 := gb_p2 hn
  have b0 := Nat.two_pow_pos n
  unfold wpX_colours
  refine fl_w G hN ?_
  intro lo le _ h
  obtain ⟨m, _, g2, g3⟩ := h (2 ^ n - 1) (by omega)
  have fin := K m lo le g3
  rw [← g2] at fin
  dsimp only
  rw [cv_all (by omega)]
  refine ⟨vp_in_nI (by omega) (by omega), ?_⟩
  rw [nI_clamp (n := 2 ^ n - 1) (by omega)]
  exact fin
theorem xcg_w {post : Int32 → SX → Prop} (G : Gr n N) (hN : NR a_near N) {k : Nat} (hk : k ≤ 4)
    (K : ∀ (lo le : Nat → Int32) (W : Nat → Int64), post (nI (Wf N k (2 ^ n - 1))) ((nI n), f_found, f_bestSet, f_bestWeight, a_near, a_weights, a_list, a_clique, a_open, a_gone, a_tried, a_bySize, lo, le, W)) : wpX_colourings post ((nI n), f_found, f_bestSet, f_bestWeight, a_near, a_weights, a_list, a_clique, a_open, a_gone, a_tried, a_bySize, a_loose, a_least, a_ways) (nI k) := by
  have hn := G.2.1
  refine br_f (nI_pos (by omega)) (br_t (nI_le (b := 4) hk (by decide)) ?_)
  refine fl_w G hN ?_
  intro lo le h1 h2
  refine cc_w hn hk h1 ?_
  intro W hW
  exact ⟨k + 1 + 1, cg_lp hn hk hW (K lo le W) (k + 1) 0 (Nat.zero_add _)⟩
theorem xal_bad {post : Int32 → SX → Prop} (hn : n ≤ 9) {p q z : Int32} (h : (p < 0 ∨ nI n ≤ p) ∨ (q < 0 ∨ nI n ≤ q)) (K : post (-1) ((nI n), f_found, f_bestSet, f_bestWeight, a_near, a_weights, a_list, a_clique, a_open, a_gone, a_tried, a_bySize, a_loose, a_least, a_ways)) : wpX_alike post ((nI n), f_found, f_bestSet, f_bestWeight, a_near, a_weights, a_list, a_clique, a_open, a_gone, a_tried, a_bySize, a_loose, a_least, a_ways) p q z := by
  unfold wpX_alike
  rcases pk_ix p (n := n) (by omega) with e | e | ⟨j, hj, rfl⟩
  · refine ip_no (Or.inl e) ?_
    exact br_t rfl K
  · refine ip_no (Or.inr e) ?_
    exact br_t rfl K
  · refine ip_yes hn hj ?_
    refine br_f (by decide) ?_
    refine ip_no (h.resolve_left (fun y => y.elim (nI_pos (by omega)) (nI_ge hj (by omega)))) ?_
    exact br_t rfl K
theorem xal_rng {post : Int32 → SX → Prop} (hn : n ≤ 9) {p q : Nat} (hp : p < n) (hq : q < n) {z : Int32} (h : z < 0 ∨ ¬ z ≤ 9) (K : post (-2) ((nI n), f_found, f_bestSet, f_bestWeight, a_near, a_weights, a_list, a_clique, a_open, a_gone, a_tried, a_bySize, a_loose, a_least, a_ways)) : wpX_alike post ((nI n), f_found, f_bestSet, f_bestWeight, a_near, a_weights, a_list, a_clique, a_open, a_gone, a_tried, a_bySize, a_loose, a_least, a_ways) (nI p) (nI q) z := by
  unfold wpX_alike
  refine ip_yes hn hp ?_
  refine br_f (by decide) ?_
  refine ip_yes hn hq ?_
  refine br_f (by decide) ?_
  by_cases e : z < 0
  · exact br_t e K
  · exact br_f e (br_f (h.resolve_left e) K)
theorem xal_ok {post : Int32 → SX → Prop} (G : Gr n N) (hN : NR a_near N) {p q k : Nat} (hp : p < n) (hq : q < n) (hk : k ≤ 9)
    (K1 : (∃ s, s < 2 ^ n ∧ (mb s p ∧ mb s q) ∧ Ind N s ∧ ∃ j, j < k ∧ Col N j (nd (2 ^ n - 1) s)) → ∀ lo le : Nat → Int32, post 1 ((nI n), f_found, f_bestSet, f_bestWeight, a_near, a_weights, a_list, a_clique, a_open, a_gone, a_tried, a_bySize, lo, le, a_ways))
    (K0 : ¬ (∃ s, s < 2 ^ n ∧ (mb s p ∧ mb s q) ∧ Ind N s ∧ ∃ j, j < k ∧ Col N j (nd (2 ^ n - 1) s)) → ∀ lo le : Nat → Int32, post 0 ((nI n), f_found, f_bestSet, f_bestWeight, a_near, a_weights, a_list, a_clique, a_open, a_gone, a_tried, a_bySize, lo, le, a_ways)) : wpX_alike post ((nI n), f_found, f_bestSet, f_bestWeight, a_near, a_weights, a_list, a_clique, a_open, a_gone, a_tried, a_bySize, a_loose, a_least, a_ways) (nI p) (nI q) (nI k) := by
  have hn := G.2.1
  unfold wpX_alike
  refine ip_yes hn hp ?_
  refine br_f (by decide) ?_
  refine ip_yes hn hq ?_
  refine br_f (by decide) (br_f (nI_pos (by omega)) (br_t (nI_le (b := 9) hk (by decide)) ?_))
  refine fl_w G hN ?_
  intro lo le h1 h2
  refine nm_r (cv_all (by omega)) (nm_r (e' := nI (2 ^ p ||| 2 ^ q)) (by rw [cv_bit (by omega), cv_bit (by omega), cv_or]) ⟨2 ^ n + 1, ?_⟩)
  exact al_lp hn hp hq hk h1 h2 (fun h => K1 h lo le) (fun h => K0 h lo le) (2 ^ n) 0 (Nat.zero_add _) (fun s h => absurd h (by omega))
end
section
variable {b_tied b_weight b_ways b_past b_apart : Nat → Int32}
variable {n : Nat} {N w : Nat → Nat}
theorem yj_bad {post : Int32 → SY → Prop} (hn : n ≤ 9) {p q z : Int32} (h : (p < 0 ∨ nI n ≤ p) ∨ (q < 0 ∨ nI n ≤ q)) (K : post (-1) ((nI n), b_tied, b_weight, b_ways, b_past, b_apart)) : wpY_join post ((nI n), b_tied, b_weight, b_ways, b_past, b_apart) p q z := by
  unfold wpY_join
  rcases pk_ix p (n := n) (by omega) with e | e | ⟨j, hj, rfl⟩
  · refine bd_no (Or.inl e) ?_
    exact br_f (by decide) K
  · refine bd_no (Or.inr e) ?_
    exact br_f (by decide) K
  · refine bd_yes hn hj ?_
    refine br_t rfl ?_
    refine bd_no (h.resolve_left (fun y => y.elim (nI_pos (by omega)) (nI_ge hj (by omega)))) ?_
    exact br_f (by decide) K
theorem yj_eq {post : Int32 → SY → Prop} (hn : n ≤ 9) {j : Nat} (hj : j < n) {z : Int32} (K : post (-2) ((nI n), b_tied, b_weight, b_ways, b_past, b_apart)) : wpY_join post ((nI n), b_tied, b_weight, b_ways, b_past, b_apart) (nI j) (nI j) z := by
  unfold wpY_join
  refine bd_yes hn hj ?_
  refine br_t rfl ?_
  refine bd_yes hn hj ?_
  exact br_t rfl (br_t rfl K)
theorem yg_bad {post : Int32 → SY → Prop} {p x : Int32} (h : p < 0 ∨ nI n ≤ p) (K : post (-1) ((nI n), b_tied, b_weight, b_ways, b_past, b_apart)) : wpY_weigh post ((nI n), b_tied, b_weight, b_ways, b_past, b_apart) p x := by
  unfold wpY_weigh
  refine bd_no h ?_
  exact br_f (by decide) K
theorem yg_rng {post : Int32 → SY → Prop} (hn : n ≤ 9) {j : Nat} (hj : j < n) {x : Int32} (h : x < 1 ∨ ¬ x ≤ 20) (K : post (-2) ((nI n), b_tied, b_weight, b_ways, b_past, b_apart)) : wpY_weigh post ((nI n), b_tied, b_weight, b_ways, b_past, b_apart) (nI j) x := by
  unfold wpY_weigh
  refine bd_yes hn hj ?_
  refine br_t rfl ?_
  by_cases e : x < 1
  · exact br_t e K
  · exact br_f e (br_f (h.resolve_left e) K)
theorem yg_ok {post : Int32 → SY → Prop} (hn : n ≤ 9) (hW : WR b_weight w) {j : Nat} (hj : j < n) {x : Nat} (h1 : 1 ≤ x) (h2 : x ≤ 20) (K : post (nI (w j)) ((nI n), b_tied, (upd b_weight j (nI x)), b_ways, b_past, b_apart)) : wpY_weigh post ((nI n), b_tied, b_weight, b_ways, b_past, b_apart) (nI j) (nI x) := by
  unfold wpY_weigh
  refine bd_yes hn hj ?_
  refine br_t rfl (br_f (nI_nlt (b := 1) h1 (by omega)) (br_t (nI_le (b := 20) h2 (by decide)) ⟨vp_in_nI (by omega) (by omega), ?_⟩))
  rw [nI_clamp (n := j) (by omega), (hW j (by omega)).1]
  exact nm_e ⟨vp_in_nI (by omega) (by omega), nm_e K⟩
theorem yt_bad {post : Int32 → Prop} {p : Int32} (h : p < 0 ∨ nI n ≤ p) (K : post (-1)) : wpY_joinedTo post ((nI n), b_tied, b_weight, b_ways, b_past, b_apart) p := by
  unfold wpY_joinedTo
  refine bd_no h ?_
  exact br_f (by decide) K
theorem yt_ok {post : Int32 → Prop} (G : Gr n N) (hT : TR b_tied N) {j : Nat} (hj : j < n) (K : post (nI (N j))) : wpY_joinedTo post ((nI n), b_tied, b_weight, b_ways, b_past, b_apart) (nI j) := by
  unfold wpY_joinedTo
  refine bd_yes G.2.1 hj ?_
  exact br_t rfl ⟨n + 1, jt_lp G hT hj K n 0 (Nat.zero_add n) 0 (fun q => ⟨fun h => absurd h gb_0, fun h => absurd h.2 (by omega)⟩)⟩
theorem yc_bad {post : Int32 → Prop} (hn : n ≤ 9) {s : Int32} (h : s < 0 ∨ nI (2 ^ n) ≤ s) (K : post (-1)) : wpY_isClique post ((nI n), b_tied, b_weight, b_ways, b_past, b_apart) s := by
  unfold wpY_isClique
  refine bs_no hn h ?_
  exact br_f (by decide) K
theorem yc_ok {post : Int32 → Prop} (G : Gr n N) (hT : TR b_tied N) {s : Nat} (hs : s < 2 ^ n) (K1 : Cq N s → post 1) (K0 : ¬ Cq N s → post 0) : wpY_isClique post ((nI n), b_tied, b_weight, b_ways, b_past, b_apart) (nI s) := by
  unfold wpY_isClique
  refine bs_yes G.2.1 hs ?_
  refine br_t rfl ?_
  exact ec_w G hT hs (fun h => br_f (by decide) (K1 h)) (fun h => br_t rfl (K0 h))
theorem ybw_bad {post : Int32 → Prop} (hn : n ≤ 9) {s : Int32} (h : s < 0 ∨ nI (2 ^ n) ≤ s) (K : post (-1)) : wpY_bestWith post ((nI n), b_tied, b_weight, b_ways, b_past, b_apart) s := by
  unfold wpY_bestWith
  refine bs_no hn h ?_
  exact br_f (by decide) K
theorem ybw_ok {post : Int32 → Prop} (G : Gr n N) (hT : TR b_tied N) (hW : WR b_weight w) {x : Nat} (hx : x < 2 ^ n) (K1 : ∀ b, Bst w (Cd N x (2 ^ n)) b → post (nI b)) (K0 : (∀ s, ¬ Cd N x (2 ^ n) s) → post (-2)) : wpY_bestWith post ((nI n), b_tied, b_weight, b_ways, b_past, b_apart) (nI x) := by
  unfold wpY_bestWith
  refine bs_yes G.2.1 hx ?_
  refine br_t rfl ⟨2 ^ n + 1, ?_⟩
  exact bw_lp G hT hW hx K1 K0 (2 ^ n) 0 (Nat.zero_add _) (-1) (-2) (Or.inl ⟨rfl, rfl, fun s h => absurd h.1.1 (by omega)⟩)
theorem yo_w {post : Int32 → SY → Prop} (G : Gr n N) (hT : TR b_tied N) (K : ∀ (m : Nat) (W Q A : Nat → Int32), Lst N (2 ^ n - 1) m → post (nI m) ((nI n), b_tied, b_weight, W, Q, A)) : wpY_colours post ((nI n), b_tied, b_weight, b_ways, b_past, b_apart) := by
  have hn := G.2.1
  unfold wpY_colours
  refine nm_r (cv_all (by omega)) ?_
  refine pt_w (k := 0) G hT (by omega) ?_
  intro W Q A hW hA
  exact ⟨10, yc_lp G hA (fun m W' Q' h => K m W' Q' A h) 9 0 rfl W Q hW (fun i h => absurd h (by omega))⟩
theorem ycg_w {post : Int32 → SY → Prop} (G : Gr n N) (hT : TR b_tied N) {k : Nat} (hk : k ≤ 4) (K : ∀ W Q A : Nat → Int32, post (nI (Wf N k (2 ^ n - 1))) ((nI n), b_tied, b_weight, W, Q, A)) : wpY_colourings post ((nI n), b_tied, b_weight, b_ways, b_past, b_apart) (nI k) := by
  have hn := G.2.1
  have b2 := gb_p2 hn
  have b0 := Nat.two_pow_pos n
  refine br_f (nI_pos (by omega)) (br_t (nI_le (b := 4) hk (by decide)) ?_)
  refine pt_w G hT (by omega) ?_
  intro W Q A hW hA
  have fin := K W Q A
  rw [← hW (2 ^ n - 1) (by omega)] at fin
  dsimp only
  rw [cv_all (by omega), nI_clamp (n := 2 ^ n - 1) (by omega)]
  exact ⟨vp_in_nI (by omega) (by omega), fin⟩
theorem yal_bad {post : Int32 → SY → Prop} (hn : n ≤ 9) {p q z : Int32} (h : (p < 0 ∨ nI n ≤ p) ∨ (q < 0 ∨ nI n ≤ q)) (K : post (-1) ((nI n), b_tied, b_weight, b_ways, b_past, b_apart)) : wpY_alike post ((nI n), b_tied, b_weight, b_ways, b_past, b_apart) p q z := by
  unfold wpY_alike
  rcases pk_ix p (n := n) (by omega) with e | e | ⟨j, hj, rfl⟩
  · refine bd_no (Or.inl e) ?_
    exact br_f (by decide) K
  · refine bd_no (Or.inr e) ?_
    exact br_f (by decide) K
  · refine bd_yes hn hj ?_
    refine br_t rfl ?_
    refine bd_no (h.resolve_left (fun y => y.elim (nI_pos (by omega)) (nI_ge hj (by omega)))) ?_
    exact br_f (by decide) K
theorem yal_rng {post : Int32 → SY → Prop} (hn : n ≤ 9) {p q : Nat} (hp : p < n) (hq : q < n) {z : Int32} (h : z < 0 ∨ ¬ z ≤ 9) (K : post (-2) ((nI n), b_tied, b_weight, b_ways, b_past, b_apart)) : wpY_alike post ((nI n), b_tied, b_weight, b_ways, b_past, b_apart) (nI p) (nI q) z := by
  unfold wpY_alike
  refine bd_yes hn hp ?_
  refine br_t rfl ?_
  refine bd_yes hn hq ?_
  refine br_t rfl ?_
  by_cases e : z < 0
  · exact br_t e K
  · exact br_f e (br_f (h.resolve_left e) K)
theorem yal_0 {post : Int32 → SY → Prop} (hn : n ≤ 9) {p q : Nat} (hp : p < n) (hq : q < n) (K : post 0 ((nI n), b_tied, b_weight, b_ways, b_past, b_apart)) : wpY_alike post ((nI n), b_tied, b_weight, b_ways, b_past, b_apart) (nI p) (nI q) (nI 0) := by
  unfold wpY_alike
  refine bd_yes hn hp ?_
  refine br_t rfl ?_
  refine bd_yes hn hq ?_
  exact br_t rfl (br_f (by decide) (br_t (by decide) (br_t rfl K)))
theorem yal_ok {post : Int32 → SY → Prop} (G : Gr n N) (hT : TR b_tied N) {p q k : Nat} (hp : p < n) (hq : q < n) (hk : k + 1 ≤ 9)
    (K1 : (∃ s, s < 2 ^ n ∧ (mb s p ∧ mb s q) ∧ Ind N s ∧ Col N k (nd (2 ^ n - 1) s)) → ∀ W Q A : Nat → Int32, post 1 ((nI n), b_tied, b_weight, W, Q, A))
    (K0 : ¬ (∃ s, s < 2 ^ n ∧ (mb s p ∧ mb s q) ∧ Ind N s ∧ Col N k (nd (2 ^ n - 1) s)) → ∀ W Q A : Nat → Int32, post 0 ((nI n), b_tied, b_weight, W, Q, A)) : wpY_alike post ((nI n), b_tied, b_weight, b_ways, b_past, b_apart) (nI p) (nI q) (nI (k + 1)) := by
  have hn := G.2.1
  unfold wpY_alike
  refine bd_yes hn hp ?_
  refine br_t rfl ?_
  refine bd_yes hn hq ?_
  refine br_t rfl (br_f (nI_pos (by omega)) (br_t (nI_le (b := 9) hk (by decide)) (br_f (nI_ne0 (by omega) (by omega)) ?_)))
  rw [nI_pred]
  refine pt_w G hT (by omega) ?_
  intro W Q A hW hA
  refine nm_r (cv_all (by omega)) ⟨2 ^ n + 1, ?_⟩
  exact ya_lp hn hp hq (by omega) hW hA (fun h => K1 h W Q A) (fun h => K0 h W Q A) (2 ^ n) 0 (Nat.zero_add _) (fun s h => absurd h (by omega))
end
end
section
/-- the relation: one graph, one weight a point; all else is scratch -/
def i_Rel (_ : Nat) (u : SX) (v : SY) : Prop := ∃ (n : Nat) (N w : Nat → Nat), Gr n N ∧ u.1 = nI n ∧ v.1 = nI n ∧ NR u.2.2.2.2.1 N ∧ WR u.2.2.2.2.2.1 w ∧ TR v.2.1 N ∧ WR v.2.2.1 w
section
variable {f_found f_bestSet f_bestWeight : Int32} {a_near a_weights a_list a_clique a_open a_gone a_tried a_bySize a_loose a_least : Nat → Int32} {a_ways : Nat → Int64}
variable {b_tied b_weight b_ways b_past b_apart : Nat → Int32}
variable {n : Nat} {N w : Nat → Nat}
theorem rl_mk {k : Nat} (G : Gr n N) (hN : NR a_near N) (hW : WR a_weights w) (hT : TR b_tied N) (hV : WR b_weight w) : i_Rel k ((nI n), f_found, f_bestSet, f_bestWeight, a_near, a_weights, a_list, a_clique, a_open, a_gone, a_tried, a_bySize, a_loose, a_least, a_ways) ((nI n), b_tied, b_weight, b_ways, b_past, b_apart) :=
  ⟨n, N, w, G, rfl, rfl, hN, hW, hT, hV⟩
end
theorem rl_el {k : Nat} {u : SX} {v : SY} {P : SX → SY → Prop} (I : i_Rel k u v)
    (h : ∀ (n : Nat) (N w : Nat → Nat) (f_found f_bestSet f_bestWeight : Int32) (a_near a_weights a_list a_clique a_open a_gone a_tried a_bySize a_loose a_least : Nat → Int32) (a_ways : Nat → Int64) (b_tied b_weight b_ways b_past b_apart : Nat → Int32),
      Gr n N → NR a_near N → WR a_weights w → TR b_tied N → WR b_weight w → P ((nI n), f_found, f_bestSet, f_bestWeight, a_near, a_weights, a_list, a_clique, a_open, a_gone, a_tried, a_bySize, a_loose, a_least, a_ways) ((nI n), b_tied, b_weight, b_ways, b_past, b_apart)) : P u v := by
  obtain ⟨f_n, f_found, f_bestSet, f_bestWeight, a_near, a_weights, a_list, a_clique, a_open, a_gone, a_tried, a_bySize, a_loose, a_least, a_ways⟩ := u
  obtain ⟨g_n, b_tied, b_weight, b_ways, b_past, b_apart⟩ := v
  obtain ⟨n, N, w, G, e1, e2, hN, hW, hT, hV⟩ := I
  have e1 : f_n = nI n := e1
  have e2 : g_n = nI n := e2
  subst e1 e2
  exact h n N w f_found f_bestSet f_bestWeight a_near a_weights a_list a_clique a_open a_gone a_tried a_bySize a_loose a_least a_ways b_tied b_weight b_ways b_past b_apart G hN hW hT hV
theorem i_up {k : Nat} {u : SX} {v : SY} (h : i_Rel k u v) : i_Rel (k + 4) u v := h
/-! the constructors -/
section
variable {f_found f_bestSet f_bestWeight : Int32} {a_near a_weights a_list a_clique a_open a_gone a_tried a_bySize a_loose a_least : Nat → Int32} {a_ways : Nat → Int64}
variable {b_tied b_weight b_ways b_past b_apart : Nat → Int32}
theorem xn_lp {post : SX → Prop} {g : Int32} (K : ∀ A : Nat → Int32, (∀ p, p < 9 → A p = 1) → post (g, f_found, f_bestSet, f_bestWeight, a_near, A, a_list, a_clique, a_open, a_gone, a_tried, a_bySize, a_loose, a_least, a_ways)) : ∀ d j, j + d = 9 → ∀ A : Nat → Int32, (∀ p, p < j → A p = 1) → wX_init_126 post g f_found f_bestSet f_bestWeight (d + 1) (nI j) a_near A a_list a_clique a_open a_gone a_tried a_bySize a_loose a_least a_ways := by
  intro d
  induction d with
  | zero =>
    intro j hj A h
    obtain rfl : j = 9 := by omega
    exact br_t (by decide) (K A h)
  | succ d ih =>
    intro j hj A h
    refine pk_le 9 j (fun z => absurd z (by omega)) (fun _ => ⟨vp_in_nI (by omega) (by omega), ?_⟩)
    rw [nI_clamp (n := j) (by omega)]
    refine nm_e (nm_r (nI_1 j) (ih (j + 1) (by omega) _ (fun p hp => ?_)))
    by_cases e : p = j
    · subst e; exact pk_us
    · rw [pk_un e]; exact h p (by omega)
theorem yn_lp {post : SY → Prop} {g : Int32} (K : ∀ A : Nat → Int32, (∀ p, p < 9 → A p = 1) → post (g, b_tied, A, b_ways, b_past, b_apart)) : ∀ d j, j + d = 9 → ∀ A : Nat → Int32, (∀ p, p < j → A p = 1) → wY_init_74 post g (d + 1) (nI j) b_tied A b_ways b_past b_apart := by
  intro d
  induction d with
  | zero =>
    intro j hj A h
    obtain rfl : j = 9 := by omega
    exact br_t (by decide) (K A h)
  | succ d ih =>
    intro j hj A h
    refine pk_le 9 j (fun z => absurd z (by omega)) (fun _ => ⟨vp_in_nI (by omega) (by omega), ?_⟩)
    rw [nI_clamp (n := j) (by omega)]
    refine nm_e (nm_r (nI_1 j) (ih (j + 1) (by omega) _ (fun p hp => ?_)))
    by_cases e : p = j
    · subst e; exact pk_us
    · rw [pk_un e]; exact h p (by omega)
end
theorem rl_0 {n : Nat} (h2 : 2 ≤ n) (h9 : n ≤ 9) {A B : Nat → Int32} (hA : ∀ p, p < 9 → A p = 1) (hB : ∀ p, p < 9 → B p = 1) :
    i_Rel 1 (nI n, 0, 0, 0, (fun _ => 0), A, (fun _ => 0), (fun _ => 0), (fun _ => 0), (fun _ => 0), (fun _ => 0), (fun _ => 0), (fun _ => 0), (fun _ => 0), (fun _ => 0)) (nI n, (fun _ => 0), B, (fun _ => 0), (fun _ => 0), (fun _ => 0)) := by
  refine rl_mk (N := fun _ => 0) (w := fun _ => 1) ⟨h2, h9, fun p q h => absurd h gb_0, fun p h => gb_0 h, fun p q h => absurd h gb_0⟩ (fun p _ => rfl) (fun p hp => ⟨hA p hp, Nat.le_refl 1, (by decide : (1 : Nat) ≤ 20)⟩) (fun p q _ _ => ?_) (fun p hp => ⟨hB p hp, Nat.le_refl 1, (by decide : (1 : Nat) ≤ 20)⟩)
  exact tr_v (fun h => absurd h gb_0) (fun _ => rfl)
theorem i_vc0 (k0 : Int32) : wpX_init (fun u => wpY_init (fun v => i_Rel 1 u v) k0) k0 := by
  by_cases h2 : 2 ≤ k0
  · refine br_t h2 ?_
    by_cases h9 : k0 ≤ 9
    · have h0 : ¬ k0 < 0 := by
        intro h
        rw [Int32.lt_iff_toInt_lt] at h
        rw [Int32.le_iff_toInt_le] at h2
        have e0 : (0 : Int32).toInt = 0 := by decide
        have e2 : (2 : Int32).toInt = 2 := by decide
        omega
      obtain ⟨j, hj, rfl⟩ := nI_of2 (M := 9) (n := 9) (by decide) h0 h9
      have j2 : 2 ≤ j := (nI_leI (a := 2) (by omega) (by omega)).mp h2
      refine br_t h9 ⟨10, xn_lp (fun A hA => ?_) 9 0 rfl _ (fun p h => absurd h (by omega))⟩
      exact br_t h2 (br_t h9 ⟨10, yn_lp (fun B hB => rl_0 j2 hj hA hB) 9 0 rfl _ (fun p h => absurd h (by omega))⟩)
    · refine br_f h9 ⟨10, xn_lp (fun A hA => ?_) 9 0 rfl _ (fun p h => absurd h (by omega))⟩
      exact br_t h2 (br_f h9 ⟨10, yn_lp (fun B hB => rl_0 (n := 9) (by omega) (by omega) hA hB) 9 0 rfl _ (fun p h => absurd h (by omega))⟩)
  · refine br_f h2 (br_t (by decide) ⟨10, xn_lp (fun A hA => ?_) 9 0 rfl _ (fun p h => absurd h (by omega))⟩)
    exact br_f h2 ⟨10, yn_lp (fun B hB => rl_0 (n := 2) (by omega) (by omega) hA hB) 9 0 rfl _ (fun p h => absurd h (by omega))⟩
theorem i_vc_points {k : Nat} {u : SX} {v : SY} (I : i_Rel k u v) (hk : k + 4 ≤ 2049) : wpX_points (fun r => wpY_points (fun r' => r' = r ∧ i_Rel (k + 4) u v) v) u := by
  refine rl_el (P := fun u v => wpX_points (fun r => wpY_points (fun r' => r' = r ∧ i_Rel (k + 4) u v) v) u) I ?_
  intro n N w f_found f_bestSet f_bestWeight a_near a_weights a_list a_clique a_open a_gone a_tried a_bySize a_loose a_least a_ways b_tied b_weight b_ways b_past b_apart G hN hW hT hV
  exact ⟨rfl, rl_mk G hN hW hT hV⟩
/-- is it a point -/
theorem ix_or (x : Int32) {n : Nat} (hn : n < 2 ^ 31) : (x < 0 ∨ nI n ≤ x) ∨ ∃ j : Nat, j < n ∧ x = nI j := by
  rcases pk_ix x hn with h | h | h
  · exact Or.inl (Or.inl h)
  · exact Or.inl (Or.inr h)
  · exact Or.inr h
theorem i_vc_join {k : Nat} {u : SX} {v : SY} (I : i_Rel k u v) (hk : k + 4 ≤ 2049) (v1 : Int32) (v2 : Int32) (v3 : Int32) : wpX_join (fun r u' => wpY_join (fun r' v' => r' = r ∧ i_Rel (k + 4) u' v') v v1 v2 v3) u v1 v2 v3 := by
  refine rl_el (P := fun u v => wpX_join (fun r u' => wpY_join (fun r' v' => r' = r ∧ i_Rel (k + 4) u' v') v v1 v2 v3) u v1 v2 v3) I ?_
  intro n N w f_found f_bestSet f_bestWeight a_near a_weights a_list a_clique a_open a_gone a_tried a_bySize a_loose a_least a_ways b_tied b_weight b_ways b_past b_apart G hN hW hT hV
  have hn := G.2.1
  rcases ix_or v1 (n := n) (by omega) with h1 | ⟨p, hp, rfl⟩
  · exact xj_bad hn (Or.inl h1) (yj_bad hn (Or.inl h1) ⟨rfl, rl_mk G hN hW hT hV⟩)
  rcases ix_or v2 (n := n) (by omega) with h2 | ⟨q, hq, rfl⟩
  · exact xj_bad hn (Or.inr h2) (yj_bad hn (Or.inr h2) ⟨rfl, rl_mk G hN hW hT hV⟩)
  by_cases e : p = q
  · subst e
    exact xj_eq hn hp (yj_eq hn hp ⟨rfl, rl_mk G hN hW hT hV⟩)
  · exact xj_w G hN hp hq e (fun A hA => yj_w G hT hp hq e (fun T hT' => ⟨rfl, rl_mk (np_gr G _ hp hq e) hA hW hT' hV⟩))
theorem i_vc_weave {k : Nat} {u : SX} {v : SY} (I : i_Rel k u v) (hk : k + 4 ≤ 2049) (v1 : Int32) (v2 : Int32) : wpX_weave (fun r u' => wpY_weave (fun r' v' => r' = r ∧ i_Rel (k + 4) u' v') v v1 v2) u v1 v2 := by
  refine rl_el (P := fun u v => wpX_weave (fun r u' => wpY_weave (fun r' v' => r' = r ∧ i_Rel (k + 4) u' v') v v1 v2) u v1 v2) I ?_
  intro n N w f_found f_bestSet f_bestWeight a_near a_weights a_list a_clique a_open a_gone a_tried a_bySize a_loose a_least a_ways b_tied b_weight b_ways b_past b_apart G hN hW hT hV
  have hn := G.2.1
  by_cases h1 : v1 < 0
  · exact br_t h1 (br_t h1 ⟨rfl, rl_mk G hN hW hT hV⟩)
  by_cases h2 : v1 ≤ 6
  · by_cases h3 : v2 < 0
    · exact br_f h1 (br_t h2 (br_t h3 (br_f h1 (br_t h2 (br_t h3 ⟨rfl, rl_mk G hN hW hT hV⟩)))))
    by_cases h4 : v2 ≤ 7
    · obtain ⟨seed, hs, rfl⟩ := nI_of2 (M := 6) (n := 6) (by decide) h1 h2
      obtain ⟨share, hh, rfl⟩ := nI_of2 (M := 7) (n := 7) (by decide) h3 h4
      refine br_f h1 (br_t h2 (br_f h3 (br_t h4 ⟨n + 1, xw_lp2 hs hh (fun N' A G' hA hm => ?_) n 0 (Nat.zero_add n) N a_near G hN (fun a b _ _ h => absurd h (by omega))⟩)))
      refine br_f h1 (br_t h2 (br_f h3 (br_t h4 ⟨n + 1, yw_lp2 hn hs hh (fun T hI => ?_) n 0 (Nat.zero_add n) b_tied yi_0⟩)))
      have hT' : TR T N' := yi_tr hI hT G G' (fun a c ha hc => by
        rcases Nat.lt_trichotomy a c with z | z | z
        · rw [hm a c z hc]; exact ⟨fun y => y.2, fun y => ⟨by omega, y⟩⟩
        · subst z; exact ⟨fun y => absurd rfl y.1, fun y => absurd y (G'.2.2.2.1 a)⟩
        · rw [cw_sym seed share a c, ← hm c a z ha]
          exact ⟨fun y => G'.2.2.2.2 _ _ y.2, fun y => ⟨by omega, G'.2.2.2.2 _ _ y⟩⟩)
      exact yp_w G' hT' ⟨rfl, rl_mk G' hA hW hT' hV⟩
    · exact br_f h1 (br_t h2 (br_f h3 (br_f h4 (br_f h1 (br_t h2 (br_f h3 (br_f h4 ⟨rfl, rl_mk G hN hW hT hV⟩)))))))
  · exact br_f h1 (br_f h2 (br_f h1 (br_f h2 ⟨rfl, rl_mk G hN hW hT hV⟩)))
theorem i_vc_invert {k : Nat} {u : SX} {v : SY} (I : i_Rel k u v) (hk : k + 4 ≤ 2049) : wpX_invert (fun r u' => wpY_invert (fun r' v' => r' = r ∧ i_Rel (k + 4) u' v') v) u := by
  refine rl_el (P := fun u v => wpX_invert (fun r u' => wpY_invert (fun r' v' => r' = r ∧ i_Rel (k + 4) u' v') v) u) I ?_
  intro n N w f_found f_bestSet f_bestWeight a_near a_weights a_list a_clique a_open a_gone a_tried a_bySize a_loose a_least a_ways b_tied b_weight b_ways b_past b_apart G hN hW hT hV
  have hn := G.2.1
  refine ⟨n + 1, xi_lp G hN (fun A hA => ?_) n 0 (Nat.zero_add n) a_near (fun p hp => by rw [if_neg (by omega)]; exact hN p hp)⟩
  refine ⟨n + 1, yv_lp2 hn hT (fun T hI => ?_) n 0 (Nat.zero_add n) b_tied yi_0⟩
  have hT' : TR T (Iv n N) := yi_tr hI hT G (iv_gr G) (fun a c ha hc => by
    rw [iv_mb]
    exact ⟨fun y => ⟨ha, hc, y.2, fun e => y.1 e.symm⟩, fun y => ⟨fun e => y.2.2.2 e.symm, y.2.2.1⟩⟩)
  exact yp_w (iv_gr G) hT' ⟨rfl, rl_mk (iv_gr G) hA hW hT' hV⟩
theorem i_vc_weigh {k : Nat} {u : SX} {v : SY} (I : i_Rel k u v) (hk : k + 4 ≤ 2049) (v1 : Int32) (v2 : Int32) : wpX_weigh (fun r u' => wpY_weigh (fun r' v' => r' = r ∧ i_Rel (k + 4) u' v') v v1 v2) u v1 v2 := by
  refine rl_el (P := fun u v => wpX_weigh (fun r u' => wpY_weigh (fun r' v' => r' = r ∧ i_Rel (k + 4) u' v') v v1 v2) u v1 v2) I ?_
  intro n N w f_found f_bestSet f_bestWeight a_near a_weights a_list a_clique a_open a_gone a_tried a_bySize a_loose a_least a_ways b_tied b_weight b_ways b_past b_apart G hN hW hT hV
  have hn := G.2.1
  rcases ix_or v1 (n := n) (by omega) with h1 | ⟨p, hp, rfl⟩
  · exact xg_bad h1 (yg_bad h1 ⟨rfl, rl_mk G hN hW hT hV⟩)
  by_cases h2 : v2 < 1 ∨ ¬ v2 ≤ 20
  · exact xg_rng hn hp h2 (yg_rng hn hp h2 ⟨rfl, rl_mk G hN hW hT hV⟩)
  · have h3 : ¬ v2 < 1 := fun y => h2 (Or.inl y)
    have h4 : v2 ≤ 20 := Classical.byContradiction (fun y => h2 (Or.inr y))
    have h5 : ¬ v2 < 0 := by
      intro y
      apply h3
      rw [Int32.lt_iff_toInt_lt] at y ⊢
      have e0 : (0 : Int32).toInt = 0 := by decide
      have e1 : (1 : Int32).toInt = 1 := by decide
      omega
    obtain ⟨x, hx, rfl⟩ := nI_of2 (M := 20) (n := 20) (by decide) h5 h4
    have hx1 : 1 ≤ x := by
      rcases Nat.lt_or_ge x 1 with z | z
      · exact absurd (nI_lt (b := 1) z (by decide)) h3
      · exact z
    exact xg_ok hn hW hp hx1 hx (yg_ok hn hV hp hx1 hx ⟨rfl, rl_mk G hN (wr_upd hW hx1 hx) hT (wr_upd hV hx1 hx)⟩)
theorem i_vc_joinedTo {k : Nat} {u : SX} {v : SY} (I : i_Rel k u v) (hk : k + 4 ≤ 2049) (v1 : Int32) : wpX_joinedTo (fun r => wpY_joinedTo (fun r' => r' = r ∧ i_Rel (k + 4) u v) v v1) u v1 := by
  refine rl_el (P := fun u v => wpX_joinedTo (fun r => wpY_joinedTo (fun r' => r' = r ∧ i_Rel (k + 4) u v) v v1) u v1) I ?_
  intro n N w f_found f_bestSet f_bestWeight a_near a_weights a_list a_clique a_open a_gone a_tried a_bySize a_loose a_least a_ways b_tied b_weight b_ways b_past b_apart G hN hW hT hV
  have hn := G.2.1
  rcases ix_or v1 (n := n) (by omega) with h1 | ⟨p, hp, rfl⟩
  · exact xt_bad h1 (yt_bad h1 ⟨rfl, rl_mk G hN hW hT hV⟩)
  · exact xt_ok hn hN hp (yt_ok G hT hp ⟨rfl, rl_mk G hN hW hT hV⟩)
theorem i_vc_isClique {k : Nat} {u : SX} {v : SY} (I : i_Rel k u v) (hk : k + 4 ≤ 2049) (v1 : Int32) : wpX_isClique (fun r => wpY_isClique (fun r' => r' = r ∧ i_Rel (k + 4) u v) v v1) u v1 := by
  refine rl_el (P := fun u v => wpX_isClique (fun r => wpY_isClique (fun r' => r' = r ∧ i_Rel (k + 4) u v) v v1) u v1) I ?_
  intro n N w f_found f_bestSet f_bestWeight a_near a_weights a_list a_clique a_open a_gone a_tried a_bySize a_loose a_least a_ways b_tied b_weight b_ways b_past b_apart G hN hW hT hV
  have hn := G.2.1
  have b2 := gb_p2 hn
  rcases ix_or v1 (n := 2 ^ n) (by omega) with h1 | ⟨s, hs, rfl⟩
  · exact xc_bad hn h1 (yc_bad hn h1 ⟨rfl, rl_mk G hN hW hT hV⟩)
  · exact xc_ok G hN hs (fun c => yc_ok G hT hs (fun _ => ⟨rfl, rl_mk G hN hW hT hV⟩) (fun d => absurd c d)) (fun c => yc_ok G hT hs (fun d => absurd d c) (fun _ => ⟨rfl, rl_mk G hN hW hT hV⟩))
theorem fl_cn {n : Nat} {N : Nat → Nat} {m : Nat} (h : m ≤ 2 ^ n) : cn (fun s => s < 2 ^ n ∧ Fl n N s) m = cn (Fl n N) m :=
  cn_c (fun s hs => ⟨fun y => y.2, fun y => ⟨by omega, y⟩⟩)
theorem i_vc_fullCliques {k : Nat} {u : SX} {v : SY} (I : i_Rel k u v) (hk : k + 4 ≤ 2049) : wpX_fullCliques (fun r u' => wpY_fullCliques (fun r' => r' = r ∧ i_Rel (k + 4) u' v) v) u := by
  refine rl_el (P := fun u v => wpX_fullCliques (fun r u' => wpY_fullCliques (fun r' => r' = r ∧ i_Rel (k + 4) u' v) v) u) I ?_
  intro n N w f_found f_bestSet f_bestWeight a_near a_weights a_list a_clique a_open a_gone a_tried a_bySize a_loose a_least a_ways b_tied b_weight b_ways b_past b_apart G hN hW hT hV
  refine xf_w G hN ?_
  intro c l i' k' o' g' r' h
  have e : cn (Fl n N) (2 ^ n) = c := by
    rw [← fl_cn (Nat.le_refl _)]
    exact ls_count h (fun s hs => hs.1)
  refine ⟨2 ^ n + 1, fc_lp G hT ?_ (2 ^ n) 0 (Nat.zero_add _)⟩
  rw [e]
  exact ⟨rfl, rl_mk G hN hW hT hV⟩
theorem i_vc_full {k : Nat} {u : SX} {v : SY} (I : i_Rel k u v) (hk : k + 4 ≤ 2049) (v1 : Int32) : wpX_full (fun r u' => wpY_full (fun r' => r' = r ∧ i_Rel (k + 4) u' v) v v1) u v1 := by
  refine rl_el (P := fun u v => wpX_full (fun r u' => wpY_full (fun r' => r' = r ∧ i_Rel (k + 4) u' v) v v1) u v1) I ?_
  intro n N w f_found f_bestSet f_bestWeight a_near a_weights a_list a_clique a_open a_gone a_tried a_bySize a_loose a_least a_ways b_tied b_weight b_ways b_past b_apart G hN hW hT hV
  have hn := G.2.1
  have b2 := gb_p2 hn
  have rk : ∀ (c : Nat) (l : Nat → Nat), SL (fun s => s < 2 ^ n ∧ Fl n N s) c l → ∀ s, s < 2 ^ n → Fl n N s → ∃ i, i < c ∧ l i = s ∧ cn (Fl n N) s = i := by
    intro c l h s hs hf
    obtain ⟨i, hi, e⟩ := (h.2 s).mp ⟨hs, hf⟩
    refine ⟨i, hi, e, ?_⟩
    have := ls_rank h i hi
    rw [e, fl_cn (by omega)] at this
    exact this
  refine xu_w G hN ?_ ?_
  · intro c l i' k' o' g' r' h hno
    refine ⟨2 ^ n + 1, fu_lp G hT (fun s hs hf e => ?_) (fun _ => ⟨rfl, rl_mk G hN hW hT hV⟩) (2 ^ n) 0 (Nat.zero_add _) (fun s h => absurd h (by omega))⟩
    obtain ⟨i, hi, _, e2⟩ := rk c l h s hs hf
    rw [e2] at e
    exact absurd e.symm (hno i hi)
  · intro c l i' k' o' g' r' h i hi hi32 hv
    refine ⟨2 ^ n + 1, fu_lp G hT (fun s hs hf e => ?_) (fun hno => ?_) (2 ^ n) 0 (Nat.zero_add _) (fun s h => absurd h (by omega))⟩
    · obtain ⟨i2, hi2, e1, e2⟩ := rk c l h s hs hf
      have c1 := cn_le (Fl n N) s
      rw [hv, nI_eq (by omega) (by omega)] at e
      obtain rfl : i2 = i := by omega
      rw [e1]
      exact ⟨rfl, rl_mk G hN hW hT hV⟩
    · have hS := (h.2 (l i)).mpr ⟨i, hi, rfl⟩
      have e2 := ls_rank h i hi
      rw [fl_cn (by have := hS.1; omega)] at e2
      exact absurd (by rw [e2, hv]) (hno (l i) hS.1 hS.2)
theorem cz_cn {n : Nat} {N : Nat → Nat} (hn : n ≤ 9) (k : Nat) : cn (Cz n N k) 512 = cn (fun s => pc s = k ∧ Cq N s) (2 ^ n) := by
  have b2 := gb_p2 hn
  rw [cn_same (P := Cz n N k) (a := 2 ^ n) b2 (fun i h1 _ h => by have := h.1.1; omega)]
  exact cn_c (fun s hs => ⟨fun y => ⟨y.2, y.1.2⟩, fun y => ⟨⟨hs, y.2⟩, y.1⟩⟩)
theorem i_vc_cliques {k : Nat} {u : SX} {v : SY} (I : i_Rel k u v) (hk : k + 4 ≤ 2049) (v1 : Int32) : wpX_cliques (fun r u' => wpY_cliques (fun r' => r' = r ∧ i_Rel (k + 4) u' v) v v1) u v1 := by
  refine rl_el (P := fun u v => wpX_cliques (fun r u' => wpY_cliques (fun r' => r' = r ∧ i_Rel (k + 4) u' v) v v1) u v1) I ?_
  intro n N w f_found f_bestSet f_bestWeight a_near a_weights a_list a_clique a_open a_gone a_tried a_bySize a_loose a_least a_ways b_tied b_weight b_ways b_past b_apart G hN hW hT hV
  have hn := G.2.1
  by_cases h1 : v1 < 0
  · exact br_t h1 (br_t h1 ⟨rfl, rl_mk G hN hW hT hV⟩)
  by_cases h2 : v1 ≤ 9
  · obtain ⟨j, hj, rfl⟩ := nI_of2 (M := 9) (n := 9) (by decide) h1 h2
    refine br_f h1 (br_t h2 ?_)
    refine cs_w G hN ?_
    intro o' b' hb
    dsimp only
    refine ⟨vp_in_nI (by omega) (by omega), ?_⟩
    rw [nI_clamp (n := j) (by omega), hb j (by omega), cz_cn hn]
    exact br_f h1 (br_t h2 ⟨2 ^ n + 1, cq_lp G hT (by omega) ⟨rfl, rl_mk G hN hW hT hV⟩ (2 ^ n) 0 (Nat.zero_add _)⟩)
  · exact br_f h1 (br_f h2 (br_f h1 (br_f h2 ⟨rfl, rl_mk G hN hW hT hV⟩)))
theorem bst_u {w : Nat → Nat} {V : Nat → Prop} {b b' : Nat} (h : Bst w V b) (h' : Bst w V b') : b = b' := by
  have x := h.2 b' h'.1
  have y := h'.2 b h.1
  omega
theorem i_vc_heaviest {k : Nat} {u : SX} {v : SY} (I : i_Rel k u v) (hk : k + 4 ≤ 2049) : wpX_heaviest (fun r u' => wpY_heaviest (fun r' => r' = r ∧ i_Rel (k + 4) u' v) v) u := by
  refine rl_el (P := fun u v => wpX_heaviest (fun r u' => wpY_heaviest (fun r' => r' = r ∧ i_Rel (k + 4) u' v) v) u) I ?_
  intro n N w f_found f_bestSet f_bestWeight a_near a_weights a_list a_clique a_open a_gone a_tried a_bySize a_loose a_least a_ways b_tied b_weight b_ways b_past b_apart G hN hW hT hV
  refine xh_w G hN hW ?_
  intro b c' o' hb
  refine ⟨2 ^ n + 1, hv_lp G hT hV (fun v h => ?_) (2 ^ n) 0 (Nat.zero_add _) 0 (by omega) (gt_0 N _)⟩
  have g : Gt N (wt w) (2 ^ n) (wt w b) := by
    refine ⟨fun s hs hc => ?_, Or.inr ⟨b, hb.1.1.1, hb.1.1.2, rfl⟩⟩
    have := hb.2 s ⟨⟨hs, hc⟩, fun p hp => absurd hp gb_0⟩
    omega
  rw [gt_u h g]
  exact ⟨rfl, rl_mk G hN hW hT hV⟩
theorem i_vc_best {k : Nat} {u : SX} {v : SY} (I : i_Rel k u v) (hk : k + 4 ≤ 2049) : wpX_best (fun r u' => wpY_best (fun r' => r' = r ∧ i_Rel (k + 4) u' v) v) u := by
  refine rl_el (P := fun u v => wpX_best (fun r u' => wpY_best (fun r' => r' = r ∧ i_Rel (k + 4) u' v) v) u) I ?_
  intro n N w f_found f_bestSet f_bestWeight a_near a_weights a_list a_clique a_open a_gone a_tried a_bySize a_loose a_least a_ways b_tied b_weight b_ways b_past b_apart G hN hW hT hV
  refine xb_w G hN hW ?_
  intro b c' o' hb
  unfold wpY_best
  refine ybw_ok (x := 0) G hT hV (Nat.two_pow_pos n) (fun b' hb' => ?_) (fun h => absurd hb.1 (h b))
  rw [bst_u hb' hb]
  exact ⟨rfl, rl_mk G hN hW hT hV⟩
theorem i_vc_bestWith {k : Nat} {u : SX} {v : SY} (I : i_Rel k u v) (hk : k + 4 ≤ 2049) (v1 : Int32) : wpX_bestWith (fun r u' => wpY_bestWith (fun r' => r' = r ∧ i_Rel (k + 4) u' v) v v1) u v1 := by
  refine rl_el (P := fun u v => wpX_bestWith (fun r u' => wpY_bestWith (fun r' => r' = r ∧ i_Rel (k + 4) u' v) v v1) u v1) I ?_
  intro n N w f_found f_bestSet f_bestWeight a_near a_weights a_list a_clique a_open a_gone a_tried a_bySize a_loose a_least a_ways b_tied b_weight b_ways b_past b_apart G hN hW hT hV
  have hn := G.2.1
  have b2 := gb_p2 hn
  rcases ix_or v1 (n := 2 ^ n) (by omega) with h1 | ⟨x, hx, rfl⟩
  · exact xbw_bad hn h1 (ybw_bad hn h1 ⟨rfl, rl_mk G hN hW hT hV⟩)
  refine xbw_ok G hN hW hx (fun hc => ?_) ?_
  · exact ybw_ok G hT hV hx (fun b hb => absurd (cq_sub hb.1.1.2 hb.1.2) hc) (fun _ => ⟨rfl, rl_mk G hN hW hT hV⟩)
  · intro b c' o' hc hb
    refine ybw_ok G hT hV hx (fun b' hb' => ?_) (fun h => absurd hb.1 (h b))
    rw [bst_u hb' hb]
    exact ⟨rfl, rl_mk G hN hW hT hV⟩
theorem i_vc_size {k : Nat} {u : SX} {v : SY} (I : i_Rel k u v) (hk : k + 4 ≤ 2049) : wpX_size (fun r u' => wpY_size (fun r' => r' = r ∧ i_Rel (k + 4) u' v) v) u := by
  refine rl_el (P := fun u v => wpX_size (fun r u' => wpY_size (fun r' => r' = r ∧ i_Rel (k + 4) u' v) v) u) I ?_
  intro n N w f_found f_bestSet f_bestWeight a_near a_weights a_list a_clique a_open a_gone a_tried a_bySize a_loose a_least a_ways b_tied b_weight b_ways b_past b_apart G hN hW hT hV
  refine xs_w G hN ?_
  intro v' o' b' hg
  refine ⟨2 ^ n + 1, sz_lp G hT (fun v h => ?_) (2 ^ n) 0 (Nat.zero_add _) 0 (by omega) (gt_0 N _)⟩
  rw [gt_u h hg]
  exact ⟨rfl, rl_mk G hN hW hT hV⟩
theorem i_vc_colours {k : Nat} {u : SX} {v : SY} (I : i_Rel k u v) (hk : k + 4 ≤ 2049) : wpX_colours (fun r u' => wpY_colours (fun r' v' => r' = r ∧ i_Rel (k + 4) u' v') v) u := by
  refine rl_el (P := fun u v => wpX_colours (fun r u' => wpY_colours (fun r' v' => r' = r ∧ i_Rel (k + 4) u' v') v) u) I ?_
  intro n N w f_found f_bestSet f_bestWeight a_near a_weights a_list a_clique a_open a_gone a_tried a_bySize a_loose a_least a_ways b_tied b_weight b_ways b_past b_apart G hN hW hT hV
  refine xo_w G hN ?_
  intro m lo le h
  refine yo_w G hT ?_
  intro m' W Q A h'
  rw [lst_u h' h]
  exact ⟨rfl, rl_mk G hN hW hT hV⟩
theorem i_vc_colourings {k : Nat} {u : SX} {v : SY} (I : i_Rel k u v) (hk : k + 4 ≤ 2049) (v1 : Int32) : wpX_colourings (fun r u' => wpY_colourings (fun r' v' => r' = r ∧ i_Rel (k + 4) u' v') v v1) u v1 := by
  refine rl_el (P := fun u v => wpX_colourings (fun r u' => wpY_colourings (fun r' v' => r' = r ∧ i_Rel (k + 4) u' v') v v1) u v1) I ?_
  intro n N w f_found f_bestSet f_bestWeight a_near a_weights a_list a_clique a_open a_gone a_tried a_bySize a_loose a_least a_ways b_tied b_weight b_ways b_past b_apart G hN hW hT hV
  by_cases h1 : v1 < 0
  · exact br_t h1 (br_t h1 ⟨rfl, rl_mk G hN hW hT hV⟩)
  by_cases h2 : v1 ≤ 4
  · obtain ⟨j, hj, rfl⟩ := nI_of2 (M := 4) (n := 4) (by decide) h1 h2
    refine xcg_w G hN hj ?_
    intro lo le W
    refine ycg_w G hT hj ?_
    intro W' Q A
    exact ⟨rfl, rl_mk G hN hW hT hV⟩
  · exact br_f h1 (br_f h2 (br_f h1 (br_f h2 ⟨rfl, rl_mk G hN hW hT hV⟩)))
theorem i_vc_alike {k : Nat} {u : SX} {v : SY} (I : i_Rel k u v) (hk : k + 4 ≤ 2049) (v1 : Int32) (v2 : Int32) (v3 : Int32) : wpX_alike (fun r u' => wpY_alike (fun r' v' => r' = r ∧ i_Rel (k + 4) u' v') v v1 v2 v3) u v1 v2 v3 := by
  refine rl_el (P := fun u v => wpX_alike (fun r u' => wpY_alike (fun r' v' => r' = r ∧ i_Rel (k + 4) u' v') v v1 v2 v3) u v1 v2 v3) I ?_
  intro n N w f_found f_bestSet f_bestWeight a_near a_weights a_list a_clique a_open a_gone a_tried a_bySize a_loose a_least a_ways b_tied b_weight b_ways b_past b_apart G hN hW hT hV
  have hn := G.2.1
  rcases ix_or v1 (n := n) (by omega) with h1 | ⟨p, hp, rfl⟩
  · exact xal_bad hn (Or.inl h1) (yal_bad hn (Or.inl h1) ⟨rfl, rl_mk G hN hW hT hV⟩)
  rcases ix_or v2 (n := n) (by omega) with h2 | ⟨q, hq, rfl⟩
  · exact xal_bad hn (Or.inr h2) (yal_bad hn (Or.inr h2) ⟨rfl, rl_mk G hN hW hT hV⟩)
  by_cases h3 : v3 < 0 ∨ ¬ v3 ≤ 9
  · exact xal_rng hn hp hq h3 (yal_rng hn hp hq h3 ⟨rfl, rl_mk G hN hW hT hV⟩)
  obtain ⟨j, hj, rfl⟩ := nI_of2 (M := 9) (n := 9) (by decide) (fun y => h3 (Or.inl y)) (Classical.byContradiction (fun y => h3 (Or.inr y)))
  cases j with
  | zero =>
    refine xal_ok G hN hp hq hj (fun h => ?_) (fun _ => ?_)
    · obtain ⟨s, _, _, _, i, hi, _⟩ := h
      exact absurd hi (by omega)
    · intro lo le
      exact yal_0 hn hp hq ⟨rfl, rl_mk G hN hW hT hV⟩
  | succ j =>
    have eq : (∃ s, s < 2 ^ n ∧ (mb s p ∧ mb s q) ∧ Ind N s ∧ ∃ i, i < j + 1 ∧ Col N i (nd (2 ^ n - 1) s)) ↔ (∃ s, s < 2 ^ n ∧ (mb s p ∧ mb s q) ∧ Ind N s ∧ Col N j (nd (2 ^ n - 1) s)) := by
      constructor
      · rintro ⟨s, g1, g2, g3, i, hi, hc⟩
        exact ⟨s, g1, g2, g3, col_le hc (by omega)⟩
      · rintro ⟨s, g1, g2, g3, hc⟩
        exact ⟨s, g1, g2, g3, j, by omega, hc⟩
    refine xal_ok G hN hp hq hj (fun h => ?_) (fun h => ?_)
    · intro lo le
      exact yal_ok G hT hp hq hj (fun _ W Q A => ⟨rfl, rl_mk G hN hW hT hV⟩) (fun d => absurd (eq.mp h) d)
    · intro lo le
      exact yal_ok G hT hp hq hj (fun d => absurd (eq.mpr d) h) (fun _ W Q A => ⟨rfl, rl_mk G hN hW hT hV⟩)
end
