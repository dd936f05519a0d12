section
/-! rows of kit/rows (PURE-ROWS, BITS) and of the example large-2 (b01, cn), taken as starting texts -/
theorem pk_us {f : Nat → Int32} {k : Nat} {x : Int32} : upd f k x k = x := if_pos rfl
theorem pk_un {f : Nat → Int32} {k j : Nat} {x : Int32} (h : j ≠ k) : upd f k x j = f j := if_neg h
theorem pk_sub {a b : Nat} (h : b ≤ a) : nI a - nI b = nI (a - b) := by
  obtain ⟨c, rfl⟩ : ∃ c, a = c + b := ⟨a - b, by omega⟩
  rw [← nI_add, Int32.add_sub_cancel, Nat.add_sub_cancel]
theorem pk_m1 (n : Nat) : nI (n + 1) + (-1) = nI n := by
  rw [← nI_1, Int32.add_assoc, show (1 : Int32) + (-1) = 0 from rfl, Int32.add_zero]
theorem pk_mul (a b : Nat) : nI a * nI b = nI (a * b) := (Int32.ofNat_mul a b).symm
theorem pk_div {a d : Nat} (ha : a < 2 ^ 31) (h0 : 0 < d) (hd : d < 2 ^ 31) : nI a / nI d = nI (a / d) := by
  apply Int32.toInt_inj.mp
  rw [lg_idiv_nonneg (by rw [nI_toInt ha]; omega) (by rw [nI_toInt hd]; omega), nI_toInt ha, nI_toInt hd, nI_toInt (Nat.lt_of_le_of_lt (Nat.div_le_self a d) ha)]
  first | rfl | exact (Int.natCast_ediv _ _).symm
theorem pk_rem {a d : Nat} (ha : a < 2 ^ 31) (h0 : 0 < d) (hd : d < 2 ^ 31) : nI a - nI a / nI d * nI d = nI (a % d) := by
  rw [pk_div ha h0 hd, pk_mul, pk_sub (Nat.div_mul_le_self a d)]
  exact congrArg nI (by have := Nat.div_add_mod' a d; omega)
theorem pk_ix (x : Int32) {n : Nat} (hn : n < 2 ^ 31) : x < 0 ∨ nI n ≤ x ∨ ∃ j : Nat, j < n ∧ x = nI j := by
  by_cases h : x < 0
  · exact Or.inl h
  · obtain ⟨j, hj, rfl⟩ := nI_of h
    by_cases h2 : j < n
    · exact Or.inr (Or.inr ⟨j, h2, rfl⟩)
    · exact Or.inr (Or.inl (nI_le (by omega) hj))
theorem pk_le {x y : Int32} {A B : Prop} (a b : Nat) (f : a ≤ b → A) (g : b < a → B) (hx : x = nI a := by rfl) (hy : y = nI b := by rfl) (ha : a < 2 ^ 31 := by omega) (hb : b < 2 ^ 31 := by omega) : (x ≤ y → A) ∧ (¬ x ≤ y → B) := by
  subst hx hy
  rw [nI_leI ha hb]
  exact ⟨f, fun z => g (by omega)⟩
theorem pk_lt {x y : Int32} {A B : Prop} (a b : Nat) (f : a < b → A) (g : b ≤ a → B) (hx : x = nI a := by rfl) (hy : y = nI b := by rfl) (ha : a < 2 ^ 31 := by omega) (hb : b < 2 ^ 31 := by omega) : (x < y → A) ∧ (¬ x < y → B) := by
  subst hx hy
  rw [nI_ltI ha hb]
  exact ⟨f, fun z => g (by omega)⟩
theorem pk_eq {x y : Int32} {A B : Prop} (a b : Nat) (f : a = b → A) (g : a ≠ b → B) (hx : x = nI a := by rfl) (hy : y = nI b := by rfl) (ha : a < 2 ^ 31 := by omega) (hb : b < 2 ^ 31 := by omega) : (x = y → A) ∧ (¬ x = y → B) := by
  subst hx hy
  rw [nI_eq ha hb]
  exact ⟨f, g⟩
theorem pk_in {x : Int32} (n N : Nat) (h : n < N) (hx : x = nI n := by rfl) (hN : N < 2 ^ 31 := by omega) : vp_in x N := by
  subst hx
  exact vp_in_nI h hN
theorem pk_cl {x : Int32} (n : Nat) (hx : x = nI n := by rfl) (h : n < 2 ^ 31 := by omega) : x.toNatClampNeg = n := by
  subst hx
  exact nI_clamp h
theorem pk_tn {n : Nat} (h : n < 2 ^ 32) : (nI n).toBitVec.toNat = n := Nat.mod_eq_of_lt h
theorem pk_and (x : Int32) {m : Int32} (k : Nat) (hm : m.toBitVec.toNat = 2 ^ k - 1) : x &&& m = nI (x.toBitVec.toNat % 2 ^ k) := by
  apply Int32.toBitVec_inj.mp
  apply BitVec.eq_of_toNat_eq
  rw [Int32.toBitVec_and, BitVec.toNat_and, hm, Nat.and_two_pow_sub_one_eq_mod]
  show _ = (BitVec.ofNat 32 _).toNat
  rw [BitVec.toNat_ofNat]
  exact (Nat.mod_eq_of_lt (Nat.lt_of_le_of_lt (Nat.mod_le _ _) x.toBitVec.isLt)).symm
theorem pk_andN {n : Nat} (h : n < 2 ^ 32) {m : Int32} (k : Nat) (hm : m.toBitVec.toNat = 2 ^ k - 1) : nI n &&& m = nI (n % 2 ^ k) := by
  rw [pk_and _ k hm, pk_tn h]
theorem pk_shr (a s : Int32) (k : Nat) (hs : (s.toBitVec.smod 32).toNat = k) : (a >>> s).toInt = a.toInt >>> k := by
  show (a.toBitVec.sshiftRight (s.toBitVec.smod 32).toNat).toInt = _
  rw [hs, BitVec.toInt_sshiftRight]
  rfl
theorem pk_shrN {n : Nat} (h : n < 2 ^ 31) (s : Int32) (k : Nat) (hs : (s.toBitVec.smod 32).toNat = k) : nI n >>> s = nI (n / 2 ^ k) := by
  apply Int32.toInt_inj.mp
  have h2 : n / 2 ^ k ≤ n := Nat.div_le_self _ _
  rw [pk_shr _ _ k hs, nI_toInt h, nI_toInt (by omega), Int.shiftRight_eq_div_pow]
  rfl
theorem pk_ushr (x s : Int32) (k : Nat) (hs : ((s.toUInt32 &&& Int32.toUInt32 31).toBitVec % 32).toNat = k) : (x.toUInt32 >>> (s.toUInt32 &&& Int32.toUInt32 31)).toInt32.toBitVec.toNat = x.toBitVec.toNat / 2 ^ k := by
  have e : (x.toUInt32 >>> (s.toUInt32 &&& Int32.toUInt32 31)).toInt32.toBitVec = x.toBitVec >>> k := by
    rw [← hs]
    exact UInt32.toBitVec_shiftRight _ _
  rw [e, BitVec.toNat_ushiftRight, Nat.shiftRight_eq_div_pow]
theorem pk_nb (z : Int32) : narrow .byte (.int z.toInt8.toInt32) = .int z.toInt8.toInt32 := congrArg Value.int (by simp)
theorem pk_vb (z : Int32) : vp_nar .byte z.toInt8.toInt32 = z.toInt8.toInt32 := by rw [vp_nar_byte]; simp
theorem pk_least (P : Nat → Prop) (h : ∃ k, P k) : ∃ k, P k ∧ ∀ j, j < k → ¬ P j := by
  obtain ⟨k, hk⟩ := h
  induction k using Nat.strongRecOn with
  | ind k ih =>
    by_cases e : ∃ j, j < k ∧ P j
    · obtain ⟨j, hj, pj⟩ := e
      exact ih j hj pj
    · exact ⟨k, hk, fun j hj pj => e ⟨j, hj, pj⟩⟩
def bt (x : Int32) (i : Nat) : Bool := x.toBitVec.getLsbD i
theorem b_ext {x y : Int32} (h : ∀ i, i < 32 → bt x i = bt y i) : x = y := Int32.toBitVec_inj.mp (BitVec.eq_of_getLsbD_eq (fun i hi => h i hi))
theorem b_or (x y : Int32) (i : Nat) : bt (x ||| y) i = (bt x i || bt y i) := by unfold bt; rw [Int32.toBitVec_or, BitVec.getLsbD_or]
theorem b_and (x y : Int32) (i : Nat) : bt (x &&& y) i = (bt x i && bt y i) := by unfold bt; rw [Int32.toBitVec_and, BitVec.getLsbD_and]
theorem b_big {x : Int32} {i : Nat} (h : 32 ≤ i) : bt x i = false := BitVec.getLsbD_of_ge _ _ h
theorem b_0 (i : Nat) : bt 0 i = false := BitVec.getLsbD_zero
theorem s_l : ∀ n, n < 32 → ((nI n &&& 31).toBitVec.smod 32).toNat = n := by decide +kernel
theorem s_u : ∀ n, n < 32 → (((nI n).toUInt32 &&& Int32.toUInt32 31).toBitVec % 32).toNat = n := by decide +kernel
theorem b_shl (n : Nat) (hn : n < 32) (x : Int32) {i : Nat} (hi : i < 32) : bt (x <<< (nI n &&& 31)) i = (decide (n ≤ i) && bt x (i - n)) := by
  unfold bt
  rw [Int32.toBitVec_shiftLeft]
  show (x.toBitVec <<< ((nI n &&& 31).toBitVec.smod 32).toNat).getLsbD i = _
  rw [s_l n hn, BitVec.getLsbD_shiftLeft]
  rcases Nat.lt_or_ge i n with h | h
  · simp [h, Nat.not_le.mpr h]
  · simp [hi, h, Nat.not_lt.mpr h]
theorem b_ushr (n : Nat) (hn : n < 32) (x : Int32) (i : Nat) : bt ((x.toUInt32 >>> ((nI n).toUInt32 &&& Int32.toUInt32 31)).toInt32) i = bt x (n + i) := by
  show (x.toUInt32 >>> ((nI n).toUInt32 &&& Int32.toUInt32 31)).toBitVec.getLsbD i = x.toUInt32.toBitVec.getLsbD (n + i)
  rw [UInt32.toBitVec_shiftRight]
  show (x.toUInt32.toBitVec >>> (((nI n).toUInt32 &&& Int32.toUInt32 31).toBitVec % 32).toNat).getLsbD i = _
  rw [s_u n hn, BitVec.getLsbD_ushiftRight]
theorem b_sshr (n : Nat) (hn : n < 32) (x : Int32) {i : Nat} (hi : i < 32) : bt (x >>> (nI n &&& 31)) i = if n + i < 32 then bt x (n + i) else bt x 31 := by
  unfold bt
  rw [Int32.toBitVec_shiftRight]
  show (x.toBitVec.sshiftRight ((nI n &&& 31).toBitVec.smod 32).toNat).getLsbD i = _
  rw [s_l n hn, BitVec.getLsbD_sshiftRight, BitVec.msb_eq_getLsbD_last]
  simp [hi]
theorem nf_sh : ∀ l, l < 32 → ((1 : Int32) <<< (nI l &&& 31)).toBitVec = BitVec.twoPow 32 l := by decide +kernel
theorem nf_sl : ∀ l, l < 32 → (((nI l).toUInt32 &&& Int32.toUInt32 31).toBitVec % 32).toNat = l := by decide +kernel
noncomputable def b01 (P : Prop) : Nat := @ite Nat P (Classical.propDecidable P) 1 0
theorem b01_t {P : Prop} (h : P) : b01 P = 1 := by unfold b01; rw [if_pos h]
theorem b01_f {P : Prop} (h : ¬ P) : b01 P = 0 := by unfold b01; rw [if_neg h]
theorem b01_le (P : Prop) : b01 P ≤ 1 := by
  rcases Classical.em P with h | h
  · rw [b01_t h]; omega
  · rw [b01_f h]; omega
theorem b01_mono {P Q : Prop} (h : P → Q) : b01 P ≤ b01 Q := by
  rcases Classical.em P with hp | hp
  · rw [b01_t hp, b01_t (h hp)]; omega
  · rw [b01_f hp]; omega
noncomputable def cn (P : Nat → Prop) : Nat → Nat
  | 0 => 0
  | k + 1 => cn P k + b01 (P k)
theorem cn_mono {P Q : Nat → Prop} : ∀ {N : Nat}, (∀ k, k < N → P k → Q k) → cn P N ≤ cn Q N
  | 0, _ => Nat.le_refl _
  | N + 1, h => by
    have a := cn_mono (P := P) (Q := Q) (N := N) (fun k hk => h k (by omega))
    have b := b01_mono (h N (by omega))
    simp only [cn]; omega
theorem cn_lt {P Q : Nat → Prop} {a : Nat} (hp : ¬ P a) (hq : Q a) : ∀ {N : Nat}, (∀ k, k < N → P k → Q k) → a < N → cn P N < cn Q N
  | 0, _, h => by omega
  | N + 1, h, ha => by
    simp only [cn]
    rcases Nat.lt_or_ge a N with z | z
    · have x := cn_lt hp hq (N := N) (fun k hk => h k (by omega)) z
      have b := b01_mono (h N (by omega))
      omega
    · have e : a = N := by omega
      subst e
      have x := cn_mono (P := P) (Q := Q) (N := a) (fun k hk => h k (by omega))
      rw [b01_t hq, b01_f hp]; omega
theorem cn_le (P : Nat → Prop) : ∀ N, cn P N ≤ N
  | 0 => Nat.le_refl _
  | N + 1 => by have := cn_le P N; have := b01_le (P N); simp only [cn]; omega
theorem cn_eq {P Q : Nat → Prop} {N : Nat} (h : ∀ k, k < N → (P k ↔ Q k)) : cn P N = cn Q N :=
  Nat.le_antisymm (cn_mono fun k hk => (h k hk).mp) (cn_mono fun k hk => (h k hk).mpr)
theorem cn_add {P : Nat → Prop} {a : Nat} (hp : ¬ P a) : ∀ {N : Nat}, a < N → cn (fun k => P k ∨ k = a) N = cn P N + 1
  | 0, h => by omega
  | N + 1, h => by
    simp only [cn]
    rcases Nat.lt_or_ge a N with z | z
    · rw [cn_add hp z]
      have : b01 (P N ∨ N = a) = b01 (P N) := Nat.le_antisymm (b01_mono fun q => q.elim id (fun e => by omega)) (b01_mono Or.inl)
      omega
    · have e : a = N := by omega
      subst e
      rw [cn_eq (P := fun k => P k ∨ k = a) (Q := P) (fun k hk => ⟨fun q => q.elim id (fun e => by omega), Or.inl⟩), b01_t (Or.inr rfl), b01_f hp]
end
section
/-! bits, counts, values -/
theorem mr_b1 : ∀ i, i < 32 → bt 1 i = decide (i = 0) := by decide +kernel
theorem mr_and1 (x : Int32) : (x &&& 1) = 0 ↔ bt x 0 = false := by
  constructor
  · intro h
    have e : bt (x &&& 1) 0 = bt 0 0 := by rw [h]
    rw [b_and, b_0, mr_b1 0 (by decide)] at e
    simpa using e
  · intro h
    apply b_ext
    intro i hi
    rw [b_and, b_0, mr_b1 i hi]
    by_cases z : i = 0
    · subst z; rw [h]; rfl
    · simp [z]
theorem mr_and1t {x : Int32} (h : bt x 0 = true) : (x &&& 1) = 1 := by
  apply b_ext
  intro i hi
  rw [b_and, mr_b1 i hi]
  by_cases z : i = 0
  · subst z; rw [h]; rfl
  · simp [z]
theorem mr_bit {m : Int32} {a : Nat} (ha : a < 32) : ((m.toUInt32 >>> ((nI a).toUInt32 &&& Int32.toUInt32 31)).toInt32 &&& 1) = 0 ↔ bt m a = false := by
  rw [mr_and1, b_ushr a ha]; exact Iff.rfl
theorem mr_bitv {m : Int32} {a : Nat} (ha : a < 32) : ((m.toUInt32 >>> ((nI a).toUInt32 &&& Int32.toUInt32 31)).toInt32 &&& 1) = nI (b01 (bt m a = true)) := by
  cases h : bt m a with
  | true =>
    rw [b01_t rfl]
    refine mr_and1t ?_
    rw [b_ushr a ha]; exact h
  | false =>
    rw [b01_f (by decide), nI_0]
    exact (mr_bit ha).mpr h
theorem mr_sbit {m : Int32} {a : Nat} (ha : a < 32) : ((m >>> (nI a &&& 31)) &&& 1) = 0 ↔ bt m a = false := by
  rw [mr_and1, b_sshr a ha m (by decide), if_pos (by omega)]; exact Iff.rfl
theorem mr_set {m : Int32} {a i : Nat} (ha : a < 32) (hi : i < 32) : bt (m ||| ((1 : Int32) <<< (nI a &&& 31))) i = true ↔ (bt m i = true ∨ i = a) := by
  rw [b_or, b_shl a ha 1 hi, mr_b1 (i - a) (by omega)]
  by_cases z : i = a
  · subst z; simp
  · have : ¬ (a ≤ i ∧ i - a = 0) := by omega
    simp only [Bool.or_eq_true, Bool.and_eq_true, decide_eq_true_eq]
    constructor
    · rintro (h | h)
      · exact Or.inl h
      · exact absurd h this
    · rintro (h | h)
      · exact Or.inl h
      · exact absurd h z
theorem mr_cn_t {P : Nat → Prop} {k : Nat} (h : P k) : cn P (k + 1) = cn P k + 1 := by
  show cn P k + b01 (P k) = _
  rw [b01_t h]
theorem mr_cn_f {P : Nat → Prop} {k : Nat} (h : ¬ P k) : cn P (k + 1) = cn P k := by
  show cn P k + b01 (P k) = _
  rw [b01_f h]; rfl
theorem mr_cn_le {P : Nat → Prop} {a : Nat} : ∀ {b : Nat}, a ≤ b → cn P a ≤ cn P b := by
  intro b
  induction b with
  | zero => intro h; have : a = 0 := by omega
            subst this; exact Nat.le_refl _
  | succ b ih =>
    intro h
    rcases Nat.lt_or_ge b a with z | z
    · have : a = b + 1 := by omega
      subst this; exact Nat.le_refl _
    · exact Nat.le_trans (ih z) (Nat.le_add_right _ _)
theorem mr_cn_lt {P : Nat → Prop} {a n : Nat} (ha : P a) (h : a < n) : cn P a < cn P n := by
  have e := mr_cn_t ha
  have f : cn P (a + 1) ≤ cn P n := mr_cn_le h
  omega
theorem mr_cn_inj {P : Nat → Prop} {a b : Nat} (ha : P a) (hb : P b) (h : cn P a = cn P b) : a = b := by
  rcases Nat.lt_trichotomy a b with z | z | z
  · have := mr_cn_lt ha z; omega
  · exact z
  · have := mr_cn_lt hb z; omega
theorem mr_cn_sur {P : Nat → Prop} {p : Nat} : ∀ {n : Nat}, p < cn P n → ∃ a, a < n ∧ P a ∧ cn P a = p := by
  intro n
  induction n with
  | zero => intro h; exact absurd h (Nat.not_lt_zero _)
  | succ n ih =>
    intro h
    by_cases q : P n
    · rw [mr_cn_t q] at h
      rcases Nat.lt_or_ge p (cn P n) with z | z
      · obtain ⟨a, h1, h2⟩ := ih z
        exact ⟨a, by omega, h2⟩
      · exact ⟨n, by omega, q, by omega⟩
    · rw [mr_cn_f q] at h
      obtain ⟨a, h1, h2⟩ := ih h
      exact ⟨a, by omega, h2⟩
theorem mr_cn_all : ∀ n, cn (fun _ => True) n = n
  | 0 => rfl
  | n + 1 => by rw [mr_cn_t (P := fun _ => True) trivial, mr_cn_all n]
theorem mr_cn_none {P : Nat → Prop} : ∀ {n : Nat}, (∀ a, a < n → ¬ P a) → cn P n = 0 := by
  intro n
  induction n with
  | zero => intro _; rfl
  | succ n ih =>
    intro h
    rw [mr_cn_f (h n (by omega))]
    exact ih fun a ha => h a (by omega)
/-- as many as there are partners -/
theorem mr_pg {Q : Nat → Prop} {R : Nat → Nat → Prop} {n : Nat} (hf : ∀ a b b', R a b → R a b' → b = b') : ∀ (m : Nat) (P : Nat → Prop), (∀ b, b < m → Q b → ∃ a, a < n ∧ P a ∧ R a b) → cn Q m ≤ cn P n := by
  intro m
  induction m with
  | zero => intro P _; exact Nat.zero_le _
  | succ m ih =>
    intro P h
    by_cases q : Q m
    · obtain ⟨a, ha, hp, hr⟩ := h m (by omega) q
      have i := ih (fun k => P k ∧ k ≠ a) (fun b hb hq => by
        obtain ⟨a', ha', hp', hr'⟩ := h b (by omega) hq
        refine ⟨a', ha', ⟨hp', ?_⟩, hr'⟩
        intro e
        subst e
        have := hf _ _ _ hr hr'
        omega)
      have e : cn (fun k => (P k ∧ k ≠ a) ∨ k = a) n = cn (fun k => P k ∧ k ≠ a) n + 1 := cn_add (P := fun k => P k ∧ k ≠ a) (fun z => z.2 rfl) ha
      have f : cn (fun k => (P k ∧ k ≠ a) ∨ k = a) n ≤ cn P n := cn_mono fun k _ z => z.elim (fun y => y.1) (fun y => by rw [y]; exact hp)
      rw [mr_cn_t q]
      omega
    · rw [mr_cn_f q]
      exact ih P fun b hb hq => h b (by omega) hq
theorem mr_inj {a b : Nat} (ha : a < 2 ^ 31) (hb : b < 2 ^ 31) (h : nI a = nI b) : a = b := (nI_eq ha hb).mp h
/-! values: a sort and a number -/
def mr_S (s : Int32) : Prop := s = 0 ∨ s = 1 ∨ s = 2
def mr_V (R : Nat → Nat → Prop) (s n s' n' : Int32) : Prop := s' = s ∧ ((s = 0 ∧ n = 0) ∨ (s = 1 ∧ n' = n) ∨ (s = 2 ∧ ∃ a b, n = nI a ∧ n' = nI b ∧ R a b))
def mr_U (P : Nat → Prop) (s n : Int32) : Prop := (s = 0 ∧ n = 0) ∨ s = 1 ∨ (s = 2 ∧ ∃ a, n = nI a ∧ P a)
def mr_K (P : Nat → Prop) (s n : Int32) : Prop := s = 2 → ∀ a, a < 32 → n = nI a → P a
theorem mr_S_nar {s : Int32} (h : mr_S s) : vp_nar .byte s = s := by
  rcases h with h | h | h <;> subst h <;> rfl
theorem mr_S_cast {s : Int32} (h : mr_S s) : vp_nar .byte s.toInt8.toInt32 = s := by
  rcases h with h | h | h <;> subst h <;> rfl
theorem mr_V_S {R : Nat → Nat → Prop} {s n s' n' : Int32} (h : mr_V R s n s' n') : mr_S s := by
  rcases h.2 with h | h | h
  · exact Or.inl h.1
  · exact Or.inr (Or.inl h.1)
  · exact Or.inr (Or.inr h.1)
theorem mr_U_S {P : Nat → Prop} {s n : Int32} (h : mr_U P s n) : mr_S s := by
  rcases h with h | h | h
  · exact Or.inl h.1
  · exact Or.inr (Or.inl h)
  · exact Or.inr (Or.inr h.1)
theorem mr_V_imp {R R' : Nat → Nat → Prop} {s n s' n' : Int32} (h : mr_V R s n s' n') (k : ∀ a b, s = 2 → n = nI a → n' = nI b → R a b → R' a b) : mr_V R' s n s' n' := by
  refine ⟨h.1, ?_⟩
  rcases h.2 with h | h | ⟨e, a, b, ha, hb, r⟩
  · exact Or.inl h
  · exact Or.inr (Or.inl h)
  · exact Or.inr (Or.inr ⟨e, a, b, ha, hb, k a b e ha hb r⟩)
theorem mr_V_mono {R R' : Nat → Nat → Prop} {s n s' n' : Int32} (k : ∀ a b, R a b → R' a b) (h : mr_V R s n s' n') : mr_V R' s n s' n' := mr_V_imp h fun a b _ _ _ => k a b
theorem mr_V_obj {R : Nat → Nat → Prop} {s n s' n' : Int32} (h : mr_V R s n s' n') (e : s = 2) : ∃ a b, n = nI a ∧ n' = nI b ∧ R a b := by
  subst e
  rcases h.2 with h | h | h
  · exact absurd h.1 (by decide)
  · exact absurd h.1 (by decide)
  · exact h.2
theorem mr_V_int {R : Nat → Nat → Prop} {s n s' n' : Int32} (h : mr_V R s n s' n') (e : s = 1) : n' = n := by
  subst e
  rcases h.2 with h | h | h
  · exact absurd h.1 (by decide)
  · exact h.2
  · exact absurd h.1 (by decide)
theorem mr_V_nil {R : Nat → Nat → Prop} {s n s' n' : Int32} (h : mr_V R s n s' n') (e : s = 0) : n = 0 := by
  subst e
  rcases h.2 with h | h | h
  · exact h.2
  · exact absurd h.1 (by decide)
  · exact absurd h.1 (by decide)
theorem mr_V_0 {R : Nat → Nat → Prop} {n' : Int32} : mr_V R 0 0 0 n' := ⟨rfl, Or.inl ⟨rfl, rfl⟩⟩
theorem mr_V_1 {R : Nat → Nat → Prop} {n : Int32} : mr_V R 1 n 1 n := ⟨rfl, Or.inr (Or.inl ⟨rfl, rfl⟩)⟩
theorem mr_V_2 {R : Nat → Nat → Prop} {a b : Nat} (h : R a b) : mr_V R 2 (nI a) 2 (nI b) := ⟨rfl, Or.inr (Or.inr ⟨rfl, a, b, rfl, rfl, h⟩)⟩
theorem mr_U_obj {P : Nat → Prop} {s n : Int32} (h : mr_U P s n) (e : s = 2) : ∃ a, n = nI a ∧ P a := by
  subst e
  rcases h with h | h | h
  · exact absurd h.1 (by decide)
  · exact absurd h (by decide)
  · exact h.2
theorem mr_U_imp {P Q : Nat → Prop} {s n : Int32} (h : mr_U P s n) (k : ∀ a, s = 2 → n = nI a → P a → Q a) : mr_U Q s n := by
  rcases h with h | h | ⟨e, a, ha, p⟩
  · exact Or.inl h
  · exact Or.inr (Or.inl h)
  · exact Or.inr (Or.inr ⟨e, a, ha, k a e ha p⟩)
theorem mr_V_U {R : Nat → Nat → Prop} {P : Nat → Prop} {s n s' n' : Int32} (h : mr_V R s n s' n') (k : ∀ a b, R a b → P a) : mr_U P s n := by
  rcases h.2 with h | h | ⟨e, a, b, ha, hb, r⟩
  · exact Or.inl h
  · exact Or.inr (Or.inl h.1)
  · exact Or.inr (Or.inr ⟨e, a, ha, k a b r⟩)
theorem mr_K_imp {P Q : Nat → Prop} {s n : Int32} (k : ∀ a, a < 32 → P a → Q a) (h : mr_K P s n) : mr_K Q s n := fun e a ha en => k a ha (h e a ha en)
theorem mr_K_no {P : Nat → Prop} {s n : Int32} (h : ¬ s = 2) : mr_K P s n := fun e => absurd e h
theorem mr_K_at {P : Nat → Prop} {n : Int32} {s : Int32} {a : Nat} (ha : a < 32) (en : n = nI a) (h : P a) : mr_K P s n := by
  intro _ b hb eb
  have := mr_inj (by omega) (by omega) (en.symm.trans eb)
  subst this; exact h
/-! stores -/
theorem mr_uu {f : Nat → Int32} {k : Nat} {x y : Int32} : upd (upd f k x) k y = upd f k y := by
  funext j
  by_cases h : j = k
  · subst h; rw [pk_us, pk_us]
  · rw [pk_un h, pk_un h, pk_un h]
theorem mr_u0 {f : Nat → Int32} {k : Nat} {x : Int32} (h : f k = x) : upd f k x = f := by
  funext j
  by_cases z : j = k
  · subst z; rw [pk_us, h]
  · rw [pk_un z]
theorem mr_uc {f : Nat → Int32} {k l : Nat} {x y : Int32} (h : k ≠ l) : upd (upd f k x) l y = upd (upd f l y) k x := by
  funext j
  by_cases z : j = k
  · subst z; rw [pk_un h, pk_us, pk_us]
  · by_cases w : j = l
    · subst w; rw [pk_us, pk_un z, pk_us]
    · rw [pk_un w, pk_un z, pk_un z, pk_un w]
def mr_up (f : Nat → Nat) (k v : Nat) : Nat → Nat := fun j => if j = k then v else f j
theorem mr_up_s {f : Nat → Nat} {k v : Nat} : mr_up f k v k = v := if_pos rfl
theorem mr_up_n {f : Nat → Nat} {k v j : Nat} (h : j ≠ k) : mr_up f k v j = f j := if_neg h
end
section
/-! what is needed: the least set; heaps and roots -/
def mr_Ro (P : Nat → Prop) (F : Nat) (hh : Nat → Nat) (gs gn ls ln ss sn : Nat → Int32) : Prop :=
  (∀ g, g < 4 → mr_K P (gs g) (gn g)) ∧ (∀ k, k < 4 * F → mr_K P (ls k) (ln k)) ∧ (∀ f j, f < F → j < hh f → mr_K P (ss (6 * f + j)) (sn (6 * f + j)))
def mr_Cd (P : Nat → Prop) (fs fn : Nat → Int32) : Prop := ∀ a, P a → ∀ j, j < 3 → mr_K P (fs (3 * a + j)) (fn (3 * a + j))
def mr_L (F : Nat) (hh : Nat → Nat) (gs gn ls ln ss sn fs fn : Nat → Int32) (a : Nat) : Prop := ∀ P, mr_Ro P F hh gs gn ls ln ss sn → mr_Cd P fs fn → P a
def mr_RT (R : Nat → Nat → Prop) (F : Nat) (hh : Nat → Nat) (gs gn ls ln ss sn ygs ygn yls yln yss ysn : Nat → Int32) : Prop :=
  (∀ g, g < 4 → mr_V R (gs g) (gn g) (ygs g) (ygn g)) ∧ (∀ k, k < 4 * F → mr_V R (ls k) (ln k) (yls k) (yln k)) ∧ (∀ f j, f < F → j < hh f → mr_V R (ss (6 * f + j)) (sn (6 * f + j)) (yss (6 * f + j)) (ysn (6 * f + j)))
def mr_Ob (R : Nat → Nat → Prop) (cl fs fn ykd yfs yfn : Nat → Int32) (a b : Nat) : Prop :=
  (∃ c, c < 4 ∧ cl a = nI c ∧ ykd b = nI c) ∧ ∀ j, j < 3 → mr_V R (fs (3 * a + j)) (fn (3 * a + j)) (yfs (3 * b + j)) (yfn (3 * b + j))
def mr_Pl (o y a : Nat) : Prop := a < o ∨ (24 ≤ a ∧ a < 24 + y)
def mr_HP (R : Nat → Nat → Prop) (o y : Nat) (rm : Int32) (cl fs fn ykd yfs yfn : Nat → Int32) : Prop :=
  (o + y ≤ 16 ∧ y ≤ 8) ∧
  (∀ a b, R a b → mr_Pl o y a ∧ b < 16) ∧
  (∀ a b b', R a b → R a b' → b = b') ∧
  (∀ a a' b, R a b → R a' b → a = a') ∧
  (∀ a b, R a b → mr_Ob R cl fs fn ykd yfs yfn a b) ∧
  (∀ a, mr_Pl o y a → ∀ j, j < 3 → mr_U (mr_Pl o y) (fs (3 * a + j)) (fn (3 * a + j))) ∧
  (∀ a, a < o → ∀ j, j < 3 → fs (3 * a + j) = 2 → ∀ q, 24 ≤ q → q < 32 → fn (3 * a + j) = nI q → bt rm a = true)
def mr_FR (F : Nat) (hh : Nat → Nat) (dp du ydu : Nat → Int32) : Prop := F ≤ 10 ∧ (∀ f, f < F → dp f = nI (hh f) ∧ hh f ≤ 6 ∧ ydu f = du f) ∧ (∀ f, f + 1 < F → hh f ≤ 4)
theorem mr_Pl_lt {o y a : Nat} (h : o + y ≤ 16 ∧ y ≤ 8) (p : mr_Pl o y a) : a < 32 := by
  rcases p with p | p <;> omega
section
variable {R : Nat → Nat → Prop} {F : Nat} {hh : Nat → Nat} {gs gn ls ln ss sn cl fs fn ygs ygn yls yln yss ysn ykd yfs yfn : Nat → Int32}
theorem mr_L_ro : mr_Ro (mr_L F hh gs gn ls ln ss sn fs fn) F hh gs gn ls ln ss sn :=
  ⟨fun g hg e a ha en P h1 _ => h1.1 g hg e a ha en, fun k hk e a ha en P h1 _ => h1.2.1 k hk e a ha en, fun f j hf hj e a ha en P h1 _ => h1.2.2 f j hf hj e a ha en⟩
theorem mr_L_cd : mr_Cd (mr_L F hh gs gn ls ln ss sn fs fn) fs fn :=
  fun a h j hj e b hb en P h1 h2 => h2 a (h P h1 h2) j hj e b hb en
theorem mr_VK1 {N : Nat → Prop} {s n s' n' : Int32} (hR : ∀ a b, R a b → a < 32 ∧ b < 16) (h : mr_V R s n s' n') (k : mr_K N s' n') : mr_K (fun a => ∃ b, R a b ∧ N b) s n := by
  intro e a ha en
  obtain ⟨a', b, h1, h2, r⟩ := mr_V_obj h e
  have q := hR _ _ r
  have : a' = a := mr_inj (by omega) (by omega) (h1.symm.trans en)
  subst this
  exact ⟨b, r, k (h.1.trans e) b (by omega) h2⟩
theorem mr_VK2 {M : Nat → Prop} {s n s' n' : Int32} (hR : ∀ a b, R a b → a < 32 ∧ b < 16) (h : mr_V R s n s' n') (k : mr_K M s n) : mr_K (fun b => ∃ a, R a b ∧ M a) s' n' := by
  intro e b hb en
  have e' : s = 2 := h.1.symm.trans e
  obtain ⟨a, b', h1, h2, r⟩ := mr_V_obj h e'
  have q := hR _ _ r
  have : b' = b := mr_inj (by omega) (by omega) (h2.symm.trans en)
  subst this
  exact ⟨a, r, k e' a (by omega) h1⟩
theorem mr_LX (hR : ∀ a b, R a b → a < 32 ∧ b < 16) (hr : mr_RT R F hh gs gn ls ln ss sn ygs ygn yls yln yss ysn) (ho : ∀ a b, R a b → mr_Ob R cl fs fn ykd yfs yfn a b) {a : Nat} (h : mr_L F hh gs gn ls ln ss sn fs fn a) : ∃ b, R a b ∧ mr_L F hh ygs ygn yls yln yss ysn yfs yfn b := by
  have t := mr_L_ro (F := F) (hh := hh) (gs := ygs) (gn := ygn) (ls := yls) (ln := yln) (ss := yss) (sn := ysn) (fs := yfs) (fn := yfn)
  refine h _ ⟨fun g hg => mr_VK1 hR (hr.1 g hg) (t.1 g hg), fun k hk => mr_VK1 hR (hr.2.1 k hk) (t.2.1 k hk), fun f j hf hj => mr_VK1 hR (hr.2.2 f j hf hj) (t.2.2 f j hf hj)⟩ ?_
  rintro a ⟨b, r, l⟩ j hj
  exact mr_VK1 hR ((ho a b r).2 j hj) (mr_L_cd b l j hj)
theorem mr_LY (hR : ∀ a b, R a b → a < 32 ∧ b < 16) (hr : mr_RT R F hh gs gn ls ln ss sn ygs ygn yls yln yss ysn) (ho : ∀ a b, R a b → mr_Ob R cl fs fn ykd yfs yfn a b) {b : Nat} (h : mr_L F hh ygs ygn yls yln yss ysn yfs yfn b) : ∃ a, R a b ∧ mr_L F hh gs gn ls ln ss sn fs fn a := by
  have t := mr_L_ro (F := F) (hh := hh) (gs := gs) (gn := gn) (ls := ls) (ln := ln) (ss := ss) (sn := sn) (fs := fs) (fn := fn)
  refine h _ ⟨fun g hg => mr_VK2 hR (hr.1 g hg) (t.1 g hg), fun k hk => mr_VK2 hR (hr.2.1 k hk) (t.2.1 k hk), fun f j hf hj => mr_VK2 hR (hr.2.2 f j hf hj) (t.2.2 f j hf hj)⟩ ?_
  rintro b ⟨a, r, l⟩ j hj
  exact mr_VK2 hR ((ho a b r).2 j hj) (mr_L_cd a l j hj)
theorem mr_HP_R {o y : Nat} {rm : Int32} (h : mr_HP R o y rm cl fs fn ykd yfs yfn) : ∀ a b, R a b → a < 32 ∧ b < 16 :=
  fun a b r => ⟨mr_Pl_lt h.1 (h.2.1 a b r).1, (h.2.1 a b r).2⟩
/-- both sides need equally many -/
theorem mr_cnt {o y : Nat} {rm : Int32} (h : mr_HP R o y rm cl fs fn ykd yfs yfn) (hr : mr_RT R F hh gs gn ls ln ss sn ygs ygn yls yln yss ysn) : cn (mr_L F hh gs gn ls ln ss sn fs fn) 32 = cn (mr_L F hh ygs ygn yls yln yss ysn yfs yfn) 16 := by
  have hR := mr_HP_R h
  apply Nat.le_antisymm
  · refine mr_pg (R := fun b a => R a b) (fun b a a' => h.2.2.2.1 a a' b) 32 _ fun a _ l => ?_
    obtain ⟨b, r, l'⟩ := mr_LX hR hr h.2.2.2.2.1 l
    exact ⟨b, (hR _ _ r).2, l', r⟩
  · refine mr_pg (R := R) h.2.2.1 16 _ fun b _ l => ?_
    obtain ⟨a, r, l'⟩ := mr_LY hR hr h.2.2.2.2.1 l
    exact ⟨a, (hR _ _ r).1, l', r⟩
theorem mr_cnt_le {o y : Nat} {rm : Int32} (h : mr_HP R o y rm cl fs fn ykd yfs yfn) (hr : mr_RT R F hh gs gn ls ln ss sn ygs ygn yls yln yss ysn) : cn (mr_L F hh ygs ygn yls yln yss ysn yfs yfn) 16 ≤ o + y := by
  have hR := mr_HP_R h
  have t := mr_pg (Q := mr_L F hh ygs ygn yls yln yss ysn yfs yfn) (n := o + y) (R := fun k b => ∃ a, R a b ∧ ((a < o ∧ k = a) ∨ (24 ≤ a ∧ k = o + (a - 24)))) (by
    rintro k b b' ⟨a, r, q⟩ ⟨a', r', q'⟩
    have p := (h.2.1 _ _ r).1
    have p' := (h.2.1 _ _ r').1
    have g := h.1
    have : a = a' := by
      rcases q with q | q <;> rcases q' with q' | q' <;> omega
    subst this
    exact h.2.2.1 _ _ _ r r') 16 (fun _ => True) (fun b _ l => by
    obtain ⟨a, r, _⟩ := mr_LY hR hr h.2.2.2.2.1 l
    have g := h.1
    rcases (h.2.1 _ _ r).1 with p | p
    · exact ⟨a, by omega, trivial, a, r, Or.inl ⟨p, rfl⟩⟩
    · exact ⟨o + (a - 24), by omega, trivial, a, r, Or.inr ⟨p.1, rfl⟩⟩)
  rw [mr_cn_all] at t
  exact t
/-! the roots under changes -/
theorem mr_RT_imp {R' : Nat → Nat → Prop} (h : mr_RT R F hh gs gn ls ln ss sn ygs ygn yls yln yss ysn) (k : ∀ s n s' n', mr_V R s n s' n' → mr_V R' s n s' n') : mr_RT R' F hh gs gn ls ln ss sn ygs ygn yls yln yss ysn :=
  ⟨fun g hg => k _ _ _ _ (h.1 g hg), fun g hg => k _ _ _ _ (h.2.1 g hg), fun f j hf hj => k _ _ _ _ (h.2.2 f j hf hj)⟩
theorem mr_RT_glob {g0 : Nat} {s n s' n' : Int32} (h : mr_RT R F hh gs gn ls ln ss sn ygs ygn yls yln yss ysn) (v : mr_V R s n s' n') : mr_RT R F hh (upd gs g0 s) (upd gn g0 n) ls ln ss sn (upd ygs g0 s') (upd ygn g0 n') yls yln yss ysn := by
  refine ⟨fun g hg => ?_, h.2.1, h.2.2⟩
  by_cases z : g = g0
  · subst z; rw [pk_us, pk_us, pk_us, pk_us]; exact v
  · rw [pk_un z, pk_un z, pk_un z, pk_un z]; exact h.1 g hg
theorem mr_RT_loc {k0 : Nat} {s n s' n' : Int32} (h : mr_RT R F hh gs gn ls ln ss sn ygs ygn yls yln yss ysn) (v : mr_V R s n s' n') : mr_RT R F hh gs gn (upd ls k0 s) (upd ln k0 n) ss sn ygs ygn (upd yls k0 s') (upd yln k0 n') yss ysn := by
  refine ⟨h.1, fun g hg => ?_, h.2.2⟩
  by_cases z : g = k0
  · subst z; rw [pk_us, pk_us, pk_us, pk_us]; exact v
  · rw [pk_un z, pk_un z, pk_un z, pk_un z]; exact h.2.1 g hg
theorem mr_RT_stk {k0 : Nat} {s n s' n' : Int32} (h : mr_RT R F hh gs gn ls ln ss sn ygs ygn yls yln yss ysn) (v : mr_V R s n s' n') : mr_RT R F hh gs gn ls ln (upd ss k0 s) (upd sn k0 n) ygs ygn yls yln (upd yss k0 s') (upd ysn k0 n') := by
  refine ⟨h.1, h.2.1, fun f j hf hj => ?_⟩
  by_cases z : 6 * f + j = k0
  · subst z; rw [pk_us, pk_us, pk_us, pk_us]; exact v
  · rw [pk_un z, pk_un z, pk_un z, pk_un z]; exact h.2.2 f j hf hj
theorem mr_RT_dead {f0 d : Nat} {s n s' n' : Int32} (h : mr_RT R F hh gs gn ls ln ss sn ygs ygn yls yln yss ysn) (hb : ∀ f, f < F → hh f ≤ 6) (hd : hh f0 ≤ d) (hd6 : d < 6) : mr_RT R F hh gs gn ls ln (upd ss (6 * f0 + d) s) (upd sn (6 * f0 + d) n) ygs ygn yls yln (upd yss (6 * f0 + d) s') (upd ysn (6 * f0 + d) n') := by
  refine ⟨h.1, h.2.1, fun f j hf hj => ?_⟩
  have b := hb f hf
  have z : 6 * f + j ≠ 6 * f0 + d := by
    intro e
    have : f = f0 := by omega
    subst this
    omega
  rw [pk_un z, pk_un z, pk_un z, pk_un z]; exact h.2.2 f j hf hj
theorem mr_RT_h {hh' : Nat → Nat} (h : mr_RT R F hh gs gn ls ln ss sn ygs ygn yls yln yss ysn) (k : ∀ f, f < F → hh' f ≤ hh f) : mr_RT R F hh' gs gn ls ln ss sn ygs ygn yls yln yss ysn :=
  ⟨h.1, h.2.1, fun f j hf hj => h.2.2 f j hf (Nat.lt_of_lt_of_le hj (k f hf))⟩
theorem mr_RT_push {t : Nat} {s n s' n' : Int32} (h : mr_RT R (t + 1) hh gs gn ls ln ss sn ygs ygn yls yln yss ysn) (hb : ∀ f, f < t + 1 → hh f ≤ 6) (hd : hh t < 6) (v : mr_V R s n s' n') : mr_RT R (t + 1) (mr_up hh t (hh t + 1)) gs gn ls ln (upd ss (6 * t + hh t) s) (upd sn (6 * t + hh t) n) ygs ygn yls yln (upd yss (6 * t + hh t) s') (upd ysn (6 * t + hh t) n') := by
  refine ⟨h.1, h.2.1, fun f j hf hj => ?_⟩
  have b := hb f hf
  by_cases z : f = t
  · subst z
    rw [mr_up_s] at hj
    by_cases w : j = hh f
    · subst w; rw [pk_us, pk_us, pk_us, pk_us]; exact v
    · have z : 6 * f + j ≠ 6 * f + hh f := by omega
      rw [pk_un z, pk_un z, pk_un z, pk_un z]; exact h.2.2 f j hf (by omega)
  · rw [mr_up_n z] at hj
    have z : 6 * f + j ≠ 6 * t + hh t := by omega
    rw [pk_un z, pk_un z, pk_un z, pk_un z]; exact h.2.2 f j hf hj
theorem mr_RT_drop {t d : Nat} (h : mr_RT R F hh gs gn ls ln ss sn ygs ygn yls yln yss ysn) (hd : d ≤ hh t) : mr_RT R F (mr_up hh t d) gs gn ls ln ss sn ygs ygn yls yln yss ysn := by
  refine mr_RT_h h fun f _ => ?_
  by_cases z : f = t
  · subst z; rw [mr_up_s]; exact hd
  · rw [mr_up_n z]; exact Nat.le_refl _
theorem mr_RT_F {F' : Nat} (h : mr_RT R F hh gs gn ls ln ss sn ygs ygn yls yln yss ysn) (k : F' ≤ F) : mr_RT R F' hh gs gn ls ln ss sn ygs ygn yls yln yss ysn :=
  ⟨h.1, fun g hg => h.2.1 g (by omega), fun f j hf hj => h.2.2 f j (by omega) hj⟩
/-- a new frame -/
theorem mr_RT_open {ls' ln' yls' yln' : Nat → Int32} (h : mr_RT R F hh gs gn ls ln ss sn ygs ygn yls yln yss ysn) (k : ∀ g, g < 4 * F → ls' g = ls g ∧ ln' g = ln g ∧ yls' g = yls g ∧ yln' g = yln g) (v : ∀ j, j < 4 → mr_V R (ls' (4 * F + j)) (ln' (4 * F + j)) (yls' (4 * F + j)) (yln' (4 * F + j))) : mr_RT R (F + 1) (mr_up hh F 0) gs gn ls' ln' ss sn ygs ygn yls' yln' yss ysn := by
  refine ⟨h.1, fun g hg => ?_, fun f j hf hj => ?_⟩
  · by_cases z : g < 4 * F
    · obtain ⟨e1, e2, e3, e4⟩ := k g z
      rw [e1, e2, e3, e4]; exact h.2.1 g z
    · have e : g = 4 * F + (g - 4 * F) := by omega
      rw [e]; exact v (g - 4 * F) (by omega)
  · by_cases z : f = F
    · subst z; rw [mr_up_s] at hj; omega
    · rw [mr_up_n z] at hj
      exact h.2.2 f j (by omega) hj
theorem mr_FR_at {dp du ydu : Nat → Int32} {t d : Nat} {i : Int32} (h : mr_FR (t + 1) hh dp du ydu) (hd : d ≤ 6) : mr_FR (t + 1) (mr_up hh t d) (upd dp t (nI d)) (upd du t i) (upd ydu t i) := by
  refine ⟨h.1, fun f hf => ?_, fun f hf => by rw [mr_up_n (by omega)]; exact h.2.2 f hf⟩
  by_cases z : f = t
  · subst z; rw [mr_up_s, pk_us, pk_us, pk_us]; exact ⟨rfl, hd, rfl⟩
  · rw [mr_up_n z, pk_un z, pk_un z, pk_un z]; exact h.2.1 f hf
theorem mr_FR_i {dp du ydu : Nat → Int32} {t : Nat} {i : Int32} (h : mr_FR (t + 1) hh dp du ydu) : mr_FR (t + 1) hh dp (upd du t i) (upd ydu t i) := by
  refine ⟨h.1, fun f hf => ?_, h.2.2⟩
  by_cases z : f = t
  · subst z; rw [pk_us, pk_us]; exact ⟨(h.2.1 f hf).1, (h.2.1 f hf).2.1, rfl⟩
  · rw [pk_un z, pk_un z]; exact h.2.1 f hf
theorem mr_FR_open {dp du ydu : Nat → Int32} {i : Int32} (h : mr_FR F hh dp du ydu) (hF : F < 10) (h4 : ∀ f, f + 1 = F → hh f ≤ 4) : mr_FR (F + 1) (mr_up hh F 0) (upd dp F 0) (upd du F i) (upd ydu F i) := by
  refine ⟨by omega, fun f hf => ?_, fun f hf => ?_⟩
  · by_cases z : f = F
    · subst z; rw [mr_up_s, pk_us, pk_us, pk_us]; exact ⟨nI_0.symm, by omega, rfl⟩
    · rw [mr_up_n z, pk_un z, pk_un z, pk_un z]; exact h.2.1 f (by omega)
  · rw [mr_up_n (by omega)]
    by_cases z : f + 1 = F
    · exact h4 f z
    · exact h.2.2 f (by omega)
/-- back to the caller's frame, with one value more -/
theorem mr_FR_back {dp du ydu : Nat → Int32} {t : Nat} {i : Int32} (h : mr_FR (t + 1 + 1) hh dp du ydu) : mr_FR (t + 1) (mr_up hh t (hh t + 1)) (upd dp t (nI (hh t + 1))) du (upd ydu (t + 1) i) := by
  have := h.1
  have h4 := h.2.2 t (by omega)
  refine ⟨by omega, fun f hf => ?_, fun f hf => by rw [mr_up_n (by omega)]; exact h.2.2 f (by omega)⟩
  by_cases z : f = t
  · subst z; rw [mr_up_s, pk_us, pk_un (by omega)]; exact ⟨rfl, by omega, (h.2.1 f (by omega)).2.2⟩
  · rw [mr_up_n z, pk_un z, pk_un (by omega)]; exact h.2.1 f (by omega)
end
end
section
/-! the heap under PUT, NEW and the two collections -/
section
variable {R : Nat → Nat → Prop} {F o y : Nat} {hh : Nat → Nat} {rm : Int32} {gs gn ls ln ss sn cl fs fn ygs ygn yls yln yss ysn ykd yfs yfn : Nat → Int32}
theorem mr_Ob_imp {R' : Nat → Nat → Prop} {a b : Nat} (h : mr_Ob R cl fs fn ykd yfs yfn a b) (k : ∀ j, j < 3 → mr_V R (fs (3 * a + j)) (fn (3 * a + j)) (yfs (3 * b + j)) (yfn (3 * b + j)) → mr_V R' (fs (3 * a + j)) (fn (3 * a + j)) (yfs (3 * b + j)) (yfn (3 * b + j))) : mr_Ob R' cl fs fn ykd yfs yfn a b :=
  ⟨h.1, fun j hj => k j hj (h.2 j hj)⟩
theorem mr_HP_put {rm' : Int32} {a b j : Nat} {s n s' n' : Int32} (h : mr_HP R o y rm cl fs fn ykd yfs yfn) (r : R a b) (hj : j < 3) (v : mr_V R s n s' n') (m1 : ∀ i, i < 32 → bt rm i = true → bt rm' i = true) (m2 : a < o → s = 2 → ∀ q, 24 ≤ q → q < 32 → n = nI q → bt rm' a = true) : mr_HP R o y rm' cl (upd fs (3 * a + j) s) (upd fn (3 * a + j) n) ykd (upd yfs (3 * b + j) s') (upd yfn (3 * b + j) n') := by
  obtain ⟨h1, h2, h3, h4, h5, h6, h7⟩ := h
  refine ⟨h1, h2, h3, h4, fun a1 b1 r1 => ⟨(h5 a1 b1 r1).1, fun j1 hj1 => ?_⟩, fun a1 p1 j1 hj1 => ?_, fun a1 p1 j1 hj1 => ?_⟩
  · by_cases z : 3 * a1 + j1 = 3 * a + j
    · have e1 : a1 = a := by omega
      have e2 : j1 = j := by omega
      subst e1 e2
      have e3 := h3 _ _ _ r1 r
      subst e3
      rw [pk_us, pk_us, pk_us, pk_us]; exact v
    · have w : 3 * b1 + j1 ≠ 3 * b + j := by
        intro e
        have e1 : b1 = b := by omega
        have e2 : j1 = j := by omega
        subst e1 e2
        have e3 := h4 _ _ _ r1 r
        subst e3
        exact z rfl
      rw [pk_un z, pk_un z, pk_un w, pk_un w]
      exact (h5 a1 b1 r1).2 j1 hj1
  · by_cases z : 3 * a1 + j1 = 3 * a + j
    · rw [z, pk_us, pk_us]
      exact mr_V_U v fun a b r => (h2 a b r).1
    · rw [pk_un z, pk_un z]; exact h6 a1 p1 j1 hj1
  · by_cases z : 3 * a1 + j1 = 3 * a + j
    · have e1 : a1 = a := by omega
      subst e1
      rw [z, pk_us, pk_us]
      exact m2 p1
    · rw [pk_un z, pk_un z]
      intro e q q1 q2 e2
      have := h1
      exact m1 a1 (by omega) (h7 a1 p1 j1 hj1 e q q1 q2 e2)
/-- restrict to what is needed, and a new object -/
theorem mr_HP_new {N : Nat → Prop} {bn c : Nat} {cl' fs' fn' ykd' yfs' : Nat → Int32} (h : mr_HP R o y rm cl fs fn ykd yfs yfn) (hN : mr_Cd N yfs yfn) (hb : ¬ N bn) (hbn : bn < 16) (hy : y < 8) (hoy : o + y < 16) (hc : c < 4)
    (e1 : ∀ k, k < 3 * (24 + y) → fs' k = fs k ∧ fn' k = fn k) (e2 : ∀ j, j < 3 → fs' (3 * (24 + y) + j) = 0 ∧ fn' (3 * (24 + y) + j) = 0) (e3 : ∀ k, ¬ (3 * bn ≤ k ∧ k < 3 * bn + 3) → yfs' k = yfs k) (e4 : ∀ j, j < 3 → yfs' (3 * bn + j) = 0)
    (e5 : ∀ a, a ≠ 24 + y → cl' a = cl a) (e6 : cl' (24 + y) = nI c) (e7 : ∀ b, b ≠ bn → ykd' b = ykd b) (e8 : ykd' bn = nI c) :
    mr_HP (fun a b => (R a b ∧ N b) ∨ (a = 24 + y ∧ b = bn)) o (y + 1) rm cl' fs' fn' ykd' yfs' yfn := by
  obtain ⟨h1, h2, h3, h4, h5, h6, h7⟩ := h
  have pl : ∀ a, mr_Pl o y a → a < 24 + y := fun a p => by rcases p with p | p <;> omega
  have pl' : ∀ a, mr_Pl o y a → mr_Pl o (y + 1) a := fun a p => by
    rcases p with p | p
    · exact Or.inl p
    · exact Or.inr ⟨p.1, by omega⟩
  refine ⟨⟨by omega, by omega⟩, ?_, ?_, ?_, ?_, ?_, ?_⟩
  · rintro a b (⟨r, _⟩ | ⟨rfl, rfl⟩)
    · exact ⟨pl' a (h2 a b r).1, (h2 a b r).2⟩
    · exact ⟨Or.inr ⟨by omega, by omega⟩, hbn⟩
  · rintro a b b' (⟨r, _⟩ | ⟨rfl, rfl⟩) (⟨r', _⟩ | ⟨e, rfl⟩)
    · exact h3 _ _ _ r r'
    · have := pl _ (h2 _ _ r).1; omega
    · have := pl _ (h2 _ _ r').1; omega
    · rfl
  · rintro a a' b (⟨r, l⟩ | ⟨rfl, rfl⟩) (⟨r', l'⟩ | ⟨rfl, e⟩)
    · exact h4 _ _ _ r r'
    · subst e; exact absurd l hb
    · exact absurd l' hb
    · rfl
  · rintro a b (⟨r, l⟩ | ⟨rfl, rfl⟩)
    · have p := pl _ (h2 _ _ r).1
      have nb : b ≠ bn := fun e => hb (e ▸ l)
      refine ⟨?_, fun j hj => ?_⟩
      · rw [e5 a (by omega), e7 b nb]; exact (h5 a b r).1
      · rw [(e1 (3 * a + j) (by omega)).1, (e1 (3 * a + j) (by omega)).2, e3 (3 * b + j) (by omega)]
        refine mr_V_imp ((h5 a b r).2 j hj) fun a' b' q q1 q2 r' => Or.inl ⟨r', ?_⟩
        exact hN b l j hj (((h5 a b r).2 j hj).1.trans q) b' (by have := (h2 _ _ r').2; omega) q2
    · refine ⟨⟨c, hc, e6, e8⟩, fun j hj => ?_⟩
      rw [(e2 j hj).1, (e2 j hj).2, e4 j hj]; exact mr_V_0
  · intro a p j hj
    by_cases z : a = 24 + y
    · subst z
      rw [(e2 j hj).1, (e2 j hj).2]; exact Or.inl ⟨rfl, rfl⟩
    · have p' : mr_Pl o y a := by
        rcases p with p | p
        · exact Or.inl p
        · exact Or.inr ⟨p.1, by omega⟩
      have := pl a p'
      rw [(e1 (3 * a + j) (by omega)).1, (e1 (3 * a + j) (by omega)).2]
      exact mr_U_imp (h6 a p' j hj) fun q _ _ pq => pl' q pq
  · intro a p j hj
    rw [(e1 (3 * a + j) (by omega)).1, (e1 (3 * a + j) (by omega)).2]
    exact h7 a p j hj
theorem mr_RT_new {N : Nat → Prop} {X : Nat → Nat → Prop} (hR : ∀ a b, R a b → a < 32 ∧ b < 16) (h : mr_RT R F hh gs gn ls ln ss sn ygs ygn yls yln yss ysn) (hN : mr_Ro N F hh ygs ygn yls yln yss ysn) : mr_RT (fun a b => (R a b ∧ N b) ∨ X a b) F hh gs gn ls ln ss sn ygs ygn yls yln yss ysn := by
  have k : ∀ {s n s' n'}, mr_V R s n s' n' → mr_K N s' n' → mr_V (fun a b => (R a b ∧ N b) ∨ X a b) s n s' n' := fun v kn =>
    mr_V_imp v fun a b e _ q2 r => Or.inl ⟨r, kn (v.1.trans e) b (by have := (hR _ _ r).2; omega) q2⟩
  exact ⟨fun g hg => k (h.1 g hg) (hN.1 g hg), fun g hg => k (h.2.1 g hg) (hN.2.1 g hg), fun f j hf hj => k (h.2.2 f j hf hj) (hN.2.2 f j hf hj)⟩
/-- everything moved to its rank -/
def mr_RA (M : Nat → Prop) (R : Nat → Nat → Prop) (p b : Nat) : Prop := ∃ a, M a ∧ R a b ∧ p = cn M a
theorem mr_HP_all {M : Nat → Prop} (h : mr_HP R o y rm cl fs fn ykd yfs yfn) (hM : ∀ a, M a → a < 32 ∧ ∃ b, R a b) (hc : cn M 32 ≤ 16) {cl' fs' fn' : Nat → Int32} (ho : ∀ a b, M a → R a b → mr_Ob (mr_RA M R) cl' fs' fn' ykd yfs yfn (cn M a) b) : mr_HP (mr_RA M R) (cn M 32) 0 0 cl' fs' fn' ykd yfs yfn := by
  obtain ⟨h1, h2, h3, h4, h5, h6, h7⟩ := h
  have lt : ∀ p b, mr_RA M R p b → p < cn M 32 := by
    rintro p b ⟨a, m, r, rfl⟩
    exact mr_cn_lt m (hM a m).1
  refine ⟨⟨by omega, by omega⟩, fun p b r => ⟨Or.inl (lt p b r), ?_⟩, ?_, ?_, ?_, ?_, ?_⟩
  · obtain ⟨a, m, r, e⟩ := r; exact (h2 a b r).2
  · rintro p b b' ⟨a, m, r, rfl⟩ ⟨a', m', r', e⟩
    have := mr_cn_inj m m' e
    subst this
    exact h3 _ _ _ r r'
  · rintro p p' b ⟨a, m, r, rfl⟩ ⟨a', m', r', rfl⟩
    have := h4 _ _ _ r r'
    subst this
    rfl
  · rintro p b ⟨a, m, r, rfl⟩
    exact ho a b m r
  · intro p hp j hj
    have hp : p < cn M 32 := by
      rcases hp with hp | hp
      · exact hp
      · omega
    obtain ⟨a, ha, m, rfl⟩ := mr_cn_sur hp
    obtain ⟨b, r⟩ := (hM a m).2
    exact mr_V_U ((ho a b m r).2 j hj) fun a' b' r' => Or.inl (lt a' b' r')
  · intro p hp j hj e q q1 q2 e2
    obtain ⟨a, ha, m, rfl⟩ := mr_cn_sur hp
    obtain ⟨b, r⟩ := (hM a m).2
    obtain ⟨a', b', e3, _, r'⟩ := mr_V_obj ((ho a b m r).2 j hj) e
    have l := lt _ _ r'
    have := mr_inj (by omega) (by omega) (e3.symm.trans e2)
    omega
/-! collecting young objects: R relates both copies -/
def mr_P8 (o a : Nat) : Prop := a < o ∨ (24 ≤ a ∧ a < 32)
def mr_CY (nx : Nat) (rm : Int32) (ykd yfs yfn : Nat → Int32) (R : Nat → Nat → Prop) (o : Nat) (cl fs fn mt : Nat → Int32) : Prop :=
  (nx + 8 ≤ 16 ∧ o = nx + cn (fun y => ¬ mt y = -1) 8) ∧
  (∀ y, y < 8 → mt y = -1 ∨ ∃ p, nx ≤ p ∧ p < o ∧ mt y = nI p) ∧
  (∀ a b, R a b → mr_P8 o a ∧ b < 16) ∧
  (∀ a b b', R a b → R a b' → b = b') ∧
  (∀ a a' b, R a b → R a' b → (a < 24 ↔ a' < 24) → a = a') ∧
  (∀ y p b, y < 8 → R (24 + y) b → R p b → p < 24 → mt y = nI p) ∧
  (∀ y p b, y < 8 → p < 24 → mt y = nI p → R (24 + y) b → R p b) ∧
  (∀ a b, R a b → mr_Ob R cl fs fn ykd yfs yfn a b) ∧
  (∀ a, mr_P8 o a → ∀ j, j < 3 → mr_U (mr_P8 o) (fs (3 * a + j)) (fn (3 * a + j))) ∧
  (∀ a, a < nx → bt rm a = false → ∀ j, j < 3 → mr_K (fun q => q < 24) (fs (3 * a + j)) (fn (3 * a + j)))
def mr_DN (fs fn : Nat → Int32) (a : Nat) : Prop := ∀ j, j < 3 → mr_K (fun q => q < 24) (fs (3 * a + j)) (fn (3 * a + j))
variable {nx : Nat} {mt : Nat → Int32}
theorem mr_m1 {p : Nat} (h : p < 2 ^ 31) : ¬ nI p = -1 := by
  intro e
  have := nI_toInt h
  rw [e] at this
  have q : (-1 : Int32).toInt = -1 := by decide
  omega
theorem mr_VK24 {s n s' n' : Int32} (hR : ∀ a b, R a b → a < 32 ∧ b < 16) (v : mr_V R s n s' n') (k : mr_K (fun q => q < 24) s n) : mr_V (fun a b => R a b ∧ a < 24) s n s' n' :=
  mr_V_imp v fun a b e e1 _ r => ⟨r, k e a (hR a b r).1 e1⟩
theorem mr_CY_0 (h : mr_HP R o 8 rm cl fs fn ykd yfs yfn) (hm : ∀ y, y < 8 → mt y = -1) : mr_CY o rm ykd yfs yfn R o cl fs fn mt := by
  obtain ⟨h1, h2, h3, h4, h5, h6, h7⟩ := h
  refine ⟨⟨by omega, ?_⟩, fun y hy => Or.inl (hm y hy), h2, h3, fun a a' b r r' _ => h4 a a' b r r', ?_, ?_, h5, h6, ?_⟩
  · rw [mr_cn_none fun y hy => not_not_intro (hm y hy)]; rfl
  · intro y p b hy r r' hp
    have := h4 _ _ _ r r'
    omega
  · intro y p b hy hp e
    rw [hm y hy] at e
    exact absurd e.symm (mr_m1 (by omega))
  · intro a ha hb j hj e q hq e2
    rcases Nat.lt_or_ge q 24 with z | z
    · exact z
    · have := h7 a ha j hj e q z hq e2
      rw [hb] at this
      exact absurd this (by decide)
theorem mr_CY_lt (h : mr_CY nx rm ykd yfs yfn R o cl fs fn mt) : nx ≤ o ∧ o ≤ nx + 8 ∧ o ≤ 16 := by
  have := h.1
  have := cn_le (fun y => ¬ mt y = -1) 8
  omega
theorem mr_CY_R (h : mr_CY nx rm ykd yfs yfn R o cl fs fn mt) : ∀ a b, R a b → a < 32 ∧ b < 16 := by
  intro a b r
  have l := mr_CY_lt h
  have q := h.2.2.1 a b r
  refine ⟨?_, q.2⟩
  rcases q.1 with q | q <;> omega
theorem mr_CY_new {y : Nat} {cl' fs' fn' : Nat → Int32} (h : mr_CY nx rm ykd yfs yfn R o cl fs fn mt) (hy : y < 8) (hm : mt y = -1)
    (e1 : ∀ k, ¬ (3 * o ≤ k ∧ k < 3 * o + 3) → fs' k = fs k ∧ fn' k = fn k) (e2 : ∀ j, j < 3 → fs' (3 * o + j) = fs (3 * (24 + y) + j) ∧ fn' (3 * o + j) = fn (3 * (24 + y) + j)) (e3 : ∀ a, a ≠ o → cl' a = cl a) (e4 : cl' o = vp_nar .byte (cl (24 + y))) :
    o < 16 ∧ mr_CY nx rm ykd yfs yfn (fun a b => R a b ∨ (a = o ∧ R (24 + y) b)) (o + 1) cl' fs' fn' (upd mt y (nI o)) := by
  have hR := mr_CY_R h
  obtain ⟨⟨h1, h1'⟩, h2, h3, h4, h5, h6, h7, h8, h9, h10⟩ := h
  have c1 : cn (fun z => ¬ upd mt y (nI o) z = -1) 8 = cn (fun z => ¬ mt z = -1) 8 + 1 := by
    rw [← cn_add (P := fun z => ¬ mt z = -1) (a := y) (fun z => z hm) hy]
    refine cn_eq fun k hk => ?_
    by_cases z : k = y
    · subst z
      rw [pk_us]
      exact ⟨fun _ => Or.inr rfl, fun _ => mr_m1 (by have := cn_le (fun y => ¬ mt y = -1) 8; omega)⟩
    · rw [pk_un z]
      exact ⟨fun q => Or.inl q, fun q => q.elim id fun e => absurd e z⟩
  have c2 : cn (fun z => ¬ upd mt y (nI o) z = -1) 8 ≤ 8 := cn_le _ _
  have ho : o < 16 := by omega
  have mono : ∀ {s n s' n'}, mr_V R s n s' n' → mr_V (fun a b => R a b ∨ (a = o ∧ R (24 + y) b)) s n s' n' := fun v => mr_V_mono (fun a b r => Or.inl r) v
  have p8 : ∀ a, mr_P8 o a → mr_P8 (o + 1) a := fun a p => by
    rcases p with p | p
    · exact Or.inl (by omega)
    · exact Or.inr p
  have no : ∀ b, ¬ R o b := fun b r => by
    rcases (h3 _ _ r).1 with p | p <;> omega
  refine ⟨ho, ⟨h1, by omega⟩, ?_, ?_, ?_, ?_, ?_, ?_, ?_, ?_, ?_⟩
  · intro z hz
    by_cases w : z = y
    · subst w; rw [pk_us]; exact Or.inr ⟨o, by omega, by omega, rfl⟩
    · rw [pk_un w]
      rcases h2 z hz with q | ⟨p, q1, q2, q3⟩
      · exact Or.inl q
      · exact Or.inr ⟨p, q1, by omega, q3⟩
  · rintro a b (r | ⟨rfl, r⟩)
    · exact ⟨p8 a (h3 a b r).1, (h3 a b r).2⟩
    · exact ⟨Or.inl (by omega), (h3 _ b r).2⟩
  · rintro a b b' (r | ⟨rfl, r⟩) (r' | ⟨e, r'⟩)
    · exact h4 _ _ _ r r'
    · subst e; exact absurd r (no b)
    · exact absurd r' (no b')
    · exact h4 _ _ _ r r'
  · rintro a a' b (r | ⟨rfl, r⟩) (r' | ⟨e, r'⟩) q
    · exact h5 _ _ _ r r' q
    · subst e
      have := h6 y a b hy r' r (by omega)
      rw [hm] at this
      exact absurd this.symm (mr_m1 (by have := (hR _ _ r).1; omega))
    · have := h6 y a' b hy r r' (by omega)
      rw [hm] at this
      exact absurd this.symm (mr_m1 (by have := (hR _ _ r').1; omega))
    · exact e.symm
  · rintro z p b hz (r | ⟨e, r⟩) (r' | ⟨rfl, r'⟩) hp
    · have e := h6 z p b hz r r' hp
      have w : z ≠ y := by
        intro w; subst w
        rw [hm] at e
        exact absurd e.symm (mr_m1 (by omega))
      rw [pk_un w]; exact e
    · have e := h5 _ _ _ r r' (by omega)
      have w : z = y := by omega
      subst w
      rw [pk_us]
    · omega
    · omega
  · rintro z p b hz hp e (r | ⟨e', r⟩)
    · by_cases w : z = y
      · subst w
        rw [pk_us] at e
        have := mr_inj (by omega) (by omega) e
        exact Or.inr ⟨this.symm, r⟩
      · rw [pk_un w] at e
        exact Or.inl (h7 z p b hz hp e r)
    · omega
  · rintro a b (r | ⟨rfl, r⟩)
    · have na : a ≠ o := fun e => no b (e ▸ r)
      refine ⟨?_, fun j hj => ?_⟩
      · rw [e3 a na]; exact (h8 a b r).1
      · rw [(e1 (3 * a + j) (by omega)).1, (e1 (3 * a + j) (by omega)).2]
        exact mono ((h8 a b r).2 j hj)
    · refine ⟨?_, fun j hj => ?_⟩
      · obtain ⟨c, hc, q1, q2⟩ := (h8 _ _ r).1
        refine ⟨c, hc, ?_, q2⟩
        rw [e4, q1]
        have : c = 0 ∨ c = 1 ∨ c = 2 ∨ c = 3 := by omega
        rcases this with rfl | rfl | rfl | rfl <;> rfl
      · rw [(e2 j hj).1, (e2 j hj).2]
        exact mono ((h8 _ _ r).2 j hj)
  · intro a p j hj
    by_cases z : a = o
    · subst z
      rw [(e2 j hj).1, (e2 j hj).2]
      exact mr_U_imp (h9 (24 + y) (Or.inr ⟨by omega, by omega⟩) j hj) fun q _ _ => p8 q
    · have p' : mr_P8 o a := by
        rcases p with p | p
        · exact Or.inl (by omega)
        · exact Or.inr p
      rw [(e1 (3 * a + j) (by omega)).1, (e1 (3 * a + j) (by omega)).2]
      exact mr_U_imp (h9 a p' j hj) fun q _ _ => p8 q
  · intro a ha hb j hj
    rw [(e1 (3 * a + j) (by omega)).1, (e1 (3 * a + j) (by omega)).2]
    exact h10 a ha hb j hj
theorem mr_CY_w {a j q p : Nat} (h : mr_CY nx rm ykd yfs yfn R o cl fs fn mt) (hj : j < 3) (hq : q < 32) (hp : p < o) (e : fn (3 * a + j) = nI q) (k : ∀ b, R q b → R p b) (es : fs (3 * a + j) = 2) : mr_CY nx rm ykd yfs yfn R o cl fs (upd fn (3 * a + j) (nI p)) mt := by
  have l := mr_CY_lt h
  have hR := mr_CY_R h
  obtain ⟨h1, h2, h3, h4, h5, h6, h7, h8, h9, h10⟩ := h
  refine ⟨h1, h2, h3, h4, h5, h6, h7, fun a1 b1 r1 => ⟨(h8 a1 b1 r1).1, fun j1 hj1 => ?_⟩, fun a1 p1 j1 hj1 => ?_, fun a1 p1 f1 j1 hj1 => ?_⟩
  · have v := (h8 a1 b1 r1).2 j1 hj1
    by_cases z : 3 * a1 + j1 = 3 * a + j
    · rw [z] at v ⊢
      rw [pk_us]
      obtain ⟨q', b', x1, x2, r⟩ := mr_V_obj v es
      have : q' = q := mr_inj (by have := (hR _ _ r).1; omega) (by omega) (x1.symm.trans e)
      subst this
      exact ⟨v.1, Or.inr (Or.inr ⟨es, p, b', rfl, x2, k b' r⟩)⟩
    · rw [pk_un z]; exact v
  · by_cases z : 3 * a1 + j1 = 3 * a + j
    · rw [z, pk_us]
      exact Or.inr (Or.inr ⟨es, p, rfl, Or.inl hp⟩)
    · rw [pk_un z]; exact h9 a1 p1 j1 hj1
  · by_cases z : 3 * a1 + j1 = 3 * a + j
    · rw [z, pk_us]
      exact mr_K_at (a := p) (by omega) rfl (by omega)
    · rw [pk_un z]; exact h10 a1 p1 f1 j1 hj1
theorem mr_DN_w {a j p a1 : Nat} (hp : p < 24) (d : mr_DN fs fn a1) : mr_DN fs (upd fn (3 * a + j) (nI p)) a1 := by
  intro j1 hj1
  by_cases z : 3 * a1 + j1 = 3 * a + j
  · rw [z, pk_us]
    exact mr_K_at (a := p) (by omega) rfl hp
  · rw [pk_un z]; exact d j1 hj1
theorem mr_CY_end (h : mr_CY nx rm ykd yfs yfn R o cl fs fn mt) (d : ∀ a, a < o → mr_DN fs fn a) : mr_HP (fun a b => R a b ∧ a < 24) o 0 0 cl fs fn ykd yfs yfn := by
  have l := mr_CY_lt h
  have hR := mr_CY_R h
  obtain ⟨h1, h2, h3, h4, h5, h6, h7, h8, h9, h10⟩ := h
  have lt : ∀ a b, R a b → a < 24 → a < o := fun a b r ha => by
    rcases (h3 a b r).1 with p | p <;> omega
  refine ⟨⟨by omega, by omega⟩, fun a b r => ⟨Or.inl (lt a b r.1 r.2), (hR a b r.1).2⟩, fun a b b' r r' => h4 _ _ _ r.1 r'.1, fun a a' b r r' => h5 _ _ _ r.1 r'.1 ⟨fun _ => r'.2, fun _ => r.2⟩, ?_, ?_, ?_⟩
  · rintro a b ⟨r, ha⟩
    exact ⟨(h8 a b r).1, fun j hj => mr_VK24 hR ((h8 a b r).2 j hj) (d a (lt a b r ha) j hj)⟩
  · intro a p j hj
    have ha : a < o := by
      rcases p with p | p <;> omega
    refine mr_U_imp (h9 a (Or.inl ha) j hj) fun q e e2 pq => ?_
    rcases pq with pq | pq
    · exact Or.inl pq
    · have := d a ha j hj e q (by omega) e2
      omega
  · intro a ha j hj e q q1 q2 e2
    have := d a ha j hj e q q2 e2
    omega
end
end
section
/-! numbers and branches -/
theorem mr_bt {c A B : Prop} (h : c) : ((c → A) ∧ (¬ c → B)) ↔ A := ⟨fun z => z.1 h, fun a => br_t h a⟩
theorem mr_bf {c A B : Prop} (h : ¬ c) : ((c → A) ∧ (¬ c → B)) ↔ B := ⟨fun z => z.2 h, fun a => br_f h a⟩
theorem mr_i3 (a : Nat) : (3 : Int32) * nI a = nI (3 * a) := pk_mul 3 a
theorem mr_i4 (a : Nat) : (4 : Int32) * nI a = nI (4 * a) := pk_mul 4 a
theorem mr_i6 (a : Nat) : (6 : Int32) * nI a = nI (6 * a) := pk_mul 6 a
theorem mr_p2 (a : Nat) : nI a + 2 = nI (a + 2) := nI_add a 2
theorem mr_p3 (a : Nat) : nI a + 3 = nI (a + 3) := nI_add a 3
theorem mr_p4 (a : Nat) : nI a + 4 = nI (a + 4) := nI_add a 4
theorem mr_24 (a : Nat) : 24 + nI a = nI (24 + a) := nI_add 24 a
theorem mr_s1 {a : Nat} (h : 1 ≤ a) : nI a - 1 = nI (a - 1) := pk_sub h
theorem mr_s2 {a : Nat} (h : 2 ≤ a) : nI a - 2 = nI (a - 2) := pk_sub h
theorem mr_s4 {a : Nat} (h : 4 ≤ a) : nI a - 4 = nI (a - 4) := pk_sub h
theorem mr_s24 {a : Nat} (h : 24 ≤ a) : nI a - 24 = nI (a - 24) := pk_sub h
theorem mr_nb : ∀ k, k < 128 → vp_nar .byte (nI k) = nI k ∧ vp_nar .byte (nI k).toInt8.toInt32 = nI k := by decide +kernel
theorem mr_nb1 {k : Nat} (h : k < 128) : vp_nar .byte (nI k) = nI k := (mr_nb k h).1
theorem mr_nb2 {k : Nat} (h : k < 128) : vp_nar .byte (nI k).toInt8.toInt32 = nI k := (mr_nb k h).2
theorem mr_nbm : vp_nar .byte (-1) = -1 ∧ vp_nar .byte (-1 : Int32).toInt8.toInt32 = -1 ∧ vp_nar .byte 0 = 0 ∧ vp_nar .byte (0 : Int32).toInt8.toInt32 = 0 := by decide +kernel
theorem mr_nbb : vp_nar .boolean 0 = 0 ∧ vp_nar .boolean 1 = 1 := by decide +kernel
theorem mr_m1lt : (-1 : Int32) < 0 := by decide
theorem mr_not0 {a : Nat} (h : a < 2 ^ 31) : ¬ nI a < 0 := nI_pos h
end
section
/-! X: frames and stack -/
section
variable {pr lv ou yu rm mk sc mc rs rn pc wc : Int32} {op nd ab st rv cp cc cs gs gn du ls ln dp ss sn cl fs fn wt mt pl : Nat → Int32} {t d : Nat}
theorem mx_top {post : Int32 → Prop} : wpX_top post (pr, lv, nI (t + 1), ou, yu, rm, mk, sc, mc, rs, rn, pc, wc, op, nd, ab, st, rv, cp, cc, cs, gs, gn, du, ls, ln, dp, ss, sn, cl, fs, fn, wt, mt, pl) ↔ post (nI t) := by
  simp only [wpX_top, nI_pred]
theorem mx_push {post : SX → Prop} {s n : Int32} (ht : t < 10) (hd : d < 6) (hdp : dp t = nI d) (hs : mr_S s) : wpX_push post (pr, lv, nI (t + 1), ou, yu, rm, mk, sc, mc, rs, rn, pc, wc, op, nd, ab, st, rv, cp, cc, cs, gs, gn, du, ls, ln, dp, ss, sn, cl, fs, fn, wt, mt, pl) s n ↔ post (pr, lv, nI (t + 1), ou, yu, rm, mk, sc, mc, rs, rn, pc, wc, op, nd, ab, st, rv, cp, cc, cs, gs, gn, du, ls, ln, upd dp t (nI (d + 1)), upd ss (6 * t + d) s, upd sn (6 * t + d) n, cl, fs, fn, wt, mt, pl) := by
  have e2 : (nI t).toNatClampNeg = t := nI_clamp (by omega)
  have e4 : (nI (6 * t + d)).toNatClampNeg = 6 * t + d := nI_clamp (by omega)
  have e5 : vp_nar .byte (nI (d + 1)).toInt8.toInt32 = nI (d + 1) := mr_nb2 (by omega)
  have i1 : vp_in (nI t) 10 := vp_in_nI ht (by decide)
  have i2 : vp_in (nI (6 * t + d)) 60 := vp_in_nI (by omega) (by decide)
  simp only [wpX_push, mx_top, e2, hdp, mr_i6, nI_add, nI_1, e4, mr_S_cast hs, e5, i1, i2, true_and, forall_eq]
theorem mx_drop {post : SX → Prop} {k : Nat} (ht : t < 10) (hd : d ≤ 6) (hk : k ≤ d) (hdp : dp t = nI d) : wpX_dropValues post (pr, lv, nI (t + 1), ou, yu, rm, mk, sc, mc, rs, rn, pc, wc, op, nd, ab, st, rv, cp, cc, cs, gs, gn, du, ls, ln, dp, ss, sn, cl, fs, fn, wt, mt, pl) (nI k) ↔ post (pr, lv, nI (t + 1), ou, yu, rm, mk, sc, mc, rs, rn, pc, wc, op, nd, ab, st, rv, cp, cc, cs, gs, gn, du, ls, ln, upd dp t (nI (d - k)), ss, sn, cl, fs, fn, wt, mt, pl) := by
  have e2 : (nI t).toNatClampNeg = t := nI_clamp (by omega)
  have e3 : nI d - nI k = nI (d - k) := pk_sub hk
  have e5 : vp_nar .byte (nI (d - k)).toInt8.toInt32 = nI (d - k) := mr_nb2 (by omega)
  have i1 : vp_in (nI t) 10 := vp_in_nI ht (by decide)
  simp only [wpX_dropValues, mx_top, e2, hdp, e3, e5, i1, true_and, forall_eq]
theorem mx_fromTop {post : Int32 → Prop} {k : Nat} (ht : t < 10) (hd : d ≤ 6) (hk : k < d) (hdp : dp t = nI d) : wpX_fromTop post (pr, lv, nI (t + 1), ou, yu, rm, mk, sc, mc, rs, rn, pc, wc, op, nd, ab, st, rv, cp, cc, cs, gs, gn, du, ls, ln, dp, ss, sn, cl, fs, fn, wt, mt, pl) (nI k) ↔ post (nI (6 * t + (d - 1 - k))) := by
  have e2 : (nI t).toNatClampNeg = t := nI_clamp (by omega)
  have e3 : nI (6 * t + d) - 1 - nI k = nI (6 * t + (d - 1 - k)) := by
    rw [mr_s1 (by omega), pk_sub (by omega)]
    exact congrArg nI (by omega)
  have i1 : vp_in (nI t) 10 := vp_in_nI ht (by decide)
  simp only [wpX_fromTop, mx_top, e2, hdp, mr_i6, nI_add, e3, i1, true_and]
theorem mx_sortAt {post : Int32 → Prop} {k : Nat} (ht : t < 10) (hd : d ≤ 6) (hk : k < d) (hdp : dp t = nI d) : wpX_sortAt post (pr, lv, nI (t + 1), ou, yu, rm, mk, sc, mc, rs, rn, pc, wc, op, nd, ab, st, rv, cp, cc, cs, gs, gn, du, ls, ln, dp, ss, sn, cl, fs, fn, wt, mt, pl) (nI k) ↔ post (ss (6 * t + (d - 1 - k))) := by
  have e4 : (nI (6 * t + (d - 1 - k))).toNatClampNeg = 6 * t + (d - 1 - k) := nI_clamp (by omega)
  have i2 : vp_in (nI (6 * t + (d - 1 - k))) 60 := vp_in_nI (by omega) (by decide)
  simp only [wpX_sortAt, mx_fromTop ht hd hk hdp, e4, i2, true_and]
theorem mx_numberAt {post : Int32 → Prop} {k : Nat} (ht : t < 10) (hd : d ≤ 6) (hk : k < d) (hdp : dp t = nI d) : wpX_numberAt post (pr, lv, nI (t + 1), ou, yu, rm, mk, sc, mc, rs, rn, pc, wc, op, nd, ab, st, rv, cp, cc, cs, gs, gn, du, ls, ln, dp, ss, sn, cl, fs, fn, wt, mt, pl) (nI k) ↔ post (sn (6 * t + (d - 1 - k))) := by
  have e4 : (nI (6 * t + (d - 1 - k))).toNatClampNeg = 6 * t + (d - 1 - k) := nI_clamp (by omega)
  have i2 : vp_in (nI (6 * t + (d - 1 - k))) 60 := vp_in_nI (by omega) (by decide)
  simp only [wpX_numberAt, mx_fromTop ht hd hk hdp, e4, i2, true_and]
theorem mx_setLocal {post : SX → Prop} {k : Nat} {s n : Int32} (ht : t < 10) (hk : k < 4) (hs : mr_S s) : wpX_setLocal post (pr, lv, nI (t + 1), ou, yu, rm, mk, sc, mc, rs, rn, pc, wc, op, nd, ab, st, rv, cp, cc, cs, gs, gn, du, ls, ln, dp, ss, sn, cl, fs, fn, wt, mt, pl) (nI k) s n ↔ post (pr, lv, nI (t + 1), ou, yu, rm, mk, sc, mc, rs, rn, pc, wc, op, nd, ab, st, rv, cp, cc, cs, gs, gn, du, upd ls (4 * t + k) s, upd ln (4 * t + k) n, dp, ss, sn, cl, fs, fn, wt, mt, pl) := by
  have e4 : (nI (4 * t + k)).toNatClampNeg = 4 * t + k := nI_clamp (by omega)
  have i2 : vp_in (nI (4 * t + k)) 40 := vp_in_nI (by omega) (by decide)
  simp only [wpX_setLocal, mx_top, mr_i4, nI_add, e4, mr_S_cast hs, i2, true_and, forall_eq]
theorem mx_pushLocal {post : SX → Prop} {k : Nat} (ht : t < 10) (hd : d < 6) (hdp : dp t = nI d) (hk : k < 4) (hs : mr_S (ls (4 * t + k))) : wpX_pushLocal post (pr, lv, nI (t + 1), ou, yu, rm, mk, sc, mc, rs, rn, pc, wc, op, nd, ab, st, rv, cp, cc, cs, gs, gn, du, ls, ln, dp, ss, sn, cl, fs, fn, wt, mt, pl) (nI k) ↔ post (pr, lv, nI (t + 1), ou, yu, rm, mk, sc, mc, rs, rn, pc, wc, op, nd, ab, st, rv, cp, cc, cs, gs, gn, du, ls, ln, upd dp t (nI (d + 1)), upd ss (6 * t + d) (ls (4 * t + k)), upd sn (6 * t + d) (ln (4 * t + k)), cl, fs, fn, wt, mt, pl) := by
  have e4 : (nI (4 * t + k)).toNatClampNeg = 4 * t + k := nI_clamp (by omega)
  have i2 : vp_in (nI (4 * t + k)) 40 := vp_in_nI (by omega) (by decide)
  simp only [wpX_pushLocal, mx_top, mr_i4, nI_add, e4, i2, true_and, forall_eq, mx_push ht hd hdp hs]
theorem mx_openFrame_27 {post : SX → Prop} {F : Nat} (hF : F < 10) : ∀ n j (ls ln : Nat → Int32), j ≤ 4 → 4 - j < n → (∀ ls' ln' : Nat → Int32, (∀ k, k < 4 * F + j → ls' k = ls k ∧ ln' k = ln k) → (∀ i, j ≤ i → i < 4 → ls' (4 * F + i) = 0 ∧ ln' (4 * F + i) = 0) → post (pr, lv, nI (F + 1), ou, yu, rm, mk, sc, mc, rs, rn, pc, wc, op, nd, ab, st, rv, cp, cc, cs, gs, gn, du, ls', ln', dp, ss, sn, cl, fs, fn, wt, mt, pl)) → wX_openFrame_27 post pr lv (nI F) ou yu rm mk sc mc rs rn pc wc n (nI (4 * F + j)) op nd ab st rv cp cc cs gs gn du ls ln dp ss sn cl fs fn wt mt pl := by
  intro n
  induction n with
  | zero => intro j ls ln _ h; omega
  | succ n ih =>
    intro j ls ln hj hn h
    have e4 : (nI (4 * F + j)).toNatClampNeg = 4 * F + j := nI_clamp (by omega)
    rw [wX_openFrame_27]
    dsimp only
    rw [mr_i4, mr_p4, nI_1]
    by_cases z : j = 4
    · subst z
      exact br_t (nI_le (by omega) (by omega)) (nm_e (h ls ln (fun k hk => ⟨rfl, rfl⟩) (fun i h1 h2 => by omega)))
    · refine br_f (nI_ge (by omega) (by omega)) ⟨vp_in_nI (by omega) (by decide), nm_e ⟨vp_in_nI (by omega) (by decide), nm_e ?_⟩⟩
      refine nm_r (nI_1 _) ?_
      rw [e4, mr_nbm.2.2.1]
      refine ih (j + 1) _ _ (by omega) (by omega) fun ls' ln' h1 h2 => h ls' ln' (fun k hk => ?_) (fun i hi hi4 => ?_)
      · have q := h1 k (by omega)
        rw [pk_un (by omega), pk_un (by omega)] at q
        exact q
      · by_cases w : i = j
        · subst w
          have q := h1 (4 * F + i) (by omega)
          rw [pk_us, pk_us] at q
          exact q
        · exact h2 i (by omega) hi4
theorem mx_openFrame {post : SX → Prop} {F : Nat} {i : Int32} (hF : F < 10) (h : ∀ ls' ln' : Nat → Int32, (∀ k, k < 4 * F → ls' k = ls k ∧ ln' k = ln k) → (∀ i, i < 4 → ls' (4 * F + i) = 0 ∧ ln' (4 * F + i) = 0) → post (pr, lv, nI (F + 1), ou, yu, rm, mk, sc, mc, rs, rn, pc, wc, op, nd, ab, st, rv, cp, cc, cs, gs, gn, upd du F i, ls', ln', upd dp F 0, ss, sn, cl, fs, fn, wt, mt, pl)) : wpX_openFrame post (pr, lv, nI F, ou, yu, rm, mk, sc, mc, rs, rn, pc, wc, op, nd, ab, st, rv, cp, cc, cs, gs, gn, du, ls, ln, dp, ss, sn, cl, fs, fn, wt, mt, pl) i := by
  have e2 : (nI F).toNatClampNeg = F := nI_clamp (by omega)
  have i1 : vp_in (nI F) 10 := vp_in_nI hF (by decide)
  simp only [wpX_openFrame, e2, i1, true_and, forall_eq, mr_nbm.2.2.1, mr_i4]
  exact ⟨5, mx_openFrame_27 hF 5 0 ls ln (by omega) (by omega) fun ls' ln' h1 h2 => h ls' ln' h1 fun i hi => h2 i (by omega) hi⟩
end
end
section
/-! X: markNeeded finds the least set -/
def mr_N (s n : Int32) : Prop := s = 2 → ∃ a, a < 32 ∧ n = nI a
def mr_MI (fs fn : Nat → Int32) (L E : Nat → Prop) (mk : Int32) (w : Nat) (wt : Nat → Int32) : Prop :=
  w ≤ cn (fun a => bt mk a = true) 32 ∧ (∀ i, i < w → ∃ a, a < 32 ∧ wt i = nI a ∧ bt mk a = true) ∧ (∀ a, a < 32 → bt mk a = true → L a) ∧
  (∀ a, a < 32 → bt mk a = true → E a ∨ (∃ i, i < w ∧ wt i = nI a) ∨ ∀ j, j < 3 → mr_K (fun b => bt mk b = true) (fs (3 * a + j)) (fn (3 * a + j)))
noncomputable def mr_mu (mk : Int32) (w : Nat) : Nat := 2 * (32 - cn (fun a => bt mk a = true) 32) + w
theorem mr_cn32 {mk : Int32} {a : Nat} (ha : a < 32) (h : ¬ bt mk a = true) : cn (fun a => bt mk a = true) 32 < 32 := by
  have := cn_lt (P := fun a => bt mk a = true) (Q := fun _ => True) (a := a) h trivial (N := 32) (fun _ _ _ => trivial) ha
  rw [mr_cn_all] at this
  exact this
theorem mr_cnset {mk : Int32} {a : Nat} (ha : a < 32) (h : ¬ bt mk a = true) : cn (fun i => bt (mk ||| ((1 : Int32) <<< (nI a &&& 31))) i = true) 32 = cn (fun i => bt mk i = true) 32 + 1 := by
  rw [← cn_add (P := fun i => bt mk i = true) h ha]
  exact cn_eq fun k hk => mr_set ha hk
theorem mr_MI_set {fs fn : Nat → Int32} {L E : Nat → Prop} {mk : Int32} {w a : Nat} {wt : Nat → Int32} (h : mr_MI fs fn L E mk w wt) (ha : a < 32) (m : ¬ bt mk a = true) (l : L a) : mr_MI fs fn L E (mk ||| ((1 : Int32) <<< (nI a &&& 31))) (w + 1) (upd wt w (nI a)) := by
  obtain ⟨h1, h2, h3, h4⟩ := h
  refine ⟨by rw [mr_cnset ha m]; omega, ?_, ?_, ?_⟩
  · intro i hi
    by_cases z : i = w
    · subst z; exact ⟨a, ha, pk_us, (mr_set ha ha).mpr (Or.inr rfl)⟩
    · obtain ⟨b, hb, e, q⟩ := h2 i (by omega)
      exact ⟨b, hb, by rw [pk_un z]; exact e, (mr_set ha hb).mpr (Or.inl q)⟩
  · intro b hb q
    rcases (mr_set ha hb).mp q with q | q
    · exact h3 b hb q
    · subst q; exact l
  · intro b hb q
    rcases (mr_set ha hb).mp q with q | q
    · rcases h4 b hb q with z | ⟨i, hi, z⟩ | z
      · exact Or.inl z
      · exact Or.inr (Or.inl ⟨i, by omega, by rw [pk_un (by omega)]; exact z⟩)
      · exact Or.inr (Or.inr fun j hj => mr_K_imp (fun c hc z => (mr_set ha hc).mpr (Or.inl z)) (z j hj))
    · subst q
      exact Or.inr (Or.inl ⟨w, by omega, pk_us⟩)
section
variable {pr lv ou yu rm sc mc rs rn pc : Int32} {op nd ab st rv cp cc cs gs gn du ls ln dp ss sn cl fs fn mt pl : Nat → Int32} {F : Nat} {hh : Nat → Nat}
theorem mx_mark {post : SX → Prop} {fc : Int32} {L E : Nat → Prop} {mk s n : Int32} {w : Nat} {wt : Nat → Int32} (h : mr_MI fs fn L E mk w wt) (hv : mr_N s n) (hL : mr_K L s n)
    (k : ∀ mk' w' wt', mr_MI fs fn L E mk' w' wt' → (∀ a, a < 32 → bt mk a = true → bt mk' a = true) → mr_K (fun b => bt mk' b = true) s n → mr_mu mk' w' ≤ mr_mu mk w → post (pr, lv, fc, ou, yu, rm, mk', sc, mc, rs, rn, pc, nI w', op, nd, ab, st, rv, cp, cc, cs, gs, gn, du, ls, ln, dp, ss, sn, cl, fs, fn, wt', mt, pl)) : wpX_mark post (pr, lv, fc, ou, yu, rm, mk, sc, mc, rs, rn, pc, nI w, op, nd, ab, st, rv, cp, cc, cs, gs, gn, du, ls, ln, dp, ss, sn, cl, fs, fn, wt, mt, pl) s n := by
  rw [wpX_mark]
  by_cases e : s = 2
  · refine br_t e ?_
    obtain ⟨a, ha, rfl⟩ := hv e
    by_cases m : bt mk a = true
    · refine br_f (fun z => ?_) (k mk w wt h (fun _ _ => id) (mr_K_at ha rfl m) (Nat.le_refl _))
      rw [(mr_bit ha).mp z] at m
      exact absurd m (by decide)
    · have c := mr_cn32 ha m
      have hw : w < 32 := by have := h.1; omega
      refine br_t ((mr_bit ha).mpr (by cases q : bt mk a with | true => exact absurd q m | false => rfl)) (nm_e ⟨vp_in_nI hw (by decide), nm_e (nm_r (nI_1 w) ?_)⟩)
      rw [nI_clamp (by omega), mr_nb2 (by omega)]
      refine k _ (w + 1) _ (mr_MI_set h ha m (hL e a ha rfl)) (fun b hb q => (mr_set ha hb).mpr (Or.inl q)) (mr_K_at ha rfl ((mr_set ha ha).mpr (Or.inr rfl))) ?_
      unfold mr_mu
      rw [mr_cnset ha m]
      omega
  · exact br_f e (k mk w wt h (fun _ _ => id) (mr_K_no e) (Nat.le_refl _))
/-- what markNeeded needs to know -/
def mr_MH (F : Nat) (hh : Nat → Nat) (gs gn ls ln ss sn fs fn dp : Nat → Int32) (L : Nat → Prop) : Prop :=
  F ≤ 10 ∧ (∀ f, f < F → dp f = nI (hh f) ∧ hh f ≤ 6) ∧ (∀ a, L a → a < 32) ∧ mr_Ro L F hh gs gn ls ln ss sn ∧ mr_Cd L fs fn ∧
  (∀ g, g < 4 → mr_N (gs g) (gn g)) ∧ (∀ k, k < 4 * F → mr_N (ls k) (ln k)) ∧ (∀ f j, f < F → j < hh f → mr_N (ss (6 * f + j)) (sn (6 * f + j))) ∧ (∀ a, L a → ∀ j, j < 3 → mr_N (fs (3 * a + j)) (fn (3 * a + j)))
theorem mx_mark_162 {post : SX → Prop} {J : Int32 → Int32 → Int32 → Int32 → Int32 → Int32 → Int32 → Int32 → Int32 → Int32 → Int32 → Int32 → Int32 → (Nat → Int32) → (Nat → Int32) → (Nat → Int32) → (Nat → Int32) → (Nat → Int32) → (Nat → Int32) → (Nat → Int32) → (Nat → Int32) → (Nat → Int32) → (Nat → Int32) → (Nat → Int32) → (Nat → Int32) → (Nat → Int32) → (Nat → Int32) → (Nat → Int32) → (Nat → Int32) → (Nat → Int32) → (Nat → Int32) → (Nat → Int32) → (Nat → Int32) → (Nat → Int32) → (Nat → Int32) → Prop} {fc : Int32} {L : Nat → Prop} {x : Nat} (hx : x < 32) (hL : L x) (hc : mr_Cd L fs fn) (hn : ∀ j, j < 3 → mr_N (fs (3 * x + j)) (fn (3 * x + j))) : ∀ n j mk w wt, j ≤ 3 → 3 - j < n → mr_MI fs fn L (fun a => a = x) mk w wt → (∀ i, i < j → mr_K (fun b => bt mk b = true) (fs (3 * x + i)) (fn (3 * x + i))) →
    (∀ mk' w' wt', mr_MI fs fn L (fun a => a = x) mk' w' wt' → (∀ a, a < 32 → bt mk a = true → bt mk' a = true) → (∀ i, i < 3 → mr_K (fun b => bt mk' b = true) (fs (3 * x + i)) (fn (3 * x + i))) → mr_mu mk' w' ≤ mr_mu mk w → J pr lv fc ou yu rm mk' sc mc rs rn pc (nI w') op nd ab st rv cp cc cs gs gn du ls ln dp ss sn cl fs fn wt' mt pl) →
    wX_markNeeded_162 post J (nI x) n (nI (3 * x + j)) pr lv fc ou yu rm mk sc mc rs rn pc (nI w) op nd ab st rv cp cc cs gs gn du ls ln dp ss sn cl fs fn wt mt pl := by
  intro n
  induction n with
  | zero => intro j mk w wt _ h; omega
  | succ n ih =>
    intro j mk w wt hj hlt hI hK k
    rw [wX_markNeeded_162]
    dsimp only
    rw [mr_i3, mr_p3]
    by_cases z : j = 3
    · subst z
      exact br_t (nI_le (by omega) (by omega)) (k mk w wt hI (fun _ _ => id) hK (Nat.le_refl _))
    · refine br_f (nI_ge (by omega) (by omega)) ⟨vp_in_nI (by omega) (by decide), vp_in_nI (by omega) (by decide), ?_⟩
      rw [nI_clamp (by omega)]
      refine mx_mark hI (hn j (by omega)) (hc x hL j (by omega)) fun mk' w' wt' hI' mono hK' mu => ?_
      refine nm_r (nI_1 _) (ih (j + 1) mk' w' wt' (by omega) (by omega) hI' (fun i hi => ?_) fun mk2 w2 wt2 h1 h2 h3 h4 => k mk2 w2 wt2 h1 (fun a ha q => h2 a ha (mono a ha q)) h3 (Nat.le_trans h4 mu))
      by_cases e : i = j
      · subst e; exact hK'
      · exact mr_K_imp mono (hK i (by omega))
theorem mx_mark_131 {post : SX → Prop} {fc : Int32} {L : Nat → Prop} (hL : ∀ a, L a → a < 32) (hc : mr_Cd L fs fn) (hn : ∀ a, L a → ∀ j, j < 3 → mr_N (fs (3 * a + j)) (fn (3 * a + j))) : ∀ n mk w wt, mr_mu mk w < n → mr_MI fs fn L (fun _ => False) mk w wt →
    (∀ mk' wt', mr_MI fs fn L (fun _ => False) mk' 0 wt' → (∀ a, a < 32 → bt mk a = true → bt mk' a = true) → post (pr, lv, fc, ou, yu, rm, mk', sc, mc, rs, rn, pc, 0, op, nd, ab, st, rv, cp, cc, cs, gs, gn, du, ls, ln, dp, ss, sn, cl, fs, fn, wt', mt, pl)) →
    wX_markNeeded_131 post n pr lv fc ou yu rm mk sc mc rs rn pc (nI w) op nd ab st rv cp cc cs gs gn du ls ln dp ss sn cl fs fn wt mt pl := by
  intro n
  induction n with
  | zero => intro mk w wt h; omega
  | succ n ih =>
    intro mk w wt hlt hI k
    rw [wX_markNeeded_131]
    cases w with
    | zero =>
      rw [nI_0]
      exact br_t (by decide) (k mk wt hI (fun _ _ => id))
    | succ w =>
      have hw : w < 32 := by have := hI.1; have := cn_le (fun a => bt mk a = true) 32; omega
      obtain ⟨x, hx, ex, qx⟩ := hI.2.1 w (by omega)
      have lx := hI.2.2.1 x hx qx
      refine br_f (nI_nle (by omega) (by omega)) (nm_r (nI_pred w) ⟨vp_in_nI hw (by decide), nm_r (e' := nI x) (by rw [nI_clamp (by omega)]; exact ex) (nm_r (mr_i3 x) ⟨4, ?_⟩)⟩)
      refine mx_mark_162 hx lx hc (hn x lx) 4 0 mk w wt (by omega) (by omega) ⟨by have := hI.1; omega, fun i hi => hI.2.1 i (by omega), hI.2.2.1, fun a ha q => ?_⟩ (fun i hi => by omega) fun mk' w' wt' h1 h2 h3 h4 => ?_
      · rcases hI.2.2.2 a ha q with z | ⟨i, hi, z⟩ | z
        · exact absurd z id
        · by_cases e : i = w
          · subst e
            exact Or.inl (mr_inj (by omega) (by omega) (z.symm.trans ex))
          · exact Or.inr (Or.inl ⟨i, by omega, z⟩)
        · exact Or.inr (Or.inr z)
      · refine ih mk' w' wt' ?_ ⟨h1.1, h1.2.1, h1.2.2.1, fun a ha q => ?_⟩ fun mk2 wt2 g1 g2 => k mk2 wt2 g1 fun a ha q => g2 a ha (h2 a ha q)
        · have : mr_mu mk (w + 1) = mr_mu mk w + 1 := by unfold mr_mu; omega
          omega
        · rcases h1.2.2.2 a ha q with z | z | z
          · subst z; exact Or.inr (Or.inr h3)
          · exact Or.inr (Or.inl z)
          · exact Or.inr (Or.inr z)
theorem mx_mark_88 {post : SX → Prop} {J : Int32 → Int32 → Int32 → Int32 → Int32 → Int32 → Int32 → Int32 → Int32 → Int32 → Int32 → Int32 → Int32 → Int32 → (Nat → Int32) → (Nat → Int32) → (Nat → Int32) → (Nat → Int32) → (Nat → Int32) → (Nat → Int32) → (Nat → Int32) → (Nat → Int32) → (Nat → Int32) → (Nat → Int32) → (Nat → Int32) → (Nat → Int32) → (Nat → Int32) → (Nat → Int32) → (Nat → Int32) → (Nat → Int32) → (Nat → Int32) → (Nat → Int32) → (Nat → Int32) → (Nat → Int32) → (Nat → Int32) → (Nat → Int32) → Prop} {fc : Int32} {L : Nat → Prop} {f : Nat} (hf : f < 10) (h6 : hh f ≤ 6) (hdp : dp f = nI (hh f)) (hr : ∀ j, j < hh f → mr_K L (ss (6 * f + j)) (sn (6 * f + j))) (hn : ∀ j, j < hh f → mr_N (ss (6 * f + j)) (sn (6 * f + j))) : ∀ n j mk w wt, j ≤ hh f → hh f - j < n → mr_MI fs fn L (fun _ => False) mk w wt → (∀ i, i < j → mr_K (fun b => bt mk b = true) (ss (6 * f + i)) (sn (6 * f + i))) →
    (∀ mk' w' wt', mr_MI fs fn L (fun _ => False) mk' w' wt' → (∀ a, a < 32 → bt mk a = true → bt mk' a = true) → (∀ i, i < hh f → mr_K (fun b => bt mk' b = true) (ss (6 * f + i)) (sn (6 * f + i))) → J (nI (f + 1)) pr lv fc ou yu rm mk' sc mc rs rn pc (nI w') op nd ab st rv cp cc cs gs gn du ls ln dp ss sn cl fs fn wt' mt pl) →
    wX_markNeeded_88 post J (nI f) n (nI (6 * f + j)) pr lv fc ou yu rm mk sc mc rs rn pc (nI w) op nd ab st rv cp cc cs gs gn du ls ln dp ss sn cl fs fn wt mt pl := by
  intro n
  induction n with
  | zero => intro j mk w wt _ h; omega
  | succ n ih =>
    intro j mk w wt hj hlt hI hK k
    rw [wX_markNeeded_88]
    dsimp only
    rw [mr_i6, nI_clamp (by omega), hdp, nI_add]
    refine ⟨vp_in_nI hf (by decide), ?_⟩
    by_cases z : j = hh f
    · subst z
      exact br_t (nI_le (by omega) (by omega)) (nm_r (nI_1 _) (k mk w wt hI (fun _ _ => id) hK))
    · refine br_f (nI_ge (by omega) (by omega)) ⟨vp_in_nI (by omega) (by decide), vp_in_nI (by omega) (by decide), ?_⟩
      rw [nI_clamp (by omega)]
      refine mx_mark hI (hn j (by omega)) (hr j (by omega)) fun mk' w' wt' hI' mono hK' mu => ?_
      refine nm_r (nI_1 _) (ih (j + 1) mk' w' wt' (by omega) (by omega) hI' (fun i hi => ?_) fun mk2 w2 wt2 h1 h2 h3 => k mk2 w2 wt2 h1 (fun a ha q => h2 a ha (mono a ha q)) h3)
      by_cases e : i = j
      · subst e; exact hK'
      · exact mr_K_imp mono (hK i (by omega))
theorem mx_mark_75 {post : SX → Prop} {L : Nat → Prop} (H : mr_MH F hh gs gn ls ln ss sn fs fn dp L) : ∀ n f mk w wt, f ≤ F → F - f < n → mr_MI fs fn L (fun _ => False) mk w wt → (∀ g i, g < f → i < hh g → mr_K (fun b => bt mk b = true) (ss (6 * g + i)) (sn (6 * g + i))) →
    (∀ mk' wt', mr_MI fs fn L (fun _ => False) mk' 0 wt' → (∀ a, a < 32 → bt mk a = true → bt mk' a = true) → (∀ g i, g < F → i < hh g → mr_K (fun b => bt mk' b = true) (ss (6 * g + i)) (sn (6 * g + i))) → post (pr, lv, nI F, ou, yu, rm, mk', sc, mc, rs, rn, pc, 0, op, nd, ab, st, rv, cp, cc, cs, gs, gn, du, ls, ln, dp, ss, sn, cl, fs, fn, wt', mt, pl)) →
    wX_markNeeded_75 post n (nI f) pr lv (nI F) ou yu rm mk sc mc rs rn pc (nI w) op nd ab st rv cp cc cs gs gn du ls ln dp ss sn cl fs fn wt mt pl := by
  obtain ⟨H1, H2, H3, H4, H5, H6, H7, H8, H9⟩ := H
  intro n
  induction n with
  | zero => intro f mk w wt _ h; omega
  | succ n ih =>
    intro f mk w wt hf hlt hI hK k
    rw [wX_markNeeded_75]
    by_cases z : f = F
    · subst z
      exact br_t (nI_le (Nat.le_refl _) (by omega)) ⟨_, mx_mark_131 H3 H5 H9 _ mk w wt (Nat.lt_succ_self _) hI fun mk' wt' h1 h2 => k mk' wt' h1 h2 fun g i hg hi => mr_K_imp h2 (hK g i hg hi)⟩
    · have hf' : f < F := by omega
      refine br_f (nI_ge hf' (by omega)) (nm_r (mr_i6 f) ⟨7, ?_⟩)
      refine mx_mark_88 (by omega) (H2 f hf').2 (H2 f hf').1 (fun j hj => H4.2.2 f j hf' hj) (fun j hj => H8 f j hf' hj) 7 0 mk w wt (by omega) (by have := (H2 f hf').2; omega) hI (fun i hi => by omega) fun mk' w' wt' h1 h2 h3 => ?_
      refine ih (f + 1) mk' w' wt' (by omega) (by omega) h1 (fun g i hg hi => ?_) fun mk2 wt2 g1 g2 g3 => k mk2 wt2 g1 (fun a ha q => g2 a ha (h2 a ha q)) g3
      by_cases e : g = f
      · subst e; exact h3 i hi
      · exact mr_K_imp h2 (hK g i (by omega) hi)
theorem mx_mark_41 {post : SX → Prop} {L : Nat → Prop} (H : mr_MH F hh gs gn ls ln ss sn fs fn dp L) : ∀ n i mk w wt, i ≤ 4 * F → 4 * F - i < n → mr_MI fs fn L (fun _ => False) mk w wt → (∀ g, g < i → mr_K (fun b => bt mk b = true) (ls g) (ln g)) →
    (∀ mk' wt', mr_MI fs fn L (fun _ => False) mk' 0 wt' → (∀ a, a < 32 → bt mk a = true → bt mk' a = true) → (∀ g, g < 4 * F → mr_K (fun b => bt mk' b = true) (ls g) (ln g)) → (∀ g i, g < F → i < hh g → mr_K (fun b => bt mk' b = true) (ss (6 * g + i)) (sn (6 * g + i))) → post (pr, lv, nI F, ou, yu, rm, mk', sc, mc, rs, rn, pc, 0, op, nd, ab, st, rv, cp, cc, cs, gs, gn, du, ls, ln, dp, ss, sn, cl, fs, fn, wt', mt, pl)) →
    wX_markNeeded_41 post n (nI i) pr lv (nI F) ou yu rm mk sc mc rs rn pc (nI w) op nd ab st rv cp cc cs gs gn du ls ln dp ss sn cl fs fn wt mt pl := by
  have H' := H
  obtain ⟨H1, H2, H3, H4, H5, H6, H7, H8, H9⟩ := H
  intro n
  induction n with
  | zero => intro i mk w wt _ h; omega
  | succ n ih =>
    intro i mk w wt hi hlt hI hK k
    rw [wX_markNeeded_41]
    dsimp only
    rw [mr_i4]
    by_cases z : i = 4 * F
    · subst z
      exact br_t (nI_le (Nat.le_refl _) (by omega)) ⟨_, mx_mark_75 H' (F + 1) 0 mk w wt (by omega) (by omega) hI (fun g i hg => by omega) fun mk' wt' h1 h2 h3 => k mk' wt' h1 h2 (fun g hg => mr_K_imp h2 (hK g hg)) h3⟩
    · refine br_f (nI_ge (by omega) (by omega)) ⟨vp_in_nI (by omega) (by decide), vp_in_nI (by omega) (by decide), ?_⟩
      rw [nI_clamp (by omega)]
      refine mx_mark hI (H7 i (by omega)) (H4.2.1 i (by omega)) fun mk' w' wt' hI' mono hK' mu => ?_
      refine nm_r (nI_1 _) (ih (i + 1) mk' w' wt' (by omega) (by omega) hI' (fun g hg => ?_) fun mk2 wt2 h1 h2 h3 h4 => k mk2 wt2 h1 (fun a ha q => h2 a ha (mono a ha q)) h3 h4)
      by_cases e : g = i
      · subst e; exact hK'
      · exact mr_K_imp mono (hK g (by omega))
theorem mx_mark_12 {post : SX → Prop} {L : Nat → Prop} (H : mr_MH F hh gs gn ls ln ss sn fs fn dp L) : ∀ n i mk w wt, i ≤ 4 → 4 - i < n → mr_MI fs fn L (fun _ => False) mk w wt → (∀ g, g < i → mr_K (fun b => bt mk b = true) (gs g) (gn g)) →
    (∀ mk' wt', mr_MI fs fn L (fun _ => False) mk' 0 wt' → (∀ g, g < 4 → mr_K (fun b => bt mk' b = true) (gs g) (gn g)) → (∀ g, g < 4 * F → mr_K (fun b => bt mk' b = true) (ls g) (ln g)) → (∀ g i, g < F → i < hh g → mr_K (fun b => bt mk' b = true) (ss (6 * g + i)) (sn (6 * g + i))) → post (pr, lv, nI F, ou, yu, rm, mk', sc, mc, rs, rn, pc, 0, op, nd, ab, st, rv, cp, cc, cs, gs, gn, du, ls, ln, dp, ss, sn, cl, fs, fn, wt', mt, pl)) →
    wX_markNeeded_12 post n (nI i) pr lv (nI F) ou yu rm mk sc mc rs rn pc (nI w) op nd ab st rv cp cc cs gs gn du ls ln dp ss sn cl fs fn wt mt pl := by
  have H' := H
  obtain ⟨H1, H2, H3, H4, H5, H6, H7, H8, H9⟩ := H
  intro n
  induction n with
  | zero => intro i mk w wt _ h; omega
  | succ n ih =>
    intro i mk w wt hi hlt hI hK k
    rw [wX_markNeeded_12]
    by_cases z : i = 4
    · subst z
      exact br_t (by decide) ⟨_, mx_mark_41 H' (4 * F + 1) 0 mk w wt (by omega) (by omega) hI (fun g hg => by omega) fun mk' wt' h1 h2 h3 h4 => k mk' wt' h1 (fun g hg => mr_K_imp h2 (hK g hg)) h3 h4⟩
    · refine br_f (nI_ge (b := 4) (by omega) (by omega)) ⟨vp_in_nI (by omega) (by decide), vp_in_nI (by omega) (by decide), ?_⟩
      rw [nI_clamp (by omega)]
      refine mx_mark hI (H6 i (by omega)) (H4.1 i (by omega)) fun mk' w' wt' hI' mono hK' mu => ?_
      refine nm_r (nI_1 _) (ih (i + 1) mk' w' wt' (by omega) (by omega) hI' (fun g hg => ?_) k)
      by_cases e : g = i
      · subst e; exact hK'
      · exact mr_K_imp mono (hK g (by omega))
theorem mx_markNeeded {post : SX → Prop} {mk wc : Int32} {wt : Nat → Int32} (H : mr_MH F hh gs gn ls ln ss sn fs fn dp (mr_L F hh gs gn ls ln ss sn fs fn))
    (k : ∀ mk' wt', (∀ a, a < 32 → (bt mk' a = true ↔ mr_L F hh gs gn ls ln ss sn fs fn a)) → post (pr, lv, nI F, ou, yu, rm, mk', sc, mc, rs, rn, pc, 0, op, nd, ab, st, rv, cp, cc, cs, gs, gn, du, ls, ln, dp, ss, sn, cl, fs, fn, wt', mt, pl)) : wpX_markNeeded post (pr, lv, nI F, ou, yu, rm, mk, sc, mc, rs, rn, pc, wc, op, nd, ab, st, rv, cp, cc, cs, gs, gn, du, ls, ln, dp, ss, sn, cl, fs, fn, wt, mt, pl) := by
  refine ⟨5, mx_mark_12 H 5 0 0 0 wt (by omega) (by omega) ⟨by omega, fun i hi => by omega, fun a ha q => ?_, fun a ha q => ?_⟩ (fun g hg => by omega) fun mk' wt' h1 h2 h3 h4 => k mk' wt' fun a ha => ⟨h1.2.2.1 a ha, fun l => ?_⟩⟩
  · rw [b_0] at q; exact absurd q (by decide)
  · rw [b_0] at q; exact absurd q (by decide)
  · have c : ∀ {s n}, mr_K (fun b => bt mk' b = true) s n → mr_K (fun b => b < 32 ∧ bt mk' b = true) s n := fun z => fun e a ha en => ⟨ha, z e a ha en⟩
    refine (l (fun b => b < 32 ∧ bt mk' b = true) ⟨fun g hg => c (h2 g hg), fun g hg => c (h3 g hg), fun f j hf hj => c (h4 f j hf hj)⟩ ?_).2
    rintro b ⟨hb, q⟩ j hj
    rcases h1.2.2.2 b hb q with z | ⟨i, hi, _⟩ | z
    · exact absurd z id
    · omega
    · exact c (z j hj)
theorem mx_count_4 {post : Int32 → Prop} {fc wc mk : Int32} {wt : Nat → Int32} : ∀ n i, i ≤ 32 → 32 - i < n → post (nI (cn (fun a => bt mk a = true) 32)) → wX_countMarks_4 post pr lv fc ou yu rm mk sc mc rs rn pc wc op nd ab st rv cp cc cs gs gn du ls ln dp ss sn cl fs fn wt mt pl n (nI (cn (fun a => bt mk a = true) i)) (nI i) := by
  intro n
  induction n with
  | zero => intro i _ h; omega
  | succ n ih =>
    intro i hi hlt k
    rw [wX_countMarks_4]
    by_cases z : i = 32
    · subst z
      exact br_t (by decide) k
    · refine br_f (nI_ge (b := 32) (by omega) (by omega)) (nm_r (e' := nI (cn (fun a => bt mk a = true) (i + 1))) ?_ (nm_r (nI_1 i) (ih (i + 1) (by omega) (by omega) k)))
      rw [mr_bitv (by omega), nI_add]
      rfl
theorem mx_countMarks {post : Int32 → Prop} {fc wc mk : Int32} {wt : Nat → Int32} (k : post (nI (cn (fun a => bt mk a = true) 32))) : wpX_countMarks post (pr, lv, fc, ou, yu, rm, mk, sc, mc, rs, rn, pc, wc, op, nd, ab, st, rv, cp, cc, cs, gs, gn, du, ls, ln, dp, ss, sn, cl, fs, fn, wt, mt, pl) :=
  ⟨33, mx_count_4 33 0 (by omega) (by omega) k⟩
end
end
section
/-! X: collectAll -/
def mr_mv (mt : Nat → Int32) (s n : Int32) : Int32 := if s = 2 then mt n.toNatClampNeg else n
theorem mr_mv2 {mt : Nat → Int32} {s n : Int32} (h : s = 2) : mr_mv mt s n = mt n.toNatClampNeg := if_pos h
theorem mr_mvn {mt : Nat → Int32} {s n : Int32} (h : ¬ s = 2) : mr_mv mt s n = n := if_neg h
theorem mr_N_in {s n : Int32} (h : mr_N s n) (e : s = 2) : vp_in n 32 := by
  obtain ⟨a, ha, rfl⟩ := h e
  exact vp_in_nI ha (by decide)
section
variable {pr lv fc ou yu rm mk sc mc rs rn pc wc : Int32} {op nd ab st rv cp cc cs gs gn du ls ln dp ss sn cl fs fn wt mt pl : Nat → Int32}
theorem mx_copy_14 {post : SX → Prop} {a b : Nat} (ha : a < 32) (hb : b < 32) (hab : a ≠ b) {fs0 fn0 : Nat → Int32} (hS : ∀ j, j < 3 → mr_S (fs0 (3 * a + j)))
    (k : ∀ fs' fn', (∀ k, ¬ (3 * b ≤ k ∧ k < 3 * b + 3) → fs' k = fs0 k ∧ fn' k = fn0 k) → (∀ j, j < 3 → fs' (3 * b + j) = fs0 (3 * a + j) ∧ fn' (3 * b + j) = fn0 (3 * a + j)) → post (pr, lv, fc, ou, yu, rm, mk, sc, mc, rs, rn, pc, wc, op, nd, ab, st, rv, cp, cc, cs, gs, gn, du, ls, ln, dp, ss, sn, cl, fs', fn', wt, mt, pl)) : ∀ n j fs fn, j ≤ 3 → 3 - j < n → (∀ k, ¬ (3 * b ≤ k ∧ k < 3 * b + 3) → fs k = fs0 k ∧ fn k = fn0 k) → (∀ i, i < j → fs (3 * b + i) = fs0 (3 * a + i) ∧ fn (3 * b + i) = fn0 (3 * a + i)) → wX_copyObject_14 post (nI a) (nI b) pr lv fc ou yu rm mk sc mc rs rn pc wc n (nI j) op nd ab st rv cp cc cs gs gn du ls ln dp ss sn cl fs fn wt mt pl := by
  intro n
  induction n with
  | zero => intro j fs fn _ h; omega
  | succ n ih =>
    intro j fs fn hj hlt h1 h2
    rw [wX_copyObject_14]
    dsimp only
    rw [mr_i3, mr_i3, nI_add, nI_add]
    by_cases z : j = 3
    · subst z
      exact br_t (by decide) (k fs fn h1 h2)
    · have q := h1 (3 * a + j) (by omega)
      refine br_f (nI_ge (b := 3) (by omega) (by omega)) ⟨vp_in_nI (by omega) (by decide), vp_in_nI (by omega) (by decide), nm_e ⟨vp_in_nI (by omega) (by decide), vp_in_nI (by omega) (by decide), nm_e (nm_r (nI_1 _) ?_)⟩⟩
      rw [nI_clamp (n := 3 * a + j) (by omega), nI_clamp (n := 3 * b + j) (by omega), q.1, q.2, mr_S_nar (hS j (by omega))]
      refine ih (j + 1) _ _ (by omega) (by omega) (fun k hk => ?_) (fun i hi => ?_)
      · rw [pk_un (by omega), pk_un (by omega)]; exact h1 k hk
      · by_cases e : i = j
        · subst e; rw [pk_us, pk_us]; exact ⟨rfl, rfl⟩
        · rw [pk_un (by omega), pk_un (by omega)]; exact h2 i (by omega)
theorem mx_copy {post : SX → Prop} {a b : Nat} (ha : a < 32) (hb : b < 32) (hab : a ≠ b) (hS : ∀ j, j < 3 → mr_S (fs (3 * a + j)))
    (k : ∀ fs' fn', (∀ k, ¬ (3 * b ≤ k ∧ k < 3 * b + 3) → fs' k = fs k ∧ fn' k = fn k) → (∀ j, j < 3 → fs' (3 * b + j) = fs (3 * a + j) ∧ fn' (3 * b + j) = fn (3 * a + j)) → post (pr, lv, fc, ou, yu, rm, mk, sc, mc, rs, rn, pc, wc, op, nd, ab, st, rv, cp, cc, cs, gs, gn, du, ls, ln, dp, ss, sn, upd cl b (vp_nar .byte (cl a)), fs', fn', wt, mt, pl)) : wpX_copyObject post (pr, lv, fc, ou, yu, rm, mk, sc, mc, rs, rn, pc, wc, op, nd, ab, st, rv, cp, cc, cs, gs, gn, du, ls, ln, dp, ss, sn, cl, fs, fn, wt, mt, pl) (nI a) (nI b) := by
  rw [wpX_copyObject, nI_clamp (n := a) (by omega), nI_clamp (n := b) (by omega)]
  exact ⟨vp_in_nI ha (by decide), vp_in_nI hb (by decide), nm_e ⟨4, mx_copy_14 ha hb hab hS k 4 0 fs fn (by omega) (by omega) (fun k _ => ⟨rfl, rfl⟩) (fun i hi => by omega)⟩⟩
theorem mx_slide_4 {post : SX → Prop} {x p : Nat} (hx : x < 32) (hp : p ≤ x) (hmt : mt x = nI p) {fn0 : Nat → Int32} (hS : ∀ j, j < 3 → mr_S (fs (3 * x + j))) (hN : ∀ j, j < 3 → mr_N (fs (3 * x + j)) (fn0 (3 * x + j))) (hc : vp_nar .byte (cl x) = cl x)
    (k : ∀ cl' fs' fn', (∀ k, ¬ (3 * x ≤ k ∧ k < 3 * x + 3) → ¬ (3 * p ≤ k ∧ k < 3 * p + 3) → fs' k = fs k ∧ fn' k = fn0 k) → (∀ j, j < 3 → fs' (3 * p + j) = fs (3 * x + j) ∧ fn' (3 * p + j) = mr_mv mt (fs (3 * x + j)) (fn0 (3 * x + j))) → (∀ a, a ≠ p → cl' a = cl a) → cl' p = cl x → post (pr, lv, fc, ou, yu, rm, mk, sc, mc, rs, rn, pc, wc, op, nd, ab, st, rv, cp, cc, cs, gs, gn, du, ls, ln, dp, ss, sn, cl', fs', fn', wt, mt, pl)) : ∀ n j fn, j ≤ 3 → 3 - j < n → (∀ k, ¬ (3 * x ≤ k ∧ k < 3 * x + j) → fn k = fn0 k) → (∀ i, i < j → fn (3 * x + i) = mr_mv mt (fs (3 * x + i)) (fn0 (3 * x + i))) → wX_slide_4 post (nI x) pr lv fc ou yu rm mk sc mc rs rn pc wc n (nI (3 * x + j)) op nd ab st rv cp cc cs gs gn du ls ln dp ss sn cl fs fn wt mt pl := by
  intro n
  induction n with
  | zero => intro j fn _ h; omega
  | succ n ih =>
    intro j fn hj hlt h1 h2
    rw [wX_slide_4]
    dsimp only
    rw [mr_i3, mr_p3]
    by_cases z : j = 3
    · subst z
      refine br_t (nI_le (by omega) (by omega)) ⟨vp_in_nI hx (by decide), ?_⟩
      rw [nI_clamp (n := x) (by omega), hmt]
      by_cases e : p = x
      · subst e
        exact br_t rfl (k cl fs fn (fun k h3 h4 => ⟨rfl, h1 k h3⟩) (fun j hj => ⟨rfl, h2 j hj⟩) (fun a _ => rfl) rfl)
      · refine br_f (fun q => e (mr_inj (by omega) (by omega) q)) ⟨vp_in_nI hx (by decide), ?_⟩
        refine mx_copy hx (by omega) (fun q => e q.symm) hS fun fs' fn' g1 g2 => k _ fs' fn' (fun k h3 h4 => ?_) (fun j hj => ?_) (fun a ha => pk_un ha) (pk_us.trans hc)
        · exact ⟨(g1 k h4).1, (g1 k h4).2.trans (h1 k h3)⟩
        · exact ⟨(g2 j hj).1, (g2 j hj).2.trans (h2 j hj)⟩
    · have q := h1 (3 * x + j) (by omega)
      have hn := hN j (by omega)
      refine br_f (nI_ge (by omega) (by omega)) ⟨vp_in_nI (by omega) (by decide), ?_⟩
      rw [nI_clamp (n := 3 * x + j) (by omega), q]
      by_cases e : fs (3 * x + j) = 2
      · refine br_t e ⟨vp_in_nI (by omega) (by decide), mr_N_in hn e, vp_in_nI (by omega) (by decide), nm_e (nm_r (nI_1 _) ?_)⟩
        refine ih (j + 1) _ (by omega) (by omega) (fun k hk => ?_) (fun i hi => ?_)
        · rw [pk_un (by omega)]; exact h1 k (by omega)
        · by_cases w : i = j
          · subst w; rw [pk_us, mr_mv2 e]
          · rw [pk_un (by omega)]; exact h2 i (by omega)
      · refine br_f e (nm_r (nI_1 _) (ih (j + 1) fn (by omega) (by omega) (fun k hk => h1 k (by omega)) fun i hi => ?_))
        by_cases w : i = j
        · subst w; rw [mr_mvn e]; exact q
        · exact h2 i (by omega)
theorem mx_slide {post : SX → Prop} {x p : Nat} (hx : x < 32) (hp : p ≤ x) (hmt : mt x = nI p) (hS : ∀ j, j < 3 → mr_S (fs (3 * x + j))) (hN : ∀ j, j < 3 → mr_N (fs (3 * x + j)) (fn (3 * x + j))) (hc : vp_nar .byte (cl x) = cl x)
    (k : ∀ cl' fs' fn', (∀ k, ¬ (3 * x ≤ k ∧ k < 3 * x + 3) → ¬ (3 * p ≤ k ∧ k < 3 * p + 3) → fs' k = fs k ∧ fn' k = fn k) → (∀ j, j < 3 → fs' (3 * p + j) = fs (3 * x + j) ∧ fn' (3 * p + j) = mr_mv mt (fs (3 * x + j)) (fn (3 * x + j))) → (∀ a, a ≠ p → cl' a = cl a) → cl' p = cl x → post (pr, lv, fc, ou, yu, rm, mk, sc, mc, rs, rn, pc, wc, op, nd, ab, st, rv, cp, cc, cs, gs, gn, du, ls, ln, dp, ss, sn, cl', fs', fn', wt, mt, pl)) : wpX_slide post (pr, lv, fc, ou, yu, rm, mk, sc, mc, rs, rn, pc, wc, op, nd, ab, st, rv, cp, cc, cs, gs, gn, du, ls, ln, dp, ss, sn, cl, fs, fn, wt, mt, pl) (nI x) := by
  rw [wpX_slide]
  exact nm_r (mr_i3 x) ⟨4, mx_slide_4 hx hp hmt hS hN hc k 4 0 fn (by omega) (by omega) (fun k _ => rfl) (fun i hi => by omega)⟩
end
section
variable {pr lv fc sc mc rs rn pc wc : Int32} {op nd ab st rv cp cc cs gs gn du ls ln dp ss sn wt mt pl : Nat → Int32} {M : Nat → Prop} {cl0 fs0 fn0 : Nat → Int32}
/-- objects: those before x stand at their ranks, those from x on where they were -/
def mr_SL (M : Nat → Prop) (mt cl0 fs0 fn0 : Nat → Int32) (x : Nat) (cl fs fn : Nat → Int32) : Prop :=
  (∀ a, M a → a < x → cl (cn M a) = cl0 a ∧ ∀ j, j < 3 → fs (3 * cn M a + j) = fs0 (3 * a + j) ∧ fn (3 * cn M a + j) = mr_mv mt (fs0 (3 * a + j)) (fn0 (3 * a + j))) ∧
  (∀ a, M a → x ≤ a → cl a = cl0 a ∧ ∀ j, j < 3 → fs (3 * a + j) = fs0 (3 * a + j) ∧ fn (3 * a + j) = fn0 (3 * a + j))
theorem mx_all_201 {post : SX → Prop} {mk ou yu rm x1 : Int32} (hM : ∀ a, M a → a < 32) (hm : ∀ a, a < 32 → (bt mk a = true ↔ M a)) (hmt : ∀ a, M a → mt a = nI (cn M a)) (hS : ∀ a, M a → ∀ j, j < 3 → mr_S (fs0 (3 * a + j))) (hN : ∀ a, M a → ∀ j, j < 3 → mr_N (fs0 (3 * a + j)) (fn0 (3 * a + j))) (hc : ∀ a, M a → vp_nar .byte (cl0 a) = cl0 a)
    (k : ∀ cl' fs' fn', mr_SL M mt cl0 fs0 fn0 32 cl' fs' fn' → post (pr, lv, fc, x1, 0, 0, mk, sc, mc, rs, rn, pc, wc, op, nd, ab, st, rv, cp, cc, cs, gs, gn, du, ls, ln, dp, ss, sn, cl', fs', fn', wt, mt, pl)) : ∀ n x cl fs fn, x ≤ 32 → 32 - x < n → mr_SL M mt cl0 fs0 fn0 x cl fs fn → wX_collectAll_201 post x1 n (nI x) pr lv fc ou yu rm mk sc mc rs rn pc wc op nd ab st rv cp cc cs gs gn du ls ln dp ss sn cl fs fn wt mt pl := by
  intro n
  induction n with
  | zero => intro x cl fs fn _ h; omega
  | succ n ih =>
    intro x cl fs fn hx hlt h
    rw [wX_collectAll_201]
    by_cases z : x = 32
    · subst z
      exact br_t (by decide) (k cl fs fn h)
    · refine br_f (nI_ge (b := 32) (by omega) (by omega)) ?_
      by_cases q : bt mk x = true
      · have mx := (hm x (by omega)).mp q
        have ml := cn_le M x
        have q' : ¬ ((mk.toUInt32 >>> ((nI x).toUInt32 &&& Int32.toUInt32 31)).toInt32 &&& 1) = 0 := fun w => by
          rw [(mr_bit (by omega)).mp w] at q; exact absurd q (by decide)
        have g := h.2 x mx (Nat.le_refl _)
        refine br_f q' (mx_slide (p := cn M x) (by omega) ml (hmt x mx) (fun j hj => by rw [(g.2 j hj).1]; exact hS x mx j hj) (fun j hj => by rw [(g.2 j hj).1, (g.2 j hj).2]; exact hN x mx j hj) (by rw [g.1]; exact hc x mx) fun cl' fs' fn' g1 g2 g3 g4 => nm_r (nI_1 _) (ih (x + 1) cl' fs' fn' (by omega) (by omega) ⟨fun a ma ha => ?_, fun a ma ha => ?_⟩))
        · by_cases e : a = x
          · subst e
            refine ⟨g4.trans g.1, fun j hj => ?_⟩
            have q1 := g2 j hj
            have q2 := g.2 j hj
            rw [q2.1, q2.2] at q1
            exact q1
          · have l1 := mr_cn_lt ma (by omega : a < x)
            have b := h.1 a ma (by omega)
            refine ⟨(g3 _ (by omega)).trans b.1, fun j hj => ?_⟩
            have q1 := g1 (3 * cn M a + j) (by omega) (by omega)
            exact ⟨q1.1.trans (b.2 j hj).1, q1.2.trans (b.2 j hj).2⟩
        · have b := h.2 a ma (by omega)
          refine ⟨(g3 _ (by omega)).trans b.1, fun j hj => ?_⟩
          have q1 := g1 (3 * a + j) (by omega) (by omega)
          exact ⟨q1.1.trans (b.2 j hj).1, q1.2.trans (b.2 j hj).2⟩
      · have nm : ¬ M x := fun m => q ((hm x (by omega)).mpr m)
        refine br_t ((mr_bit (by omega)).mpr (by cases w : bt mk x with | true => exact absurd w q | false => rfl)) (nm_r (nI_1 _) (ih (x + 1) cl fs fn (by omega) (by omega) ⟨fun a ma ha => h.1 a ma ?_, fun a ma ha => h.2 a ma (by omega)⟩))
        rcases Nat.lt_or_ge a x with w | w
        · exact w
        · have : a = x := by omega
          subst this
          exact absurd ma nm
end
section
variable {pr lv ou yu rm mk sc mc rs rn pc wc : Int32} {op nd ab st rv cp cc cs gs du ls dp ss cl fs fn wt mt pl : Nat → Int32} {F : Nat} {hh : Nat → Nat} {gn0 ln0 sn0 : Nat → Int32} {x1 : Int32}
theorem mx_all_145 {post : SX → Prop} {J : Int32 → (Nat → Int32) → (Nat → Int32) → (Nat → Int32) → (Nat → Int32) → (Nat → Int32) → (Nat → Int32) → (Nat → Int32) → (Nat → Int32) → (Nat → Int32) → (Nat → Int32) → (Nat → Int32) → (Nat → Int32) → (Nat → Int32) → (Nat → Int32) → (Nat → Int32) → (Nat → Int32) → (Nat → Int32) → (Nat → Int32) → (Nat → Int32) → (Nat → Int32) → (Nat → Int32) → (Nat → Int32) → Prop} {f : Nat} {fc : Int32} {gn ln : Nat → Int32} (hf : f < 10) (h6 : hh f ≤ 6) (hdp : dp f = nI (hh f)) (hN : ∀ j, j < hh f → mr_N (ss (6 * f + j)) (sn0 (6 * f + j)))
    : ∀ n j sn, j ≤ hh f → hh f - j < n → (∀ i, j ≤ i → i < hh f → sn (6 * f + i) = sn0 (6 * f + i)) → (∀ i, i < j → sn (6 * f + i) = mr_mv mt (ss (6 * f + i)) (sn0 (6 * f + i))) →
    (∀ sn', (∀ k, ¬ (6 * f ≤ k ∧ k < 6 * f + hh f) → sn' k = sn k) → (∀ i, i < hh f → sn' (6 * f + i) = mr_mv mt (ss (6 * f + i)) (sn0 (6 * f + i))) → J (nI (f + 1)) op nd ab st rv cp cc cs gs gn du ls ln dp ss sn' cl fs fn wt mt pl) →
    wX_collectAll_145 post J x1 (nI f) pr lv fc ou yu rm mk sc mc rs rn pc wc n (nI (6 * f + j)) op nd ab st rv cp cc cs gs gn du ls ln dp ss sn cl fs fn wt mt pl := by
  intro n
  induction n with
  | zero => intro j sn _ h; omega
  | succ n ih =>
    intro j sn hj hlt h1 h2 k
    rw [wX_collectAll_145]
    dsimp only
    rw [mr_i6, nI_clamp (n := f) (by omega), hdp, nI_add]
    refine ⟨vp_in_nI hf (by decide), ?_⟩
    by_cases z : j = hh f
    · subst z
      exact br_t (nI_le (by omega) (by omega)) (nm_r (nI_1 _) (k sn (fun k _ => rfl) h2))
    · have q := h1 j (by omega) (by omega)
      have hn := hN j (by omega)
      refine br_f (nI_ge (by omega) (by omega)) ⟨vp_in_nI (by omega) (by decide), ?_⟩
      rw [nI_clamp (n := 6 * f + j) (by omega), q]
      by_cases e : ss (6 * f + j) = 2
      · refine br_t e ⟨vp_in_nI (by omega) (by decide), mr_N_in hn e, vp_in_nI (by omega) (by decide), nm_e (nm_r (nI_1 _) ?_)⟩
        refine ih (j + 1) _ (by omega) (by omega) (fun i hi hi' => ?_) (fun i hi => ?_) fun sn' g1 g2 => k sn' (fun k hk => ?_) g2
        · rw [pk_un (by omega)]; exact h1 i (by omega) hi'
        · by_cases w : i = j
          · subst w; rw [pk_us, mr_mv2 e]
          · rw [pk_un (by omega)]; exact h2 i (by omega)
        · rw [g1 k hk, pk_un (by omega)]
      · refine br_f e (nm_r (nI_1 _) (ih (j + 1) sn (by omega) (by omega) (fun i hi hi' => h1 i (by omega) hi') (fun i hi => ?_) k))
        by_cases w : i = j
        · subst w; rw [mr_mvn e]; exact q
        · exact h2 i (by omega)
theorem mx_all_132 {post : SX → Prop} {gn ln : Nat → Int32} (hF : F ≤ 10) (hd : ∀ f, f < F → dp f = nI (hh f) ∧ hh f ≤ 6) (hN : ∀ f j, f < F → j < hh f → mr_N (ss (6 * f + j)) (sn0 (6 * f + j)))
    (k : ∀ sn', (∀ f j, f < F → j < hh f → sn' (6 * f + j) = mr_mv mt (ss (6 * f + j)) (sn0 (6 * f + j))) → ∃ n, wX_collectAll_201 post x1 n 0 pr lv (nI F) ou yu rm mk sc mc rs rn pc wc op nd ab st rv cp cc cs gs gn du ls ln dp ss sn' cl fs fn wt mt pl)
    : ∀ n f sn, f ≤ F → F - f < n → (∀ g i, g < f → i < hh g → sn (6 * g + i) = mr_mv mt (ss (6 * g + i)) (sn0 (6 * g + i))) → (∀ k, 6 * f ≤ k → sn k = sn0 k) → wX_collectAll_132 post x1 pr lv (nI F) ou yu rm mk sc mc rs rn pc wc n (nI f) op nd ab st rv cp cc cs gs gn du ls ln dp ss sn cl fs fn wt mt pl := by
  intro n
  induction n with
  | zero => intro f sn _ h; omega
  | succ n ih =>
    intro f sn hf hlt h1 h2
    rw [wX_collectAll_132]
    by_cases z : f = F
    · subst z
      exact br_t (nI_le (Nat.le_refl _) (by omega)) (k sn h1)
    · have hf' : f < F := by omega
      have h6 := (hd f hf').2
      refine br_f (nI_ge hf' (by omega)) (nm_r (mr_i6 f) ⟨7, ?_⟩)
      refine mx_all_145 (by omega) h6 (hd f hf').1 (fun j hj => hN f j hf' hj) 7 0 sn (by omega) (by omega) (fun i _ hi => h2 _ (by omega)) (fun i hi => by omega) fun sn' g1 g2 => ih (f + 1) sn' (by omega) (by omega) (fun g i hg hi => ?_) (fun k hk => ?_)
      · by_cases e : g = f
        · subst e; exact g2 i hi
        · have := (hd g (by omega)).2
          rw [g1 _ (by omega)]; exact h1 g i (by omega) hi
      · rw [g1 k (by omega)]; exact h2 k (by omega)
theorem mx_all_87 {post : SX → Prop} {gn sn : Nat → Int32} (hF : F ≤ 10) (hN : ∀ g, g < 4 * F → mr_N (ls g) (ln0 g))
    (k : ∀ ln', (∀ g, g < 4 * F → ln' g = mr_mv mt (ls g) (ln0 g)) → ∃ n, wX_collectAll_132 post x1 pr lv (nI F) ou yu rm mk sc mc rs rn pc wc n 0 op nd ab st rv cp cc cs gs gn du ls ln' dp ss sn cl fs fn wt mt pl)
    : ∀ n i ln, i ≤ 4 * F → 4 * F - i < n → (∀ g, g < i → ln g = mr_mv mt (ls g) (ln0 g)) → (∀ k, i ≤ k → ln k = ln0 k) → wX_collectAll_87 post x1 pr lv (nI F) ou yu rm mk sc mc rs rn pc wc n (nI i) op nd ab st rv cp cc cs gs gn du ls ln dp ss sn cl fs fn wt mt pl := by
  intro n
  induction n with
  | zero => intro i ln _ h; omega
  | succ n ih =>
    intro i ln hi hlt h1 h2
    rw [wX_collectAll_87]
    dsimp only
    rw [mr_i4]
    by_cases z : i = 4 * F
    · subst z
      exact br_t (nI_le (Nat.le_refl _) (by omega)) (k ln h1)
    · have q := h2 i (Nat.le_refl _)
      have hn := hN i (by omega)
      refine br_f (nI_ge (by omega) (by omega)) ⟨vp_in_nI (by omega) (by decide), ?_⟩
      rw [nI_clamp (n := i) (by omega), q]
      by_cases e : ls i = 2
      · refine br_t e ⟨vp_in_nI (by omega) (by decide), mr_N_in hn e, vp_in_nI (by omega) (by decide), nm_e (nm_r (nI_1 _) ?_)⟩
        refine ih (i + 1) _ (by omega) (by omega) (fun g hg => ?_) (fun k hk => ?_)
        · by_cases w : g = i
          · subst w; rw [pk_us, mr_mv2 e]
          · rw [pk_un w]; exact h1 g (by omega)
        · rw [pk_un (by omega)]; exact h2 k (by omega)
      · refine br_f e (nm_r (nI_1 _) (ih (i + 1) ln (by omega) (by omega) (fun g hg => ?_) (fun k hk => h2 k (by omega))))
        by_cases w : g = i
        · subst w; rw [mr_mvn e]; exact q
        · exact h1 g (by omega)
theorem mx_all_47 {post : SX → Prop} {fc : Int32} {ln sn : Nat → Int32} (hN : ∀ g, g < 4 → mr_N (gs g) (gn0 g))
    (k : ∀ gn', (∀ g, g < 4 → gn' g = mr_mv mt (gs g) (gn0 g)) → ∃ n, wX_collectAll_87 post x1 pr lv fc ou yu rm mk sc mc rs rn pc wc n 0 op nd ab st rv cp cc cs gs gn' du ls ln dp ss sn cl fs fn wt mt pl)
    : ∀ n i gn, i ≤ 4 → 4 - i < n → (∀ g, g < i → gn g = mr_mv mt (gs g) (gn0 g)) → (∀ k, i ≤ k → gn k = gn0 k) → wX_collectAll_47 post x1 pr lv fc ou yu rm mk sc mc rs rn pc wc n (nI i) op nd ab st rv cp cc cs gs gn du ls ln dp ss sn cl fs fn wt mt pl := by
  intro n
  induction n with
  | zero => intro i gn _ h; omega
  | succ n ih =>
    intro i gn hi hlt h1 h2
    rw [wX_collectAll_47]
    by_cases z : i = 4
    · subst z
      exact br_t (by decide) (k gn h1)
    · have q := h2 i (Nat.le_refl _)
      have hn := hN i (by omega)
      refine br_f (nI_ge (b := 4) (by omega) (by omega)) ⟨vp_in_nI (by omega) (by decide), ?_⟩
      rw [nI_clamp (n := i) (by omega), q]
      by_cases e : gs i = 2
      · refine br_t e ⟨vp_in_nI (by omega) (by decide), mr_N_in hn e, vp_in_nI (by omega) (by decide), nm_e (nm_r (nI_1 _) ?_)⟩
        refine ih (i + 1) _ (by omega) (by omega) (fun g hg => ?_) (fun k hk => ?_)
        · by_cases w : g = i
          · subst w; rw [pk_us, mr_mv2 e]
          · rw [pk_un w]; exact h1 g (by omega)
        · rw [pk_un (by omega)]; exact h2 k (by omega)
      · refine br_f e (nm_r (nI_1 _) (ih (i + 1) gn (by omega) (by omega) (fun g hg => ?_) (fun k hk => h2 k (by omega))))
        by_cases w : g = i
        · subst w; rw [mr_mvn e]; exact q
        · exact h1 g (by omega)
theorem mx_all_8 {post : SX → Prop} {fc : Int32} {gn ln sn : Nat → Int32} {M : Nat → Prop} (hm : ∀ a, a < 32 → (bt mk a = true ↔ M a))
    (k : ∀ mt', (∀ a, a < 32 → M a → mt' a = nI (cn M a)) → ∃ n, wX_collectAll_47 post (nI (cn M 32)) pr lv fc ou yu rm mk sc mc rs rn pc wc n 0 op nd ab st rv cp cc cs gs gn du ls ln dp ss sn cl fs fn wt mt' pl)
    : ∀ n i mt, i ≤ 32 → 32 - i < n → (∀ a, a < i → M a → mt a = nI (cn M a)) → wX_collectAll_8 post pr lv fc ou yu rm mk sc mc rs rn pc wc n (nI (cn M i)) (nI i) op nd ab st rv cp cc cs gs gn du ls ln dp ss sn cl fs fn wt mt pl := by
  intro n
  induction n with
  | zero => intro i mt _ h; omega
  | succ n ih =>
    intro i mt hi hlt h1
    rw [wX_collectAll_8]
    by_cases z : i = 32
    · subst z
      exact br_t (by decide) (k mt h1)
    · refine br_f (nI_ge (b := 32) (by omega) (by omega)) ?_
      have cl := cn_le M i
      by_cases q : bt mk i = true
      · have mx := (hm i (by omega)).mp q
        have q' : ¬ ((mk.toUInt32 >>> ((nI i).toUInt32 &&& Int32.toUInt32 31)).toInt32 &&& 1) = 0 := fun w => by
          rw [(mr_bit (by omega)).mp w] at q; exact absurd q (by decide)
        refine br_f q' ⟨vp_in_nI (by omega) (by decide), nm_e (nm_r (e' := nI (cn M (i + 1))) (by rw [nI_1, mr_cn_t mx]) (nm_r (nI_1 _) ?_))⟩
        rw [nI_clamp (n := i) (by omega), mr_nb2 (by omega)]
        refine ih (i + 1) _ (by omega) (by omega) fun a ha ma => ?_
        by_cases e : a = i
        · subst e; exact pk_us
        · rw [pk_un e]; exact h1 a (by omega) ma
      · have nm : ¬ M i := fun m => q ((hm i (by omega)).mpr m)
        have g := ih (i + 1) mt (by omega) (by omega) fun a ha ma => h1 a (by
          rcases Nat.lt_or_ge a i with w | w
          · exact w
          · have : a = i := by omega
            subst this
            exact absurd ma nm) ma
        rw [mr_cn_f nm] at g
        exact br_t ((mr_bit (by omega)).mpr (by cases w : bt mk i with | true => exact absurd w q | false => rfl)) (nm_r (nI_1 _) g)
end
end
section
/-! X: collectAll as a change of the relation -/
section
variable {R : Nat → Nat → Prop} {F o y : Nat} {hh : Nat → Nat} {rm : Int32} {gs gn ls ln ss sn cl fs fn dp ygs ygn yls yln yss ysn ykd yfs yfn : Nat → Int32}
theorem mr_V_N {s n s' n' : Int32} (hR : ∀ a b, R a b → a < 32 ∧ b < 16) (v : mr_V R s n s' n') : mr_N s n := by
  intro e
  obtain ⟨a, b, h1, h2, r⟩ := mr_V_obj v e
  exact ⟨a, (hR a b r).1, h1⟩
theorem mr_MH_of (h : mr_HP R o y rm cl fs fn ykd yfs yfn) (hr : mr_RT R F hh gs gn ls ln ss sn ygs ygn yls yln yss ysn) (hF : F ≤ 10) (hd : ∀ f, f < F → dp f = nI (hh f) ∧ hh f ≤ 6) : mr_MH F hh gs gn ls ln ss sn fs fn dp (mr_L F hh gs gn ls ln ss sn fs fn) := by
  have hR := mr_HP_R h
  refine ⟨hF, hd, fun a l => ?_, mr_L_ro, mr_L_cd, fun g hg => mr_V_N hR (hr.1 g hg), fun g hg => mr_V_N hR (hr.2.1 g hg), fun f j hf hj => mr_V_N hR (hr.2.2 f j hf hj), fun a l j hj => ?_⟩
  · obtain ⟨b, r, _⟩ := mr_LX hR hr h.2.2.2.2.1 l
    exact (hR _ _ r).1
  · obtain ⟨b, r, _⟩ := mr_LX hR hr h.2.2.2.2.1 l
    exact mr_V_N hR ((h.2.2.2.2.1 a b r).2 j hj)
theorem mr_V_mv {M : Nat → Prop} {mt : Nat → Int32} {s n s' n' : Int32} (hR : ∀ a b, R a b → a < 32 ∧ b < 16) (hmt : ∀ a, M a → mt a = nI (cn M a)) (v : mr_V R s n s' n') (k : mr_K M s n) : mr_V (mr_RA M R) s (mr_mv mt s n) s' n' := by
  refine ⟨v.1, ?_⟩
  rcases v.2 with ⟨h1, h2⟩ | ⟨h1, h2⟩ | ⟨e, a, b, h1, h2, r⟩
  · exact Or.inl ⟨h1, by rw [mr_mvn (by rw [h1]; decide)]; exact h2⟩
  · exact Or.inr (Or.inl ⟨h1, by rw [mr_mvn (by rw [h1]; decide)]; exact h2⟩)
  · have ha := (hR a b r).1
    have m := k e a ha h1
    refine Or.inr (Or.inr ⟨e, cn M a, b, ?_, h2, a, m, r, rfl⟩)
    rw [mr_mv2 e, h1, nI_clamp (by omega)]
    exact hmt a m
end
section
variable {pr lv rm mk sc mc rs rn pc wc : Int32} {op nd ab st rv cp cc cs gs gn du ls ln dp ss sn cl fs fn wt mt pl : Nat → Int32} {R : Nat → Nat → Prop} {F o y : Nat} {hh : Nat → Nat} {ygs ygn yls yln yss ysn ykd yfs yfn : Nat → Int32}
theorem mx_collectAll {post : SX → Prop} (h : mr_HP R o y rm cl fs fn ykd yfs yfn) (hr : mr_RT R F hh gs gn ls ln ss sn ygs ygn yls yln yss ysn) (hF : F ≤ 10) (hd : ∀ f, f < F → dp f = nI (hh f) ∧ hh f ≤ 6)
    (k : ∀ R' mk' wt' mt' gn' ln' sn' cl' fs' fn', mr_HP R' (cn (mr_L F hh ygs ygn yls yln yss ysn yfs yfn) 16) 0 0 cl' fs' fn' ykd yfs yfn → mr_RT R' F hh gs gn' ls ln' ss sn' ygs ygn yls yln yss ysn → post (pr, lv, nI F, nI (cn (mr_L F hh ygs ygn yls yln yss ysn yfs yfn) 16), 0, 0, mk', sc, mc, rs, rn, pc, 0, op, nd, ab, st, rv, cp, cc, cs, gs, gn', du, ls, ln', dp, ss, sn', cl', fs', fn', wt', mt', pl)) : wpX_collectAll post (pr, lv, nI F, nI o, nI y, rm, mk, sc, mc, rs, rn, pc, wc, op, nd, ab, st, rv, cp, cc, cs, gs, gn, du, ls, ln, dp, ss, sn, cl, fs, fn, wt, mt, pl) := by
  have hR := mr_HP_R h
  have H := mr_MH_of (gs := gs) (gn := gn) (ls := ls) (ln := ln) (ss := ss) (sn := sn) h hr hF hd
  have hx := fun {a} (l : mr_L F hh gs gn ls ln ss sn fs fn a) => mr_LX hR hr h.2.2.2.2.1 l
  obtain ⟨H1, H2, H3, H4, H5, H6, H7, H8, H9⟩ := id H
  have ec := mr_cnt h hr
  rw [wpX_collectAll]
  refine mx_markNeeded H fun mk' wt' hm => ⟨33, ?_⟩
  refine mx_all_8 (M := mr_L F hh gs gn ls ln ss sn fs fn) hm (fun mt' hmt => ⟨5, ?_⟩) 33 0 mt (by omega) (by omega) fun a ha => by omega
  refine mx_all_47 (gn0 := gn) H6 (fun gn' hgn => ⟨4 * F + 1, ?_⟩) 5 0 gn (by omega) (by omega) (fun g hg => by omega) fun k _ => rfl
  refine mx_all_87 (ln0 := ln) hF H7 (fun ln' hln => ⟨F + 1, ?_⟩) _ 0 ln (by omega) (by omega) (fun g hg => by omega) fun k _ => rfl
  refine mx_all_132 (sn0 := sn) hF hd H8 (fun sn' hsn => ⟨33, ?_⟩) _ 0 sn (by omega) (by omega) (fun g i hg => by omega) fun k _ => rfl
  have hmt' : ∀ a, mr_L F hh gs gn ls ln ss sn fs fn a → mt' a = nI (cn (mr_L F hh gs gn ls ln ss sn fs fn) a) := fun a l => hmt a (H3 a l) l
  refine mx_all_201 (M := mr_L F hh gs gn ls ln ss sn fs fn) (cl0 := cl) (fs0 := fs) (fn0 := fn) H3 hm hmt' (fun a l j hj => ?_) (fun a l j hj => H9 a l j hj) (fun a l => ?_) (fun cl' fs' fn' sl => ?_) 33 0 cl fs fn (by omega) (by omega) ⟨fun a _ ha => by omega, fun a _ _ => ⟨rfl, fun j _ => ⟨rfl, rfl⟩⟩⟩
  · obtain ⟨b, r, _⟩ := hx l
    exact mr_V_S ((h.2.2.2.2.1 a b r).2 j hj)
  · obtain ⟨b, r, _⟩ := hx l
    obtain ⟨c, hc, e, _⟩ := (h.2.2.2.2.1 a b r).1
    rw [e]; exact mr_nb1 (by omega)
  · have ho : ∀ a b, mr_L F hh gs gn ls ln ss sn fs fn a → R a b → mr_Ob (mr_RA (mr_L F hh gs gn ls ln ss sn fs fn) R) cl' fs' fn' ykd yfs yfn (cn (mr_L F hh gs gn ls ln ss sn fs fn) a) b := by
      intro a b l r
      have q := sl.1 a l (H3 a l)
      have ob := h.2.2.2.2.1 a b r
      refine ⟨by rw [q.1]; exact ob.1, fun j hj => ?_⟩
      rw [(q.2 j hj).1, (q.2 j hj).2]
      exact mr_V_mv hR hmt' (ob.2 j hj) (H5 a l j hj)
    have hp := mr_HP_all h (M := mr_L F hh gs gn ls ln ss sn fs fn) (fun a l => ⟨H3 a l, by obtain ⟨b, r, _⟩ := hx l; exact ⟨b, r⟩⟩) (by rw [ec]; exact cn_le _ _) ho
    rw [ec] at hp ⊢
    refine k _ mk' wt' mt' gn' ln' sn' cl' fs' fn' hp ⟨fun g hg => ?_, fun g hg => ?_, fun f j hf hj => ?_⟩
    · rw [hgn g hg]; exact mr_V_mv hR hmt' (hr.1 g hg) (H4.1 g hg)
    · rw [hln g hg]; exact mr_V_mv hR hmt' (hr.2.1 g hg) (H4.2.1 g hg)
    · rw [hsn f j hf hj]; exact mr_V_mv hR hmt' (hr.2.2 f j hf hj) (H4.2.2 f j hf hj)
end
end
section
/-! X: collectYoung -/
section
variable {R R' : Nat → Nat → Prop} {F : Nat} {hh : Nat → Nat} {gs gn ls ln ss sn ygs ygn yls yln yss ysn : Nat → Int32}
theorem mr_V_to {s n s' n' : Int32} {q p : Nat} (hR : ∀ a b, R a b → a < 32 ∧ b < 16) (v : mr_V R s n s' n') (e : s = 2) (en : n = nI q) (hq : q < 32) (k : ∀ b, R q b → R' p b) : mr_V R' s (nI p) s' n' := by
  obtain ⟨a, b, h1, h2, r⟩ := mr_V_obj v e
  have : a = q := mr_inj (by have := (hR _ _ r).1; omega) (by omega) (h1.symm.trans en)
  subst this
  exact ⟨v.1, Or.inr (Or.inr ⟨e, p, b, rfl, h2, k b r⟩)⟩
theorem mr_RT_gn {g0 : Nat} {n : Int32} (h : mr_RT R F hh gs gn ls ln ss sn ygs ygn yls yln yss ysn) (v : mr_V R (gs g0) n (ygs g0) (ygn g0)) : mr_RT R F hh gs (upd gn g0 n) ls ln ss sn ygs ygn yls yln yss ysn := by
  refine ⟨fun g hg => ?_, h.2.1, h.2.2⟩
  by_cases z : g = g0
  · subst z; rw [pk_us]; exact v
  · rw [pk_un z]; exact h.1 g hg
theorem mr_RT_ln {k0 : Nat} {n : Int32} (h : mr_RT R F hh gs gn ls ln ss sn ygs ygn yls yln yss ysn) (v : mr_V R (ls k0) n (yls k0) (yln k0)) : mr_RT R F hh gs gn ls (upd ln k0 n) ss sn ygs ygn yls yln yss ysn := by
  refine ⟨h.1, fun g hg => ?_, h.2.2⟩
  by_cases z : g = k0
  · subst z; rw [pk_us]; exact v
  · rw [pk_un z]; exact h.2.1 g hg
theorem mr_RT_sn {k0 : Nat} {n : Int32} (h : mr_RT R F hh gs gn ls ln ss sn ygs ygn yls yln yss ysn) (v : mr_V R (ss k0) n (yss k0) (ysn k0)) : mr_RT R F hh gs gn ls ln ss (upd sn k0 n) ygs ygn yls yln yss ysn := by
  refine ⟨h.1, h.2.1, fun f j hf hj => ?_⟩
  by_cases z : 6 * f + j = k0
  · rw [z, pk_us]; exact v
  · rw [pk_un z]; exact h.2.2 f j hf hj
end
section
variable {pr lv fc yu rm mk sc mc rs rn pc wc : Int32} {op nd ab st rv cp cc cs gs du ls dp ss wt pl : Nat → Int32} {nx : Nat} {rm0 : Int32} {ykd yfs yfn : Nat → Int32}
theorem mx_moved {post : Int32 → SX → Prop} {gn ln sn : Nat → Int32} {R : Nat → Nat → Prop} {o a : Nat} {cl fs fn mt : Nat → Int32} (h : mr_CY nx rm0 ykd yfs yfn R o cl fs fn mt) (pa : mr_P8 o a)
    (k : ∀ R' o' p cl' fs' fn' mt', mr_CY nx rm0 ykd yfs yfn R' o' cl' fs' fn' mt' → o ≤ o' → p < o' → (∀ a b, R a b → R' a b) → (∀ b, R' a b → R' p b) → (∀ k, k < 3 * o → fs' k = fs k ∧ fn' k = fn k) → post (nI p) (pr, lv, fc, nI o', yu, rm, mk, sc, mc, rs, rn, pc, wc, op, nd, ab, st, rv, cp, cc, cs, gs, gn, du, ls, ln, dp, ss, sn, cl', fs', fn', wt, mt', pl)) : wpX_moved post (pr, lv, fc, nI o, yu, rm, mk, sc, mc, rs, rn, pc, wc, op, nd, ab, st, rv, cp, cc, cs, gs, gn, du, ls, ln, dp, ss, sn, cl, fs, fn, wt, mt, pl) (nI a) := by
  have l := mr_CY_lt h
  rw [wpX_moved]
  by_cases z : a < 24
  · have ha : a < o := by rcases pa with p | p <;> omega
    exact br_f (nI_ge (b := 24) z (by omega)) (k R o a cl fs fn mt h (Nat.le_refl _) ha (fun _ _ => id) (fun _ => id) fun _ _ => ⟨rfl, rfl⟩)
  · have ha : a < 32 := by rcases pa with p | p <;> omega
    refine br_t (nI_le (a := 24) (by omega) (by omega)) (nm_r (mr_s24 (by omega)) ⟨vp_in_nI (by omega) (by decide), ?_⟩)
    rw [nI_clamp (n := a - 24) (by omega)]
    have ea : 24 + (a - 24) = a := by omega
    rcases h.2.1 (a - 24) (by omega) with m | ⟨p, p1, p2, m⟩
    · rw [m]
      refine br_t (by decide) (nm_r (nI_1 o) ?_)
      have u := h.2.2.2.2.2.2.2.2.1 a pa
      have ho : o < 16 := (mr_CY_new h (y := a - 24) (by omega) m (cl' := upd cl o (vp_nar .byte (cl (24 + (a - 24))))) (fs' := fun k => if 3 * o ≤ k ∧ k < 3 * o + 3 then fs (3 * (24 + (a - 24)) + (k - 3 * o)) else fs k) (fn' := fun k => if 3 * o ≤ k ∧ k < 3 * o + 3 then fn (3 * (24 + (a - 24)) + (k - 3 * o)) else fn k) (fun k hk => ⟨if_neg hk, if_neg hk⟩) (fun j hj => by
          have e : 3 * o + j - 3 * o = j := by omega
          refine ⟨(if_pos (by omega)).trans (by rw [e]), (if_pos (by omega)).trans (by rw [e])⟩) (fun a ha => pk_un ha) pk_us).1
      refine mx_copy ha (by omega) (by omega) (fun j hj => mr_U_S (u j hj)) fun fs' fn' g1 g2 => ?_
      refine ⟨vp_in_nI (by omega) (by decide), nm_e ?_⟩
      rw [mr_nb2 (by omega)]
      have c := (mr_CY_new h (y := a - 24) (by omega) m (cl' := upd cl o (vp_nar .byte (cl a))) g1 (by rw [ea]; exact g2) (fun a ha => pk_un ha) (by rw [ea]; exact pk_us)).2
      rw [ea] at c
      exact k _ (o + 1) o _ fs' fn' _ c (by omega) (by omega) (fun a b r => Or.inl r) (fun b r => r.elim (fun r => Or.inr ⟨rfl, r⟩) fun r => Or.inr ⟨rfl, r.2⟩) fun k hk => g1 k (by omega)
    · rw [m]
      refine br_f (nI_pos (by omega)) ⟨vp_in_nI (by omega) (by decide), k R o p cl fs fn mt h (Nat.le_refl _) p2 (fun _ _ => id) (fun b r => ?_) fun _ _ => ⟨rfl, rfl⟩⟩
      exact h.2.2.2.2.2.2.1 (a - 24) p b (by omega) (by omega) m (by rw [ea]; exact r)
theorem mx_moveFields_4 {post : SX → Prop} {gn ln sn : Nat → Int32} {D : Nat → Prop} {x : Nat} {R0 : Nat → Nat → Prop} {o0 : Nat}
    (k : ∀ R' o' cl' fs' fn' mt', mr_CY nx rm0 ykd yfs yfn R' o' cl' fs' fn' mt' → o0 ≤ o' → (∀ a b, R0 a b → R' a b) → mr_DN fs' fn' x → (∀ a, D a → mr_DN fs' fn' a) → post (pr, lv, fc, nI o', yu, rm, mk, sc, mc, rs, rn, pc, wc, op, nd, ab, st, rv, cp, cc, cs, gs, gn, du, ls, ln, dp, ss, sn, cl', fs', fn', wt, mt', pl)) (hx : x < o0) (hD : ∀ a, D a → a < o0) :
    ∀ n j R o cl fs fn mt, j ≤ 3 → 3 - j < n → mr_CY nx rm0 ykd yfs yfn R o cl fs fn mt → o0 ≤ o → (∀ a b, R0 a b → R a b) → (∀ i, i < j → mr_K (fun q => q < 24) (fs (3 * x + i)) (fn (3 * x + i))) → (∀ a, D a → mr_DN fs fn a) → wX_moveFields_4 post (nI x) n (nI (3 * x + j)) pr lv fc (nI o) yu rm mk sc mc rs rn pc wc op nd ab st rv cp cc cs gs gn du ls ln dp ss sn cl fs fn wt mt pl := by
  intro n
  induction n with
  | zero => intro j R o cl fs fn mt _ h; omega
  | succ n ih =>
    intro j R o cl fs fn mt hj hlt h ho hR0 hK hd
    have l := mr_CY_lt h
    have hR := mr_CY_R h
    rw [wX_moveFields_4]
    dsimp only
    rw [mr_i3, mr_p3]
    by_cases z : j = 3
    · subst z
      exact br_t (nI_le (by omega) (by omega)) (k R o cl fs fn mt h ho hR0 hK hd)
    · refine br_f (nI_ge (by omega) (by omega)) ⟨vp_in_nI (by omega) (by decide), ?_⟩
      rw [nI_clamp (n := 3 * x + j) (by omega)]
      have u := h.2.2.2.2.2.2.2.2.1 x (Or.inl (by omega)) j (by omega)
      by_cases e : fs (3 * x + j) = 2
      · obtain ⟨q, eq, pq⟩ := mr_U_obj u e
        have hq : q < 32 := by rcases pq with p | p <;> omega
        refine br_t e ⟨vp_in_nI (by omega) (by decide), ?_⟩
        rw [eq]
        refine mx_moved h pq fun R' o' p cl' fs' fn' mt' c1 c2 c3 c4 c5 c6 => ?_
        dsimp only
        refine ⟨vp_in_nI (by omega) (by decide), nm_e (nm_r (nI_1 _) ?_)⟩
        have l' := mr_CY_lt c1
        have f1 := c6 (3 * x + j) (by omega)
        refine ih (j + 1) R' o' cl' fs' _ mt' (by omega) (by omega) (mr_CY_w c1 (by omega) hq c3 (f1.2.trans eq) c5 (f1.1.trans e)) (by omega) (fun a b r => c4 a b (hR0 a b r)) (fun i hi => ?_) fun a da => mr_DN_w (by omega) fun i hi => ?_
        · by_cases w : i = j
          · subst w; rw [pk_us]; exact mr_K_at (a := p) (by omega) rfl (by omega)
          · have f2 := c6 (3 * x + i) (by omega)
            rw [pk_un (by omega), f2.1, f2.2]; exact hK i (by omega)
        · have f2 := c6 (3 * a + i) (by have := hD a da; omega)
          rw [f2.1, f2.2]; exact hd a da i hi
      · refine br_f e (nm_r (nI_1 _) (ih (j + 1) R o cl fs fn mt (by omega) (by omega) h ho hR0 (fun i hi => ?_) hd))
        by_cases w : i = j
        · subst w; exact mr_K_no e
        · exact hK i (by omega)
theorem mx_moveFields {post : SX → Prop} {gn ln sn : Nat → Int32} {D : Nat → Prop} {x o : Nat} {R : Nat → Nat → Prop} {cl fs fn mt : Nat → Int32} (h : mr_CY nx rm0 ykd yfs yfn R o cl fs fn mt) (hx : x < o) (hD : ∀ a, D a → a < o ∧ mr_DN fs fn a)
    (k : ∀ R' o' cl' fs' fn' mt', mr_CY nx rm0 ykd yfs yfn R' o' cl' fs' fn' mt' → o ≤ o' → (∀ a b, R a b → R' a b) → mr_DN fs' fn' x → (∀ a, D a → mr_DN fs' fn' a) → post (pr, lv, fc, nI o', yu, rm, mk, sc, mc, rs, rn, pc, wc, op, nd, ab, st, rv, cp, cc, cs, gs, gn, du, ls, ln, dp, ss, sn, cl', fs', fn', wt, mt', pl)) : wpX_moveFields post (pr, lv, fc, nI o, yu, rm, mk, sc, mc, rs, rn, pc, wc, op, nd, ab, st, rv, cp, cc, cs, gs, gn, du, ls, ln, dp, ss, sn, cl, fs, fn, wt, mt, pl) (nI x) := by
  rw [wpX_moveFields]
  exact nm_r (mr_i3 x) ⟨4, mx_moveFields_4 k hx (fun a da => (hD a da).1) 4 0 R o cl fs fn mt (by omega) (by omega) h (Nat.le_refl _) (fun _ _ => id) (fun i hi => by omega) fun a da => (hD a da).2⟩
end
section
variable {pr lv yu rm mk sc mc rs rn pc wc : Int32} {op nd ab st rv cp cc cs gs du ls dp ss wt pl : Nat → Int32} {nx F : Nat} {hh : Nat → Nat} {ykd yfs yfn ygs ygn yls yln yss ysn : Nat → Int32} {post : SX → Prop}
def mr_R24 (P : Int32 → Int32 → Prop) (F : Nat) (hh : Nat → Nat) (gs gn ls ln ss sn : Nat → Int32) : Prop :=
  (∀ g, g < 4 → P (gs g) (gn g)) ∧ (∀ k, k < 4 * F → P (ls k) (ln k)) ∧ (∀ f j, f < F → j < hh f → P (ss (6 * f + j)) (sn (6 * f + j)))
theorem mx_young_206 (k : ∀ R' o' gn' ln' sn' cl' fs' fn' mt', mr_HP R' o' 0 0 cl' fs' fn' ykd yfs yfn → mr_RT R' F hh gs gn' ls ln' ss sn' ygs ygn yls yln yss ysn → o' ≤ nx + 8 → post (pr, lv, nI F, nI o', 0, 0, mk, sc, mc, rs, rn, pc, wc, op, nd, ab, st, rv, cp, cc, cs, gs, gn', du, ls, ln', dp, ss, sn', cl', fs', fn', wt, mt', pl)) :
    ∀ n x R o cl fs fn mt gn ln sn, x ≤ o → 16 - x < n → mr_CY nx rm ykd yfs yfn R o cl fs fn mt → mr_RT R F hh gs gn ls ln ss sn ygs ygn yls yln yss ysn → mr_R24 (mr_K fun q => q < 24) F hh gs gn ls ln ss sn → (∀ a, a < x → mr_DN fs fn a) → wX_collectYoung_206 post n (nI x) pr lv (nI F) (nI o) yu rm mk sc mc rs rn pc wc op nd ab st rv cp cc cs gs gn du ls ln dp ss sn cl fs fn wt mt pl := by
  intro n
  induction n with
  | zero => intro x R o cl fs fn mt gn ln sn _ h; omega
  | succ n ih =>
    intro x R o cl fs fn mt gn ln sn hx hlt h hr h24 hd
    have l := mr_CY_lt h
    have hR := mr_CY_R h
    rw [wX_collectYoung_206]
    by_cases z : x = o
    · subst z
      refine br_t (nI_le (Nat.le_refl _) (by omega)) (k _ x gn ln sn cl fs fn mt (mr_CY_end h hd) ⟨fun g hg => mr_VK24 hR (hr.1 g hg) (h24.1 g hg), fun g hg => mr_VK24 hR (hr.2.1 g hg) (h24.2.1 g hg), fun f j hf hj => mr_VK24 hR (hr.2.2 f j hf hj) (h24.2.2 f j hf hj)⟩ l.2.1)
    · refine br_f (nI_ge (by omega) (by omega)) (mx_moveFields (D := fun a => a < x) h (by omega) (fun a ha => ⟨by omega, hd a ha⟩) fun R' o' cl' fs' fn' mt' c1 c2 c3 c4 c5 => nm_r (nI_1 _) (ih (x + 1) R' o' cl' fs' fn' mt' gn ln sn (by omega) (by omega) c1 (mr_RT_imp hr fun _ _ _ _ => mr_V_mono c3) h24 fun a ha => ?_))
      by_cases e : a = x
      · subst e; exact c4
      · exact c5 a (by omega)
theorem mx_young_179 (k : ∀ R' o' gn' ln' sn' cl' fs' fn' mt', mr_HP R' o' 0 0 cl' fs' fn' ykd yfs yfn → mr_RT R' F hh gs gn' ls ln' ss sn' ygs ygn yls yln yss ysn → o' ≤ nx + 8 → post (pr, lv, nI F, nI o', 0, 0, mk, sc, mc, rs, rn, pc, wc, op, nd, ab, st, rv, cp, cc, cs, gs, gn', du, ls, ln', dp, ss, sn', cl', fs', fn', wt, mt', pl)) :
    ∀ n x R o cl fs fn mt gn ln sn, x ≤ nx → nx - x < n → mr_CY nx rm ykd yfs yfn R o cl fs fn mt → mr_RT R F hh gs gn ls ln ss sn ygs ygn yls yln yss ysn → mr_R24 (mr_K fun q => q < 24) F hh gs gn ls ln ss sn → (∀ a, a < x → mr_DN fs fn a) → wX_collectYoung_179 post (nI nx) n (nI x) pr lv (nI F) (nI o) yu rm mk sc mc rs rn pc wc op nd ab st rv cp cc cs gs gn du ls ln dp ss sn cl fs fn wt mt pl := by
  intro n
  induction n with
  | zero => intro x R o cl fs fn mt gn ln sn _ h; omega
  | succ n ih =>
    intro x R o cl fs fn mt gn ln sn hx hlt h hr h24 hd
    have l := mr_CY_lt h
    rw [wX_collectYoung_179]
    by_cases z : x = nx
    · subst z
      exact br_t (nI_le (Nat.le_refl _) (by omega)) ⟨17, mx_young_206 k 17 x R o cl fs fn mt gn ln sn l.1 (by omega) h hr h24 hd⟩
    · refine br_f (nI_ge (by omega) (by omega)) ?_
      cases q : bt rm x with
      | false =>
        refine br_t ((mr_sbit (by omega)).mpr q) (nm_r (nI_1 _) (ih (x + 1) R o cl fs fn mt gn ln sn (by omega) (by omega) h hr h24 fun a ha => ?_))
        by_cases e : a = x
        · subst e; exact h.2.2.2.2.2.2.2.2.2 a (by omega) q
        · exact hd a (by omega)
      | true =>
        have q' : ¬ ((rm >>> (nI x &&& 31)) &&& 1) = 0 := fun w => by
          rw [(mr_sbit (by omega)).mp w] at q; exact absurd q (by decide)
        refine br_f q' (mx_moveFields (D := fun a => a < x) h (by omega) (fun a ha => ⟨by omega, hd a ha⟩) fun R' o' cl' fs' fn' mt' c1 c2 c3 c4 c5 => nm_r (nI_1 _) (ih (x + 1) R' o' cl' fs' fn' mt' gn ln sn (by omega) (by omega) c1 (mr_RT_imp hr fun _ _ _ _ => mr_V_mono c3) h24 fun a ha => ?_))
        by_cases e : a = x
        · subst e; exact c4
        · exact c5 a (by omega)
theorem mx_young_124 {J : Int32 → Int32 → Int32 → Int32 → Int32 → Int32 → Int32 → Int32 → Int32 → Int32 → Int32 → Int32 → Int32 → Int32 → (Nat → Int32) → (Nat → Int32) → (Nat → Int32) → (Nat → Int32) → (Nat → Int32) → (Nat → Int32) → (Nat → Int32) → (Nat → Int32) → (Nat → Int32) → (Nat → Int32) → (Nat → Int32) → (Nat → Int32) → (Nat → Int32) → (Nat → Int32) → (Nat → Int32) → (Nat → Int32) → (Nat → Int32) → (Nat → Int32) → (Nat → Int32) → (Nat → Int32) → (Nat → Int32) → (Nat → Int32) → Prop} {f : Nat} (hf : f < F) (hF : F ≤ 10) (h6 : hh f ≤ 6) (hdp : dp f = nI (hh f)) :
    ∀ n j R o cl fs fn mt gn ln sn, j ≤ hh f → hh f - j < n → mr_CY nx rm ykd yfs yfn R o cl fs fn mt → mr_RT R F hh gs gn ls ln ss sn ygs ygn yls yln yss ysn → (∀ i, i < j → mr_K (fun q => q < 24) (ss (6 * f + i)) (sn (6 * f + i))) →
    (∀ R' o' cl' fs' fn' mt' sn', mr_CY nx rm ykd yfs yfn R' o' cl' fs' fn' mt' → mr_RT R' F hh gs gn ls ln ss sn' ygs ygn yls yln yss ysn → (∀ k, ¬ (6 * f ≤ k ∧ k < 6 * f + hh f) → sn' k = sn k) → (∀ i, i < hh f → mr_K (fun q => q < 24) (ss (6 * f + i)) (sn' (6 * f + i))) → J (nI (f + 1)) pr lv (nI F) (nI o') yu rm mk sc mc rs rn pc wc op nd ab st rv cp cc cs gs gn du ls ln dp ss sn' cl' fs' fn' wt mt' pl) →
    wX_collectYoung_124 post J (nI nx) (nI f) n (nI (6 * f + j)) pr lv (nI F) (nI o) yu rm mk sc mc rs rn pc wc op nd ab st rv cp cc cs gs gn du ls ln dp ss sn cl fs fn wt mt pl := by
  intro n
  induction n with
  | zero => intro j R o cl fs fn mt gn ln sn _ h; omega
  | succ n ih =>
    intro j R o cl fs fn mt gn ln sn hj hlt h hr hK k
    have l := mr_CY_lt h
    have hR := mr_CY_R h
    rw [wX_collectYoung_124]
    dsimp only
    rw [mr_i6, nI_clamp (n := f) (by omega), hdp, nI_add]
    refine ⟨vp_in_nI (by omega) (by decide), ?_⟩
    by_cases z : j = hh f
    · subst z
      exact br_t (nI_le (by omega) (by omega)) (nm_r (nI_1 _) (k R o cl fs fn mt sn h hr (fun _ _ => rfl) hK))
    · refine br_f (nI_ge (by omega) (by omega)) ⟨vp_in_nI (by omega) (by decide), ?_⟩
      rw [nI_clamp (n := 6 * f + j) (by omega)]
      have v := hr.2.2 f j hf (by omega)
      by_cases e : ss (6 * f + j) = 2
      · obtain ⟨q, b, eq, eb, r⟩ := mr_V_obj v e
        refine br_t e ⟨vp_in_nI (by omega) (by decide), ?_⟩
        rw [eq]
        refine mx_moved h (h.2.2.1 q b r).1 fun R' o' p cl' fs' fn' mt' c1 c2 c3 c4 c5 c6 => ?_
        dsimp only
        refine ⟨vp_in_nI (by omega) (by decide), nm_e (nm_r (nI_1 _) ?_)⟩
        have l' := mr_CY_lt c1
        refine ih (j + 1) R' o' cl' fs' fn' mt' gn ln _ (by omega) (by omega) c1 (mr_RT_sn (mr_RT_imp hr fun _ _ _ _ => mr_V_mono c4) (mr_V_to hR v e eq (hR _ _ r).1 fun b r => c5 b (c4 _ _ r))) (fun i hi => ?_) fun R2 o2 cl2 fs2 fn2 mt2 sn2 g1 g2 g3 g4 => k R2 o2 cl2 fs2 fn2 mt2 sn2 g1 g2 (fun k hk => ?_) g4
        · by_cases w : i = j
          · subst w; rw [pk_us]; exact mr_K_at (a := p) (by omega) rfl (by omega)
          · rw [pk_un (by omega)]; exact hK i (by omega)
        · rw [g3 k hk, pk_un (by omega)]
      · refine br_f e (nm_r (nI_1 _) (ih (j + 1) R o cl fs fn mt gn ln sn (by omega) (by omega) h hr (fun i hi => ?_) k))
        by_cases w : i = j
        · subst w; exact mr_K_no e
        · exact hK i (by omega)
theorem mx_young_111 (hF : F ≤ 10) (hd : ∀ f, f < F → dp f = nI (hh f) ∧ hh f ≤ 6) (k : ∀ R' o' gn' ln' sn' cl' fs' fn' mt', mr_HP R' o' 0 0 cl' fs' fn' ykd yfs yfn → mr_RT R' F hh gs gn' ls ln' ss sn' ygs ygn yls yln yss ysn → o' ≤ nx + 8 → post (pr, lv, nI F, nI o', 0, 0, mk, sc, mc, rs, rn, pc, wc, op, nd, ab, st, rv, cp, cc, cs, gs, gn', du, ls, ln', dp, ss, sn', cl', fs', fn', wt, mt', pl)) :
    ∀ n f R o cl fs fn mt gn ln sn, f ≤ F → F - f < n → mr_CY nx rm ykd yfs yfn R o cl fs fn mt → mr_RT R F hh gs gn ls ln ss sn ygs ygn yls yln yss ysn → (∀ g, g < 4 → mr_K (fun q => q < 24) (gs g) (gn g)) → (∀ g, g < 4 * F → mr_K (fun q => q < 24) (ls g) (ln g)) → (∀ g i, g < f → i < hh g → mr_K (fun q => q < 24) (ss (6 * g + i)) (sn (6 * g + i))) → wX_collectYoung_111 post (nI nx) n (nI f) pr lv (nI F) (nI o) yu rm mk sc mc rs rn pc wc op nd ab st rv cp cc cs gs gn du ls ln dp ss sn cl fs fn wt mt pl := by
  intro n
  induction n with
  | zero => intro f R o cl fs fn mt gn ln sn _ h; omega
  | succ n ih =>
    intro f R o cl fs fn mt gn ln sn hf hlt h hr hg hl hs
    rw [wX_collectYoung_111]
    by_cases z : f = F
    · subst z
      exact br_t (nI_le (Nat.le_refl _) (by omega)) ⟨nx + 1, mx_young_179 k _ 0 R o cl fs fn mt gn ln sn (by omega) (by omega) h hr ⟨hg, hl, hs⟩ fun a ha => by omega⟩
    · have hf' : f < F := by omega
      refine br_f (nI_ge hf' (by omega)) (nm_r (mr_i6 f) ⟨7, ?_⟩)
      refine mx_young_124 hf' hF (hd f hf').2 (hd f hf').1 7 0 R o cl fs fn mt gn ln sn (by omega) (by have := (hd f hf').2; omega) h hr (fun i hi => by omega) fun R' o' cl' fs' fn' mt' sn' c1 c2 c3 c4 => ih (f + 1) R' o' cl' fs' fn' mt' gn ln sn' (by omega) (by omega) c1 c2 hg hl fun g i hg hi => ?_
      by_cases e : g = f
      · subst e; exact c4 i hi
      · have := (hd g (by omega)).2
        rw [c3 _ (by omega)]; exact hs g i (by omega) hi
theorem mx_young_67 (hF : F ≤ 10) (hd : ∀ f, f < F → dp f = nI (hh f) ∧ hh f ≤ 6) (k : ∀ R' o' gn' ln' sn' cl' fs' fn' mt', mr_HP R' o' 0 0 cl' fs' fn' ykd yfs yfn → mr_RT R' F hh gs gn' ls ln' ss sn' ygs ygn yls yln yss ysn → o' ≤ nx + 8 → post (pr, lv, nI F, nI o', 0, 0, mk, sc, mc, rs, rn, pc, wc, op, nd, ab, st, rv, cp, cc, cs, gs, gn', du, ls, ln', dp, ss, sn', cl', fs', fn', wt, mt', pl)) :
    ∀ n i R o cl fs fn mt gn ln sn, i ≤ 4 * F → 4 * F - i < n → mr_CY nx rm ykd yfs yfn R o cl fs fn mt → mr_RT R F hh gs gn ls ln ss sn ygs ygn yls yln yss ysn → (∀ g, g < 4 → mr_K (fun q => q < 24) (gs g) (gn g)) → (∀ g, g < i → mr_K (fun q => q < 24) (ls g) (ln g)) → wX_collectYoung_67 post (nI nx) n (nI i) pr lv (nI F) (nI o) yu rm mk sc mc rs rn pc wc op nd ab st rv cp cc cs gs gn du ls ln dp ss sn cl fs fn wt mt pl := by
  intro n
  induction n with
  | zero => intro i R o cl fs fn mt gn ln sn _ h; omega
  | succ n ih =>
    intro i R o cl fs fn mt gn ln sn hi hlt h hr hg hl
    have l := mr_CY_lt h
    have hR := mr_CY_R h
    rw [wX_collectYoung_67]
    dsimp only
    rw [mr_i4]
    by_cases z : i = 4 * F
    · subst z
      exact br_t (nI_le (Nat.le_refl _) (by omega)) ⟨F + 1, mx_young_111 hF hd k _ 0 R o cl fs fn mt gn ln sn (by omega) (by omega) h hr hg hl fun g i hg => by omega⟩
    · refine br_f (nI_ge (by omega) (by omega)) ⟨vp_in_nI (by omega) (by decide), ?_⟩
      rw [nI_clamp (n := i) (by omega)]
      have v := hr.2.1 i (by omega)
      by_cases e : ls i = 2
      · obtain ⟨q, b, eq, eb, r⟩ := mr_V_obj v e
        refine br_t e ⟨vp_in_nI (by omega) (by decide), ?_⟩
        rw [eq]
        refine mx_moved h (h.2.2.1 q b r).1 fun R' o' p cl' fs' fn' mt' c1 c2 c3 c4 c5 c6 => ?_
        dsimp only
        refine ⟨vp_in_nI (by omega) (by decide), nm_e (nm_r (nI_1 _) ?_)⟩
        have l' := mr_CY_lt c1
        refine ih (i + 1) R' o' cl' fs' fn' mt' gn _ sn (by omega) (by omega) c1 (mr_RT_ln (mr_RT_imp hr fun _ _ _ _ => mr_V_mono c4) (mr_V_to hR v e eq (hR _ _ r).1 fun b r => c5 b (c4 _ _ r))) hg fun g hg => ?_
        by_cases w : g = i
        · subst w; rw [pk_us]; exact mr_K_at (a := p) (by omega) rfl (by omega)
        · rw [pk_un w]; exact hl g (by omega)
      · refine br_f e (nm_r (nI_1 _) (ih (i + 1) R o cl fs fn mt gn ln sn (by omega) (by omega) h hr hg fun g hg => ?_))
        by_cases w : g = i
        · subst w; exact mr_K_no e
        · exact hl g (by omega)
theorem mx_young_28 (hF : F ≤ 10) (hd : ∀ f, f < F → dp f = nI (hh f) ∧ hh f ≤ 6) (k : ∀ R' o' gn' ln' sn' cl' fs' fn' mt', mr_HP R' o' 0 0 cl' fs' fn' ykd yfs yfn → mr_RT R' F hh gs gn' ls ln' ss sn' ygs ygn yls yln yss ysn → o' ≤ nx + 8 → post (pr, lv, nI F, nI o', 0, 0, mk, sc, mc, rs, rn, pc, wc, op, nd, ab, st, rv, cp, cc, cs, gs, gn', du, ls, ln', dp, ss, sn', cl', fs', fn', wt, mt', pl)) :
    ∀ n i R o cl fs fn mt gn ln sn, i ≤ 4 → 4 - i < n → mr_CY nx rm ykd yfs yfn R o cl fs fn mt → mr_RT R F hh gs gn ls ln ss sn ygs ygn yls yln yss ysn → (∀ g, g < i → mr_K (fun q => q < 24) (gs g) (gn g)) → wX_collectYoung_28 post (nI nx) n (nI i) pr lv (nI F) (nI o) yu rm mk sc mc rs rn pc wc op nd ab st rv cp cc cs gs gn du ls ln dp ss sn cl fs fn wt mt pl := by
  intro n
  induction n with
  | zero => intro i R o cl fs fn mt gn ln sn _ h; omega
  | succ n ih =>
    intro i R o cl fs fn mt gn ln sn hi hlt h hr hg
    have l := mr_CY_lt h
    have hR := mr_CY_R h
    rw [wX_collectYoung_28]
    by_cases z : i = 4
    · subst z
      exact br_t (by decide) ⟨4 * F + 1, mx_young_67 hF hd k _ 0 R o cl fs fn mt gn ln sn (by omega) (by omega) h hr hg fun g hg => by omega⟩
    · refine br_f (nI_ge (b := 4) (by omega) (by omega)) ⟨vp_in_nI (by omega) (by decide), ?_⟩
      rw [nI_clamp (n := i) (by omega)]
      have v := hr.1 i (by omega)
      by_cases e : gs i = 2
      · obtain ⟨q, b, eq, eb, r⟩ := mr_V_obj v e
        refine br_t e ⟨vp_in_nI (by omega) (by decide), ?_⟩
        rw [eq]
        refine mx_moved h (h.2.2.1 q b r).1 fun R' o' p cl' fs' fn' mt' c1 c2 c3 c4 c5 c6 => ?_
        dsimp only
        refine ⟨vp_in_nI (by omega) (by decide), nm_e (nm_r (nI_1 _) ?_)⟩
        have l' := mr_CY_lt c1
        refine ih (i + 1) R' o' cl' fs' fn' mt' _ ln sn (by omega) (by omega) c1 (mr_RT_gn (mr_RT_imp hr fun _ _ _ _ => mr_V_mono c4) (mr_V_to hR v e eq (hR _ _ r).1 fun b r => c5 b (c4 _ _ r))) fun g hg' => ?_
        by_cases w : g = i
        · subst w; rw [pk_us]; exact mr_K_at (a := p) (by omega) rfl (by omega)
        · rw [pk_un w]; exact hg g (by omega)
      · refine br_f e (nm_r (nI_1 _) (ih (i + 1) R o cl fs fn mt gn ln sn (by omega) (by omega) h hr fun g hg' => ?_))
        by_cases w : g = i
        · subst w; exact mr_K_no e
        · exact hg g (by omega)
theorem mx_young_2 {o : Nat} {R : Nat → Nat → Prop} {gn ln sn cl fs fn : Nat → Int32} (h : mr_HP R o 8 rm cl fs fn ykd yfs yfn) (hr : mr_RT R F hh gs gn ls ln ss sn ygs ygn yls yln yss ysn) (hF : F ≤ 10) (hd : ∀ f, f < F → dp f = nI (hh f) ∧ hh f ≤ 6)
    (k : ∀ R' o' gn' ln' sn' cl' fs' fn' mt', mr_HP R' o' 0 0 cl' fs' fn' ykd yfs yfn → mr_RT R' F hh gs gn' ls ln' ss sn' ygs ygn yls yln yss ysn → o' ≤ o + 8 → post (pr, lv, nI F, nI o', 0, 0, mk, sc, mc, rs, rn, pc, wc, op, nd, ab, st, rv, cp, cc, cs, gs, gn', du, ls, ln', dp, ss, sn', cl', fs', fn', wt, mt', pl)) :
    ∀ n i mt, i ≤ 8 → 8 - i < n → (∀ y, y < i → mt y = -1) → wX_collectYoung_2 post pr lv (nI F) (nI o) yu rm mk sc mc rs rn pc wc n (nI i) op nd ab st rv cp cc cs gs gn du ls ln dp ss sn cl fs fn wt mt pl := by
  intro n
  induction n with
  | zero => intro i mt _ h; omega
  | succ n ih =>
    intro i mt hi hlt hm
    rw [wX_collectYoung_2]
    by_cases z : i = 8
    · subst z
      exact br_t (by decide) ⟨5, mx_young_28 hF hd k 5 0 R o cl fs fn mt gn ln sn (by omega) (by omega) (mr_CY_0 h hm) hr fun g hg => by omega⟩
    · refine br_f (nI_ge (b := 8) (by omega) (by omega)) ⟨vp_in_nI (by omega) (by decide), nm_e (nm_r (nI_1 _) ?_)⟩
      rw [nI_clamp (n := i) (by omega), mr_nbm.1]
      refine ih (i + 1) _ (by omega) (by omega) fun y hy => ?_
      by_cases e : y = i
      · subst e; exact pk_us
      · rw [pk_un e]; exact hm y (by omega)
theorem mx_collectYoung {o : Nat} {R : Nat → Nat → Prop} {gn ln sn cl fs fn mt : Nat → Int32} (h : mr_HP R o 8 rm cl fs fn ykd yfs yfn) (hr : mr_RT R F hh gs gn ls ln ss sn ygs ygn yls yln yss ysn) (hF : F ≤ 10) (hd : ∀ f, f < F → dp f = nI (hh f) ∧ hh f ≤ 6)
    (k : ∀ R' o' gn' ln' sn' cl' fs' fn' mt', mr_HP R' o' 0 0 cl' fs' fn' ykd yfs yfn → mr_RT R' F hh gs gn' ls ln' ss sn' ygs ygn yls yln yss ysn → o' ≤ o + 8 → post (pr, lv, nI F, nI o', 0, 0, mk, sc, mc, rs, rn, pc, wc, op, nd, ab, st, rv, cp, cc, cs, gs, gn', du, ls, ln', dp, ss, sn', cl', fs', fn', wt, mt', pl)) : wpX_collectYoung post (pr, lv, nI F, nI o, yu, rm, mk, sc, mc, rs, rn, pc, wc, op, nd, ab, st, rv, cp, cc, cs, gs, gn, du, ls, ln, dp, ss, sn, cl, fs, fn, wt, mt, pl) := by
  rw [wpX_collectYoung]
  exact ⟨9, mx_young_2 h hr hF hd k 9 0 mt (by omega) (by omega) fun y hy => by omega⟩
end
end
section
/-! Y: frames and stack -/
section
variable {yrs yrn ysc ymc ypc yov yen : Int32} {yop ynd yab yst ygs ygn ykd yfs yfn yls yln yss ysn yhp ydu yne you : Nat → Int32} {t d : Nat} {fc : Int32}
theorem my_in1 {post : Int32 → Prop} {a lo hi : Int32} (h1 : ¬ a < lo) (h2 : ¬ hi < a) : wpY_in post (fc, yrs, yrn, ysc, ymc, ypc, yov, yen, yop, ynd, yab, yst, ygs, ygn, ykd, yfs, yfn, yls, yln, yss, ysn, yhp, ydu, yne, you) a lo hi ↔ post 1 := by
  simp only [wpY_in, mr_bf h1, mr_bf h2]
theorem my_in0 {post : Int32 → Prop} {a lo hi : Int32} (h : a < lo ∨ hi < a) : wpY_in post (fc, yrs, yrn, ysc, ymc, ypc, yov, yen, yop, ynd, yab, yst, ygs, ygn, ykd, yfs, yfn, yls, yln, yss, ysn, yhp, ydu, yne, you) a lo hi ↔ post 0 := by
  by_cases h1 : a < lo
  · simp only [wpY_in, mr_bt h1]
  · have h2 : hi < a := h.elim (fun z => absurd z h1) id
    simp only [wpY_in, mr_bf h1, mr_bt h2]
theorem my_push {post : SY → Prop} {s n : Int32} (ht : t < 10) (hd : d < 6) (hdp : yhp t = nI d) : wpY_push post (nI (t + 1), yrs, yrn, ysc, ymc, ypc, yov, yen, yop, ynd, yab, yst, ygs, ygn, ykd, yfs, yfn, yls, yln, yss, ysn, yhp, ydu, yne, you) s n ↔ post (nI (t + 1), yrs, yrn, ysc, ymc, ypc, yov, yen, yop, ynd, yab, yst, ygs, ygn, ykd, yfs, yfn, yls, yln, upd yss (6 * t + d) s, upd ysn (6 * t + d) n, upd yhp t (nI (d + 1)), ydu, yne, you) := by
  have e2 : (nI t).toNatClampNeg = t := nI_clamp (by omega)
  have e4 : (nI (6 * t + d)).toNatClampNeg = 6 * t + d := nI_clamp (by omega)
  have i1 : vp_in (nI t) 10 := vp_in_nI ht (by decide)
  have i2 : vp_in (nI (6 * t + d)) 60 := vp_in_nI (by omega) (by decide)
  simp only [wpY_push, nI_pred, e2, hdp, mr_i6, nI_add, nI_1, e4, i1, i2, true_and, forall_eq]
theorem my_drop {post : SY → Prop} {k : Nat} (ht : t < 10) (hd : d ≤ 6) (hk : k ≤ d) (hdp : yhp t = nI d) : wpY_drop post (nI (t + 1), yrs, yrn, ysc, ymc, ypc, yov, yen, yop, ynd, yab, yst, ygs, ygn, ykd, yfs, yfn, yls, yln, yss, ysn, yhp, ydu, yne, you) (nI k) ↔ post (nI (t + 1), yrs, yrn, ysc, ymc, ypc, yov, yen, yop, ynd, yab, yst, ygs, ygn, ykd, yfs, yfn, yls, yln, yss, ysn, upd yhp t (nI (d - k)), ydu, yne, you) := by
  have e2 : (nI t).toNatClampNeg = t := nI_clamp (by omega)
  have e3 : nI d - nI k = nI (d - k) := pk_sub hk
  have i1 : vp_in (nI t) 10 := vp_in_nI ht (by decide)
  simp only [wpY_drop, nI_pred, e2, hdp, e3, i1, true_and, forall_eq]
theorem my_below {post : Int32 → Prop} {k : Nat} (ht : t < 10) (hd : d ≤ 6) (hk : k < d) (hdp : yhp t = nI d) : wpY_below post (nI (t + 1), yrs, yrn, ysc, ymc, ypc, yov, yen, yop, ynd, yab, yst, ygs, ygn, ykd, yfs, yfn, yls, yln, yss, ysn, yhp, ydu, yne, you) (nI k) ↔ post (nI (6 * t + (d - 1 - k))) := by
  have e2 : (nI t).toNatClampNeg = t := nI_clamp (by omega)
  have e3 : nI (6 * t + d) - 1 - nI k = nI (6 * t + (d - 1 - k)) := by
    rw [mr_s1 (by omega), pk_sub (by omega)]
    exact congrArg nI (by omega)
  have i1 : vp_in (nI t) 10 := vp_in_nI ht (by decide)
  simp only [wpY_below, nI_pred, e2, hdp, mr_i6, nI_add, e3, i1, true_and]
theorem my_stop {post : SY → Prop} {r : Int32} : wpY_stop post (fc, yrs, yrn, ysc, ymc, ypc, yov, yen, yop, ynd, yab, yst, ygs, ygn, ykd, yfs, yfn, yls, yln, yss, ysn, yhp, ydu, yne, you) r ↔ post (fc, yrs, yrn, ysc, ymc, ypc, 1, r, yop, ynd, yab, yst, ygs, ygn, ykd, yfs, yfn, yls, yln, yss, ysn, yhp, ydu, yne, you) := Iff.rfl
theorem my_enter_28 {F : Nat} {s v : Int32} (hF : F < 10) : ∀ n j (yls : Nat → Int32), j ≤ 4 → 4 - j < n → ∃ yls' : Nat → Int32, (∀ k, k < 4 * F + j → yls' k = yls k) ∧ (∀ i, j ≤ i → i < 4 → yls' (4 * F + i) = 0) ∧ ∀ post : SY → Prop, post (nI (F + 1), yrs, yrn, ysc, ymc, ypc, yov, yen, yop, ynd, yab, yst, ygs, ygn, ykd, yfs, yfn, upd yls' (4 * F + 1) s, upd yln (4 * F + 1) v, yss, ysn, yhp, ydu, yne, you) → wY_enter_28 post s v (nI F) yrs yrn ysc ymc ypc yov yen n (nI (4 * F + j)) yop ynd yab yst ygs ygn ykd yfs yfn yls yln yss ysn yhp ydu yne you := by
  intro n
  induction n with
  | zero => intro j yls _ h; omega
  | succ n ih =>
    intro j yls hj hn
    have e4 : (nI (4 * F + j)).toNatClampNeg = 4 * F + j := nI_clamp (by omega)
    have e5 : (nI (4 * F + 1)).toNatClampNeg = 4 * F + 1 := nI_clamp (by omega)
    by_cases z : j = 4
    · subst z
      refine ⟨yls, fun _ _ => rfl, fun i h1 h2 => by omega, fun post h => ?_⟩
      rw [wY_enter_28]
      dsimp only
      rw [mr_i4, mr_p4, nI_1, nI_1]
      refine br_t (nI_le (by omega) (by omega)) ⟨vp_in_nI (by omega) (by decide), nm_e ⟨vp_in_nI (by omega) (by decide), nm_e (nm_e ?_)⟩⟩
      rw [e5]
      exact h
    · obtain ⟨yls', h1, h2, h3⟩ := ih (j + 1) (upd yls (4 * F + j) 0) (by omega) (by omega)
      refine ⟨yls', fun k hk => ?_, fun i hi hi4 => ?_, fun post h => ?_⟩
      · have q := h1 k (by omega)
        rw [pk_un (by omega)] at q
        exact q
      · by_cases w : i = j
        · subst w
          have q := h1 (4 * F + i) (by omega)
          rw [pk_us] at q
          exact q
        · exact h2 i (by omega) hi4
      · rw [wY_enter_28]
        dsimp only
        rw [mr_i4, mr_p4, nI_1, nI_1]
        refine br_f (nI_ge (by omega) (by omega)) ⟨vp_in_nI (by omega) (by decide), nm_e ?_⟩
        refine nm_r (nI_1 _) ?_
        rw [e4]
        exact h3 post h
theorem my_enter {F : Nat} {i s v : Int32} (hF : F < 10) : ∃ yls' : Nat → Int32, (∀ k, k < 4 * F → yls' k = yls k) ∧ (∀ i, i < 4 → yls' (4 * F + i) = 0) ∧ ∀ post : SY → Prop, post (nI (F + 1), yrs, yrn, ysc, ymc, ypc, yov, yen, yop, ynd, yab, yst, ygs, ygn, ykd, yfs, yfn, upd yls' (4 * F + 1) s, upd yln (4 * F + 1) v, yss, ysn, upd yhp F 0, upd ydu F i, yne, you) → wpY_enter post (nI F, yrs, yrn, ysc, ymc, ypc, yov, yen, yop, ynd, yab, yst, ygs, ygn, ykd, yfs, yfn, yls, yln, yss, ysn, yhp, ydu, yne, you) i s v := by
  have e2 : (nI F).toNatClampNeg = F := nI_clamp (by omega)
  have i1 : vp_in (nI F) 10 := vp_in_nI hF (by decide)
  obtain ⟨yls', h1, h2, h3⟩ := my_enter_28 (s := s) (v := v) (ydu := upd ydu F i) (yhp := upd yhp F 0) hF 5 0 yls (by omega) (by omega)
  refine ⟨yls', h1, fun i hi => h2 i (by omega) hi, fun post h => ?_⟩
  simp only [wpY_enter, e2, i1, true_and, forall_eq, mr_i4]
  exact ⟨5, h3 post h⟩
end
end
section
/-! Y: mark finds the least set -/
def mr_NY (s n : Int32) : Prop := s = 2 → ∃ b, b < 16 ∧ n = nI b
def mr_NI (L : Nat → Prop) (ne : Nat → Int32) : Prop := ∀ b, b < 16 → ¬ ne b = 0 → L b
theorem mr_and15 : ∀ b, b < 16 → nI b &&& 15 = nI b := by decide +kernel
theorem mr_Ro_imp {P Q : Nat → Prop} {F : Nat} {hh : Nat → Nat} {gs gn ls ln ss sn : Nat → Int32} (k : ∀ a, a < 32 → P a → Q a) (h : mr_Ro P F hh gs gn ls ln ss sn) : mr_Ro Q F hh gs gn ls ln ss sn :=
  ⟨fun g hg => mr_K_imp k (h.1 g hg), fun g hg => mr_K_imp k (h.2.1 g hg), fun f j hf hj => mr_K_imp k (h.2.2 f j hf hj)⟩
def mr_YH (F : Nat) (hh : Nat → Nat) (gs gn ls ln ss sn fs fn dp : Nat → Int32) (L : Nat → Prop) : Prop :=
  F ≤ 10 ∧ (∀ f, f < F → dp f = nI (hh f) ∧ hh f ≤ 6) ∧ (∀ b, L b → b < 16) ∧ mr_Ro L F hh gs gn ls ln ss sn ∧ mr_Cd L fs fn ∧
  (∀ g, g < 4 → mr_NY (gs g) (gn g)) ∧ (∀ k, k < 4 * F → mr_NY (ls k) (ln k)) ∧ (∀ f j, f < F → j < hh f → mr_NY (ss (6 * f + j)) (sn (6 * f + j))) ∧ (∀ b, L b → ∀ j, j < 3 → mr_NY (fs (3 * b + j)) (fn (3 * b + j)))
section
variable {yrs yrn ysc ymc ypc yov yen : Int32} {yop ynd yab yst ygs ygn ykd yfs yfn yls yln yss ysn yhp ydu you : Nat → Int32} {F : Nat} {hh : Nat → Nat} {fc : Int32} {L : Nat → Prop}
theorem my_meet {s n : Int32} {ne : Nat → Int32} (h : mr_NI L ne) (hv : mr_NY s n) (hL : mr_K L s n) : ∃ ne', mr_NI L ne' ∧ (∀ b, ¬ ne b = 0 → ¬ ne' b = 0) ∧ mr_K (fun b => ¬ ne' b = 0) s n ∧ ∀ post : SY → Prop, post (fc, yrs, yrn, ysc, ymc, ypc, yov, yen, yop, ynd, yab, yst, ygs, ygn, ykd, yfs, yfn, yls, yln, yss, ysn, yhp, ydu, ne', you) → wpY_meet post (fc, yrs, yrn, ysc, ymc, ypc, yov, yen, yop, ynd, yab, yst, ygs, ygn, ykd, yfs, yfn, yls, yln, yss, ysn, yhp, ydu, ne, you) s n := by
  by_cases e : s = 2
  · obtain ⟨b, hb, rfl⟩ := hv e
    refine ⟨upd ne b 1, fun c hc q => ?_, fun c q => ?_, mr_K_at (by omega) rfl (by rw [pk_us]; decide), fun post k => ?_⟩
    · by_cases z : c = b
      · subst z; exact hL e c (by omega) rfl
      · rw [pk_un z] at q; exact h c hc q
    · by_cases z : c = b
      · subst z; rw [pk_us]; decide
      · rw [pk_un z]; exact q
    · rw [wpY_meet]
      refine br_t e ?_
      rw [mr_and15 b hb, nI_clamp (by omega), mr_nbb.2]
      exact ⟨vp_in_nI hb (by decide), nm_e k⟩
  · exact ⟨ne, h, fun _ => id, mr_K_no e, fun post k => by rw [wpY_meet]; exact br_f e k⟩
theorem my_mark_194 {post : Int32 → SY → Prop} {ne : Nat → Int32} : ∀ n i, i ≤ 16 → 16 - i < n → post (nI (cn (fun b => ¬ ne b = 0) 16)) (fc, yrs, yrn, ysc, ymc, ypc, yov, yen, yop, ynd, yab, yst, ygs, ygn, ykd, yfs, yfn, yls, yln, yss, ysn, yhp, ydu, ne, you) → wY_mark_194 post fc yrs yrn ysc ymc ypc yov yen yop ynd yab yst ygs ygn ykd yfs yfn yls yln yss ysn yhp ydu ne you n (nI (cn (fun b => ¬ ne b = 0) i)) (nI i) := by
  intro n
  induction n with
  | zero => intro i _ h; omega
  | succ n ih =>
    intro i hi hlt k
    rw [wY_mark_194]
    by_cases z : i = 16
    · subst z
      exact br_t (by decide) k
    · refine br_f (nI_ge (b := 16) (by omega) (by omega)) ⟨vp_in_nI (by omega) (by decide), ?_⟩
      rw [nI_clamp (by omega)]
      have g := ih (i + 1) (by omega) (by omega) k
      by_cases q : ne i = 0
      · rw [mr_cn_f (P := fun b => ¬ ne b = 0) (not_not_intro q)] at g
        exact br_t q (nm_r (nI_1 _) g)
      · rw [mr_cn_t (P := fun b => ¬ ne b = 0) q] at g
        exact br_f q (nm_r (nI_1 _) (nm_r (nI_1 _) g))
theorem my_mark_145 {r : Nat} {ne0 : Nat → Int32} (hL : ∀ b, L b → b < 16) (hc : mr_Cd L yfs yfn) (hn : ∀ b, L b → ∀ j, j < 3 → mr_NY (yfs (3 * b + j)) (yfn (3 * b + j))) : ∀ n i ne, i ≤ 48 → 48 - i < n → mr_NI L ne → (∀ b, ¬ ne0 b = 0 → ¬ ne b = 0) → (∀ k, k < i → ¬ ne0 (k / 3) = 0 → mr_K (fun b => ¬ ne b = 0) (yfs k) (yfn k)) →
    ∃ ne', mr_NI L ne' ∧ (∀ b, ¬ ne0 b = 0 → ¬ ne' b = 0) ∧ (∀ k, k < 48 → ¬ ne0 (k / 3) = 0 → mr_K (fun b => ¬ ne' b = 0) (yfs k) (yfn k)) ∧ ∀ (post : Int32 → SY → Prop) (J : Int32 → Int32 → Int32 → Int32 → Int32 → Int32 → Int32 → Int32 → Int32 → (Nat → Int32) → (Nat → Int32) → (Nat → Int32) → (Nat → Int32) → (Nat → Int32) → (Nat → Int32) → (Nat → Int32) → (Nat → Int32) → (Nat → Int32) → (Nat → Int32) → (Nat → Int32) → (Nat → Int32) → (Nat → Int32) → (Nat → Int32) → (Nat → Int32) → (Nat → Int32) → (Nat → Int32) → Prop), J (nI (r + 1)) fc yrs yrn ysc ymc ypc yov yen yop ynd yab yst ygs ygn ykd yfs yfn yls yln yss ysn yhp ydu ne' you →
    wY_mark_145 post J (nI r) n (nI i) fc yrs yrn ysc ymc ypc yov yen yop ynd yab yst ygs ygn ykd yfs yfn yls yln yss ysn yhp ydu ne you := by
  intro n
  induction n with
  | zero => intro i ne _ h; omega
  | succ n ih =>
    intro i ne hi hlt hI h0 hK
    have ed : nI i / 3 = nI (i / 3) := pk_div (d := 3) (by omega) (by decide) (by decide)
    by_cases z : i = 48
    · subst z
      refine ⟨ne, hI, h0, hK, fun post J k => ?_⟩
      rw [wY_mark_145]
      exact br_t (by decide) (nm_r (nI_1 _) k)
    · by_cases q : ne (i / 3) = 0
      · obtain ⟨ne', g1, g2, g3, g4⟩ := ih (i + 1) ne (by omega) (by omega) hI h0 (fun k' hk' q' => by
          by_cases e : k' = i
          · subst e; exact absurd q (h0 _ q')
          · exact hK k' (by omega) q')
        refine ⟨ne', g1, g2, g3, fun post J k => ?_⟩
        rw [wY_mark_145]
        refine br_f (nI_ge (b := 48) (by omega) (by omega)) ⟨by decide, ?_⟩
        rw [ed, nI_clamp (n := i / 3) (by omega)]
        exact ⟨vp_in_nI (by omega) (by decide), br_t q (nm_r (nI_1 _) (g4 post J k))⟩
      · have l := hI (i / 3) (by omega) q
        have ei : 3 * (i / 3) + i % 3 = i := by omega
        have hv := hn _ l (i % 3) (by omega)
        have hl := hc _ l (i % 3) (by omega)
        rw [ei] at hv hl
        obtain ⟨ne1, hI', mono, hK', hm⟩ := my_meet (yrs := yrs) (yrn := yrn) (ysc := ysc) (ymc := ymc) (ypc := ypc) (yov := yov) (yen := yen) (yop := yop) (ynd := ynd) (yab := yab) (yst := yst) (ygs := ygs) (ygn := ygn) (ykd := ykd) (yfs := yfs) (yfn := yfn) (yls := yls) (yln := yln) (yss := yss) (ysn := ysn) (yhp := yhp) (ydu := ydu) (you := you) hI hv hl
        obtain ⟨ne', g1, g2, g3, g4⟩ := ih (i + 1) ne1 (by omega) (by omega) hI' (fun b z => mono b (h0 b z)) (fun k' hk' q' => by
          by_cases e : k' = i
          · subst e; exact hK'
          · exact mr_K_imp (fun b _ => mono b) (hK k' (by omega) q'))
        refine ⟨ne', g1, g2, g3, fun post J k => ?_⟩
        rw [wY_mark_145]
        refine br_f (nI_ge (b := 48) (by omega) (by omega)) ⟨by decide, ?_⟩
        rw [ed, nI_clamp (n := i / 3) (by omega), nI_clamp (n := i) (by omega)]
        exact ⟨vp_in_nI (by omega) (by decide), br_f q ⟨vp_in_nI (by omega) (by decide), vp_in_nI (by omega) (by decide), hm _ (nm_r (nI_1 _) (g4 post J k))⟩⟩
theorem my_mark_137 (H : mr_YH F hh ygs ygn yls yln yss ysn yfs yfn yhp (mr_L F hh ygs ygn yls yln yss ysn yfs yfn)) : ∀ n r ne, r ≤ 16 → 16 - r < n → mr_NI (mr_L F hh ygs ygn yls yln yss ysn yfs yfn) ne → mr_Ro (fun b => ¬ ne b = 0) F hh ygs ygn yls yln yss ysn →
    ((∀ b, b < 16 → ¬ ne b = 0 → ∀ j, j < 3 → mr_K (fun b => ¬ ne b = 0) (yfs (3 * b + j)) (yfn (3 * b + j))) ∨ r + 1 ≤ cn (fun b => ¬ ne b = 0) 16) → ∃ ne', (∀ b, b < 16 → (¬ ne' b = 0 ↔ mr_L F hh ygs ygn yls yln yss ysn yfs yfn b)) ∧ ∀ post : Int32 → SY → Prop, post (nI (cn (mr_L F hh ygs ygn yls yln yss ysn yfs yfn) 16)) (fc, yrs, yrn, ysc, ymc, ypc, yov, yen, yop, ynd, yab, yst, ygs, ygn, ykd, yfs, yfn, yls, yln, yss, ysn, yhp, ydu, ne', you) → wY_mark_137 post n (nI r) fc yrs yrn ysc ymc ypc yov yen yop ynd yab yst ygs ygn ykd yfs yfn yls yln yss ysn yhp ydu ne you := by
  obtain ⟨H1, H2, H3, H4, H5, H6, H7, H8, H9⟩ := H
  have full : ∀ ne : Nat → Int32, mr_NI (mr_L F hh ygs ygn yls yln yss ysn yfs yfn) ne → mr_Ro (fun b => ¬ ne b = 0) F hh ygs ygn yls yln yss ysn → (∀ b, b < 16 → ¬ ne b = 0 → ∀ j, j < 3 → mr_K (fun b => ¬ ne b = 0) (yfs (3 * b + j)) (yfn (3 * b + j))) → ∀ b, mr_L F hh ygs ygn yls yln yss ysn yfs yfn b → ¬ ne b = 0 := by
    intro ne hI hr hc b l
    have l2 := H4
    have t : mr_Ro (fun b => ¬ ne b = 0 ∧ mr_L F hh ygs ygn yls yln yss ysn yfs yfn b) F hh ygs ygn yls yln yss ysn :=
      ⟨fun g hg e a ha en => ⟨hr.1 g hg e a ha en, l2.1 g hg e a ha en⟩, fun g hg e a ha en => ⟨hr.2.1 g hg e a ha en, l2.2.1 g hg e a ha en⟩, fun f j hf hj e a ha en => ⟨hr.2.2 f j hf hj e a ha en, l2.2.2 f j hf hj e a ha en⟩⟩
    refine (l _ t ?_).1
    rintro c ⟨q, lc⟩ j hj e a ha en
    exact ⟨hc c (H3 c lc) q j hj e a ha en, H5 c lc j hj e a ha en⟩
  intro n
  induction n with
  | zero => intro r ne _ h; omega
  | succ n ih =>
    intro r ne hr hlt hI hro hor
    by_cases z : r = 16
    · subst z
      have hc : ∀ b, b < 16 → ¬ ne b = 0 → ∀ j, j < 3 → mr_K (fun b => ¬ ne b = 0) (yfs (3 * b + j)) (yfn (3 * b + j)) := by
        rcases hor with h | h
        · exact h
        · have := cn_le (fun b => ¬ ne b = 0) 16
          omega
      have iff : ∀ b, b < 16 → (¬ ne b = 0 ↔ mr_L F hh ygs ygn yls yln yss ysn yfs yfn b) := fun b hb => ⟨hI b hb, full ne hI hro hc b⟩
      refine ⟨ne, iff, fun post k => ?_⟩
      rw [wY_mark_137]
      refine br_t (by decide) ⟨17, my_mark_194 17 0 (by omega) (by omega) ?_⟩
      rw [cn_eq iff]
      exact k
    · obtain ⟨ne1, h1, h2, h3, h4⟩ := my_mark_145 (r := r) (yrs := yrs) (yrn := yrn) (ysc := ysc) (ymc := ymc) (ypc := ypc) (yov := yov) (yen := yen) (yop := yop) (ynd := ynd) (yab := yab) (yst := yst) (ygs := ygs) (ygn := ygn) (ykd := ykd) (yfs := yfs) (yfn := yfn) (yls := yls) (yln := yln) (yss := yss) (ysn := ysn) (yhp := yhp) (ydu := ydu) (you := you) H3 H5 H9 49 0 ne (by omega) (by omega) hI (fun _ => id) (fun k hk => by omega)
      have h3' : ∀ b, b < 16 → ¬ ne b = 0 → ∀ j, j < 3 → mr_K (fun b => ¬ ne1 b = 0) (yfs (3 * b + j)) (yfn (3 * b + j)) := fun b hb q j hj => h3 (3 * b + j) (by omega) (by
        have : (3 * b + j) / 3 = b := by omega
        rw [this]; exact q)
      have hor' : (∀ b, b < 16 → ¬ ne1 b = 0 → ∀ j, j < 3 → mr_K (fun b => ¬ ne1 b = 0) (yfs (3 * b + j)) (yfn (3 * b + j))) ∨ r + 1 + 1 ≤ cn (fun b => ¬ ne1 b = 0) 16 := by
        by_cases same : ∀ b, b < 16 → ¬ ne1 b = 0 → ¬ ne b = 0
        · exact Or.inl fun b hb q => h3' b hb (same b hb q)
        · refine Or.inr ?_
          have ex : ∃ b, b < 16 ∧ ¬ ne1 b = 0 ∧ ne b = 0 := by
            apply Classical.byContradiction
            intro no
            exact same fun b hb q q' => no ⟨b, hb, q, q'⟩
          obtain ⟨b, hb, q1, q2⟩ := ex
          rcases hor with h | h
          · exact absurd q2 (full ne hI hro h b (h1 b hb q1))
          · have := cn_lt (P := fun b => ¬ ne b = 0) (Q := fun b => ¬ ne1 b = 0) (a := b) (not_not_intro q2) q1 (N := 16) (fun c _ => h2 c) hb
            omega
      obtain ⟨ne', g1, g2⟩ := ih (r + 1) ne1 (by omega) (by omega) h1 (mr_Ro_imp (fun b _ => h2 b) hro) hor'
      refine ⟨ne', g1, fun post k => ?_⟩
      rw [wY_mark_137]
      exact br_f (nI_ge (b := 16) (by omega) (by omega)) ⟨49, h4 post _ (g2 post k)⟩
theorem my_mark_86 (H : mr_YH F hh ygs ygn yls yln yss ysn yfs yfn yhp (mr_L F hh ygs ygn yls yln yss ysn yfs yfn)) : ∀ n i ne, i ≤ 6 * F → 6 * F - i < n → mr_NI (mr_L F hh ygs ygn yls yln yss ysn yfs yfn) ne → (∀ g, g < 4 → mr_K (fun b => ¬ ne b = 0) (ygs g) (ygn g)) → (∀ g, g < 4 * F → mr_K (fun b => ¬ ne b = 0) (yls g) (yln g)) →
    (∀ k, k < i → k % 6 < hh (k / 6) → mr_K (fun b => ¬ ne b = 0) (yss k) (ysn k)) → ∃ ne', (∀ b, b < 16 → (¬ ne' b = 0 ↔ mr_L F hh ygs ygn yls yln yss ysn yfs yfn b)) ∧ ∀ post : Int32 → SY → Prop, post (nI (cn (mr_L F hh ygs ygn yls yln yss ysn yfs yfn) 16)) (nI F, yrs, yrn, ysc, ymc, ypc, yov, yen, yop, ynd, yab, yst, ygs, ygn, ykd, yfs, yfn, yls, yln, yss, ysn, yhp, ydu, ne', you) → wY_mark_86 post n (nI i) (nI F) yrs yrn ysc ymc ypc yov yen yop ynd yab yst ygs ygn ykd yfs yfn yls yln yss ysn yhp ydu ne you := by
  have H' := H
  obtain ⟨H1, H2, H3, H4, H5, H6, H7, H8, H9⟩ := H
  intro n
  induction n with
  | zero => intro i ne _ h; omega
  | succ n ih =>
    intro i ne hi hlt hI hg hl hs
    by_cases z : i = 6 * F
    · subst z
      obtain ⟨ne', g1, g2⟩ := my_mark_137 (fc := nI F) (yrs := yrs) (yrn := yrn) (ysc := ysc) (ymc := ymc) (ypc := ypc) (yov := yov) (yen := yen) (yop := yop) (ynd := ynd) (yab := yab) (yst := yst) (ygs := ygs) (ygn := ygn) (ykd := ykd) (yfs := yfs) (yfn := yfn) (yls := yls) (yln := yln) (yss := yss) (ysn := ysn) (yhp := yhp) (ydu := ydu) (you := you) H' 17 0 ne (by omega) (by omega) hI ⟨hg, hl, fun f j hf hj => by
          have h6 := (H2 f hf).2
          have e1 : (6 * f + j) / 6 = f := by omega
          have e2 : (6 * f + j) % 6 = j := by omega
          exact hs (6 * f + j) (by omega) (by rw [e1, e2]; exact hj)⟩ (by
        by_cases q : ∃ b, b < 16 ∧ ¬ ne b = 0
        · obtain ⟨b, hb, q⟩ := q
          have := mr_cn_lt (P := fun b => ¬ ne b = 0) q hb
          exact Or.inr (by omega)
        · exact Or.inl fun b hb q' => absurd ⟨b, hb, q'⟩ q)
      refine ⟨ne', g1, fun post k => ?_⟩
      rw [wY_mark_86]
      dsimp only
      rw [mr_i6]
      exact br_t (nI_le (Nat.le_refl _) (by omega)) ⟨17, g2 post k⟩
    · have hf : i / 6 < F := by omega
      have ed : nI i / 6 = nI (i / 6) := pk_div (d := 6) (by omega) (by decide) (by decide)
      have er : nI i - nI i / 6 * 6 = nI (i % 6) := pk_rem (d := 6) (by omega) (by decide) (by decide)
      have h6 := (H2 _ hf).2
      by_cases q : hh (i / 6) ≤ i % 6
      · obtain ⟨ne', g1, g2⟩ := ih (i + 1) ne (by omega) (by omega) hI hg hl (fun k' hk' q' => by
          by_cases e : k' = i
          · subst e; omega
          · exact hs k' (by omega) q')
        refine ⟨ne', g1, fun post k => ?_⟩
        rw [wY_mark_86]
        dsimp only
        rw [mr_i6]
        refine br_f (nI_ge (by omega) (by omega)) ⟨by decide, by decide, ?_⟩
        rw [er, ed, nI_clamp (n := i / 6) (by omega), (H2 _ hf).1]
        exact ⟨vp_in_nI (by omega) (by decide), br_t (nI_le q (by omega)) (nm_r (nI_1 _) (g2 post k))⟩
      · have ei : 6 * (i / 6) + i % 6 = i := by omega
        have hv := H8 _ (i % 6) hf (by omega)
        have hl' := H4.2.2 _ (i % 6) hf (by omega)
        rw [ei] at hv hl'
        obtain ⟨ne1, hI', mono, hK', hm⟩ := my_meet (fc := nI F) (yrs := yrs) (yrn := yrn) (ysc := ysc) (ymc := ymc) (ypc := ypc) (yov := yov) (yen := yen) (yop := yop) (ynd := ynd) (yab := yab) (yst := yst) (ygs := ygs) (ygn := ygn) (ykd := ykd) (yfs := yfs) (yfn := yfn) (yls := yls) (yln := yln) (yss := yss) (ysn := ysn) (yhp := yhp) (ydu := ydu) (you := you) hI hv hl'
        obtain ⟨ne', g1, g2⟩ := ih (i + 1) ne1 (by omega) (by omega) hI' (fun g h => mr_K_imp (fun b _ => mono b) (hg g h)) (fun g h => mr_K_imp (fun b _ => mono b) (hl g h)) (fun k' hk' q' => by
          by_cases e : k' = i
          · subst e; exact hK'
          · exact mr_K_imp (fun b _ => mono b) (hs k' (by omega) q'))
        refine ⟨ne', g1, fun post k => ?_⟩
        rw [wY_mark_86]
        dsimp only
        rw [mr_i6]
        refine br_f (nI_ge (by omega) (by omega)) ⟨by decide, by decide, ?_⟩
        rw [er, ed, nI_clamp (n := i / 6) (by omega), nI_clamp (n := i) (by omega), (H2 _ hf).1]
        exact ⟨vp_in_nI (by omega) (by decide), br_f (nI_ge (by omega) (by omega)) ⟨vp_in_nI (by omega) (by decide), vp_in_nI (by omega) (by decide), hm _ (nm_r (nI_1 _) (g2 post k))⟩⟩
theorem my_mark_52 (H : mr_YH F hh ygs ygn yls yln yss ysn yfs yfn yhp (mr_L F hh ygs ygn yls yln yss ysn yfs yfn)) : ∀ n i ne, i ≤ 4 * F → 4 * F - i < n → mr_NI (mr_L F hh ygs ygn yls yln yss ysn yfs yfn) ne → (∀ g, g < 4 → mr_K (fun b => ¬ ne b = 0) (ygs g) (ygn g)) → (∀ g, g < i → mr_K (fun b => ¬ ne b = 0) (yls g) (yln g)) → ∃ ne', (∀ b, b < 16 → (¬ ne' b = 0 ↔ mr_L F hh ygs ygn yls yln yss ysn yfs yfn b)) ∧ ∀ post : Int32 → SY → Prop, post (nI (cn (mr_L F hh ygs ygn yls yln yss ysn yfs yfn) 16)) (nI F, yrs, yrn, ysc, ymc, ypc, yov, yen, yop, ynd, yab, yst, ygs, ygn, ykd, yfs, yfn, yls, yln, yss, ysn, yhp, ydu, ne', you) → wY_mark_52 post n (nI i) (nI F) yrs yrn ysc ymc ypc yov yen yop ynd yab yst ygs ygn ykd yfs yfn yls yln yss ysn yhp ydu ne you := by
  have H' := H
  obtain ⟨H1, H2, H3, H4, H5, H6, H7, H8, H9⟩ := H
  intro n
  induction n with
  | zero => intro i ne _ h; omega
  | succ n ih =>
    intro i ne hi hlt hI hg hl
    by_cases z : i = 4 * F
    · subst z
      obtain ⟨ne', g1, g2⟩ := my_mark_86 (yrs := yrs) (yrn := yrn) (ysc := ysc) (ymc := ymc) (ypc := ypc) (yov := yov) (yen := yen) (yop := yop) (ynd := ynd) (yab := yab) (yst := yst) (ygs := ygs) (ygn := ygn) (ykd := ykd) (yfs := yfs) (yfn := yfn) (yls := yls) (yln := yln) (yss := yss) (ysn := ysn) (yhp := yhp) (ydu := ydu) (you := you) H' (6 * F + 1) 0 ne (by omega) (by omega) hI hg hl fun k hk => by omega
      refine ⟨ne', g1, fun post k => ?_⟩
      rw [wY_mark_52]
      dsimp only
      rw [mr_i4]
      exact br_t (nI_le (Nat.le_refl _) (by omega)) ⟨6 * F + 1, g2 post k⟩
    · obtain ⟨ne1, hI', mono, hK', hm⟩ := my_meet (fc := nI F) (yrs := yrs) (yrn := yrn) (ysc := ysc) (ymc := ymc) (ypc := ypc) (yov := yov) (yen := yen) (yop := yop) (ynd := ynd) (yab := yab) (yst := yst) (ygs := ygs) (ygn := ygn) (ykd := ykd) (yfs := yfs) (yfn := yfn) (yls := yls) (yln := yln) (yss := yss) (ysn := ysn) (yhp := yhp) (ydu := ydu) (you := you) hI (H7 i (by omega)) (H4.2.1 i (by omega))
      obtain ⟨ne', g1, g2⟩ := ih (i + 1) ne1 (by omega) (by omega) hI' (fun g h => mr_K_imp (fun b _ => mono b) (hg g h)) (fun k' hk' => by
        by_cases e : k' = i
        · subst e; exact hK'
        · exact mr_K_imp (fun b _ => mono b) (hl k' (by omega)))
      refine ⟨ne', g1, fun post k => ?_⟩
      rw [wY_mark_52]
      dsimp only
      rw [mr_i4]
      refine br_f (nI_ge (by omega) (by omega)) ⟨vp_in_nI (by omega) (by decide), vp_in_nI (by omega) (by decide), ?_⟩
      rw [nI_clamp (n := i) (by omega)]
      exact hm _ (nm_r (nI_1 _) (g2 post k))
theorem my_mark_23 (H : mr_YH F hh ygs ygn yls yln yss ysn yfs yfn yhp (mr_L F hh ygs ygn yls yln yss ysn yfs yfn)) : ∀ n i ne, i ≤ 4 → 4 - i < n → mr_NI (mr_L F hh ygs ygn yls yln yss ysn yfs yfn) ne → (∀ g, g < i → mr_K (fun b => ¬ ne b = 0) (ygs g) (ygn g)) → ∃ ne', (∀ b, b < 16 → (¬ ne' b = 0 ↔ mr_L F hh ygs ygn yls yln yss ysn yfs yfn b)) ∧ ∀ post : Int32 → SY → Prop, post (nI (cn (mr_L F hh ygs ygn yls yln yss ysn yfs yfn) 16)) (nI F, yrs, yrn, ysc, ymc, ypc, yov, yen, yop, ynd, yab, yst, ygs, ygn, ykd, yfs, yfn, yls, yln, yss, ysn, yhp, ydu, ne', you) → wY_mark_23 post n (nI i) (nI F) yrs yrn ysc ymc ypc yov yen yop ynd yab yst ygs ygn ykd yfs yfn yls yln yss ysn yhp ydu ne you := by
  have H' := H
  obtain ⟨H1, H2, H3, H4, H5, H6, H7, H8, H9⟩ := H
  intro n
  induction n with
  | zero => intro i ne _ h; omega
  | succ n ih =>
    intro i ne hi hlt hI hg
    by_cases z : i = 4
    · subst z
      obtain ⟨ne', g1, g2⟩ := my_mark_52 (yrs := yrs) (yrn := yrn) (ysc := ysc) (ymc := ymc) (ypc := ypc) (yov := yov) (yen := yen) (yop := yop) (ynd := ynd) (yab := yab) (yst := yst) (ygs := ygs) (ygn := ygn) (ykd := ykd) (yfs := yfs) (yfn := yfn) (yls := yls) (yln := yln) (yss := yss) (ysn := ysn) (yhp := yhp) (ydu := ydu) (you := you) H' (4 * F + 1) 0 ne (by omega) (by omega) hI hg fun k hk => by omega
      refine ⟨ne', g1, fun post k => ?_⟩
      rw [wY_mark_23]
      exact br_t (by decide) ⟨4 * F + 1, g2 post k⟩
    · obtain ⟨ne1, hI', mono, hK', hm⟩ := my_meet (fc := nI F) (yrs := yrs) (yrn := yrn) (ysc := ysc) (ymc := ymc) (ypc := ypc) (yov := yov) (yen := yen) (yop := yop) (ynd := ynd) (yab := yab) (yst := yst) (ygs := ygs) (ygn := ygn) (ykd := ykd) (yfs := yfs) (yfn := yfn) (yls := yls) (yln := yln) (yss := yss) (ysn := ysn) (yhp := yhp) (ydu := ydu) (you := you) hI (H6 i (by omega)) (H4.1 i (by omega))
      obtain ⟨ne', g1, g2⟩ := ih (i + 1) ne1 (by omega) (by omega) hI' (fun k' hk' => by
        by_cases e : k' = i
        · subst e; exact hK'
        · exact mr_K_imp (fun b _ => mono b) (hg k' (by omega)))
      refine ⟨ne', g1, fun post k => ?_⟩
      rw [wY_mark_23]
      refine br_f (nI_ge (b := 4) (by omega) (by omega)) ⟨vp_in_nI (by omega) (by decide), vp_in_nI (by omega) (by decide), ?_⟩
      rw [nI_clamp (n := i) (by omega)]
      exact hm _ (nm_r (nI_1 _) (g2 post k))
theorem my_mark_2 (H : mr_YH F hh ygs ygn yls yln yss ysn yfs yfn yhp (mr_L F hh ygs ygn yls yln yss ysn yfs yfn)) : ∀ n i ne, i ≤ 16 → 16 - i < n → (∀ b, b < i → ne b = 0) → ∃ ne', (∀ b, b < 16 → (¬ ne' b = 0 ↔ mr_L F hh ygs ygn yls yln yss ysn yfs yfn b)) ∧ ∀ post : Int32 → SY → Prop, post (nI (cn (mr_L F hh ygs ygn yls yln yss ysn yfs yfn) 16)) (nI F, yrs, yrn, ysc, ymc, ypc, yov, yen, yop, ynd, yab, yst, ygs, ygn, ykd, yfs, yfn, yls, yln, yss, ysn, yhp, ydu, ne', you) → wY_mark_2 post (nI F) yrs yrn ysc ymc ypc yov yen n (nI i) yop ynd yab yst ygs ygn ykd yfs yfn yls yln yss ysn yhp ydu ne you := by
  intro n
  induction n with
  | zero => intro i ne _ h; omega
  | succ n ih =>
    intro i ne hi hlt h0
    by_cases z : i = 16
    · subst z
      obtain ⟨ne', g1, g2⟩ := my_mark_23 (yrs := yrs) (yrn := yrn) (ysc := ysc) (ymc := ymc) (ypc := ypc) (yov := yov) (yen := yen) (yop := yop) (ynd := ynd) (yab := yab) (yst := yst) (ygs := ygs) (ygn := ygn) (ykd := ykd) (yfs := yfs) (yfn := yfn) (yls := yls) (yln := yln) (yss := yss) (ysn := ysn) (yhp := yhp) (ydu := ydu) (you := you) H 5 0 ne (by omega) (by omega) (fun b hb q => absurd (h0 b hb) q) fun k hk => by omega
      refine ⟨ne', g1, fun post k => ?_⟩
      rw [wY_mark_2]
      exact br_t (by decide) ⟨5, g2 post k⟩
    · obtain ⟨ne', g1, g2⟩ := ih (i + 1) (upd ne i 0) (by omega) (by omega) fun b hb => by
        by_cases e : b = i
        · subst e; exact pk_us
        · rw [pk_un e]; exact h0 b (by omega)
      refine ⟨ne', g1, fun post k => ?_⟩
      rw [wY_mark_2]
      refine br_f (nI_ge (b := 16) (by omega) (by omega)) ⟨vp_in_nI (by omega) (by decide), nm_e (nm_r (nI_1 _) ?_)⟩
      rw [nI_clamp (n := i) (by omega), mr_nbb.1]
      exact g2 post k
theorem my_mark {ne : Nat → Int32} (H : mr_YH F hh ygs ygn yls yln yss ysn yfs yfn yhp (mr_L F hh ygs ygn yls yln yss ysn yfs yfn)) : ∃ ne', (∀ b, b < 16 → (¬ ne' b = 0 ↔ mr_L F hh ygs ygn yls yln yss ysn yfs yfn b)) ∧ ∀ post : Int32 → SY → Prop, post (nI (cn (mr_L F hh ygs ygn yls yln yss ysn yfs yfn) 16)) (nI F, yrs, yrn, ysc, ymc, ypc, yov, yen, yop, ynd, yab, yst, ygs, ygn, ykd, yfs, yfn, yls, yln, yss, ysn, yhp, ydu, ne', you) → wpY_mark post (nI F, yrs, yrn, ysc, ymc, ypc, yov, yen, yop, ynd, yab, yst, ygs, ygn, ykd, yfs, yfn, yls, yln, yss, ysn, yhp, ydu, ne, you) := by
  obtain ⟨ne', g1, g2⟩ := my_mark_2 (yrs := yrs) (yrn := yrn) (ysc := ysc) (ymc := ymc) (ypc := ypc) (yov := yov) (yen := yen) (yop := yop) (ynd := ynd) (yab := yab) (yst := yst) (ygs := ygs) (ygn := ygn) (ykd := ykd) (yfs := yfs) (yfn := yfn) (yls := yls) (yln := yln) (yss := yss) (ysn := ysn) (yhp := yhp) (ydu := ydu) (you := you) H 17 0 ne (by omega) (by omega) fun b hb => by omega
  exact ⟨ne', g1, fun post k => ⟨17, g2 post k⟩⟩
end
end
section
section
variable {R : Nat → Nat → Prop} {F o y : Nat} {hh : Nat → Nat} {rm : Int32} {gs gn ls ln ss sn cl fs fn dp ygs ygn yls yln yss ysn ykd yfs yfn : Nat → Int32}
theorem mr_V_NY {s n s' n' : Int32} (hR : ∀ a b, R a b → a < 32 ∧ b < 16) (v : mr_V R s n s' n') : mr_NY s' n' := by
  intro e
  obtain ⟨a, b, h1, h2, r⟩ := mr_V_obj v (v.1.symm.trans e)
  exact ⟨b, (hR a b r).2, h2⟩
theorem mr_YH_of (h : mr_HP R o y rm cl fs fn ykd yfs yfn) (hr : mr_RT R F hh gs gn ls ln ss sn ygs ygn yls yln yss ysn) (hF : F ≤ 10) (hd : ∀ f, f < F → dp f = nI (hh f) ∧ hh f ≤ 6) : mr_YH F hh ygs ygn yls yln yss ysn yfs yfn dp (mr_L F hh ygs ygn yls yln yss ysn yfs yfn) := by
  have hR := mr_HP_R h
  refine ⟨hF, hd, fun a l => ?_, mr_L_ro, mr_L_cd, fun g hg => mr_V_NY hR (hr.1 g hg), fun g hg => mr_V_NY hR (hr.2.1 g hg), fun f j hf hj => mr_V_NY hR (hr.2.2 f j hf hj), fun b l j hj => ?_⟩
  · obtain ⟨b, r, _⟩ := mr_LY hR hr h.2.2.2.2.1 l
    exact (hR _ _ r).2
  · obtain ⟨a, r, _⟩ := mr_LY hR hr h.2.2.2.2.1 l
    exact mr_V_NY hR ((h.2.2.2.2.1 a b r).2 j hj)
end
end
section
/-! programs, kinds, starts -/
def mr_PG (op nd ab st : Nat → Int32) : Prop :=
  (∀ i, i < 60 → ∃ o, o ≤ 23 ∧ op i = nI o ∧ ((o = 3 ∨ o = 4 ∨ o = 15 ∨ o = 18 ∨ o = 19 ∨ o = 21 ∨ o = 22) → ∃ k, k < 4 ∧ nd i = nI k) ∧ ((o = 16 ∨ o = 17) → ∃ k, k < 3 ∧ nd i = nI k)) ∧
  (∀ c, c < 4 → ab c = -1 ∨ ∃ a, a < c ∧ ab c = nI a) ∧
  (∀ k, k < 16 → st k = -1 ∨ ∃ a, a < 60 ∧ st k = nI a)
def mr_RV (ab st rv : Nat → Int32) : Prop := ∀ c s, c < 4 → s < 4 →
  (∀ a, a < 60 → st (4 * c + s) = nI a → rv (4 * c + s) = nI a) ∧ (st (4 * c + s) = -1 → (ab c = -1 → rv (4 * c + s) = -1) ∧ (∀ a, a < c → ab c = nI a → rv (4 * c + s) = rv (4 * a + s)))
def mr_CP (op cp : Nat → Int32) : Prop := ∀ i, i < 60 → cp i = 0 ∨ (i < 59 ∧ ((cp i = 1 ∧ op i = 3 ∧ op (i + 1) = 16) ∨ (cp i = 2 ∧ op i = 1 ∧ op (i + 1) = 8) ∨ (cp i = 3 ∧ op i = 11 ∧ op (i + 1) = 14) ∨ (cp i = 4 ∧ op i = 3 ∧ op (i + 1) = 3)))
def mr_CC (nd rv cc cs : Nat → Int32) : Prop := ∀ i, i < 60 → cc i = -1 ∨ ∃ c, c < 4 ∧ cc i = nI c ∧ ∀ k, k < 4 → nd i = nI k → cs i = rv (4 * c + k)
section
variable {op nd ab st rv : Nat → Int32}
theorem mr_RV_r (hp : mr_PG op nd ab st) (h : mr_RV ab st rv) {s : Nat} (hs : s < 4) : ∀ c, c < 4 → rv (4 * c + s) = -1 ∨ ∃ a, a < 60 ∧ rv (4 * c + s) = nI a := by
  have key : ∀ n c, c < n → c < 4 → rv (4 * c + s) = -1 ∨ ∃ a, a < 60 ∧ rv (4 * c + s) = nI a := by
    intro n
    induction n with
    | zero => intro c h; omega
    | succ n ih =>
      intro c hc h4
      have q := h c s h4 hs
      rcases hp.2.2 (4 * c + s) (by omega) with z | ⟨a, ha, z⟩
      · have w := q.2 z
        rcases hp.2.1 c h4 with y | ⟨a, ha, y⟩
        · exact Or.inl (w.1 y)
        · rw [w.2 a ha y]; exact ih a (by omega) (by omega)
      · exact Or.inr ⟨a, ha, q.1 a ha z⟩
  exact fun c hc => key (c + 1) c (by omega) hc
end
section
variable {yfc yrs yrn ysc ymc ypc yov yen : Int32} {yop ynd yab yst ygs ygn ykd yfs yfn yls yln yss ysn yhp ydu yne you : Nat → Int32} {rv : Nat → Int32}
theorem my_find_m {post : Int32 → Prop} {x2 : Int32} (h : post (-1)) : ∀ n i, i ≤ 4 → 4 - i < n → wY_find_10 post x2 yfc yrs yrn ysc ymc ypc yov yen yop ynd yab yst ygs ygn ykd yfs yfn yls yln yss ysn yhp ydu yne you n (-1) (nI i) := by
  intro n
  induction n with
  | zero => intro i _ h; omega
  | succ n ih =>
    intro i hi hlt
    rw [wY_find_10]
    by_cases z : i = 4
    · subst z; exact br_t (by decide) h
    · exact br_f (nI_ge (b := 4) (by omega) (by omega)) (br_t (by decide) (nm_r (nI_1 _) (ih (i + 1) (by omega) (by omega))))
theorem my_find_10 {post : Int32 → Prop} {s : Nat} (hs : s < 4) (hp : mr_PG yop ynd yab yst) (h : mr_RV yab yst rv) : ∀ n c i, c + i ≤ 3 → 4 - i < n → post (rv (4 * c + s)) → wY_find_10 post (nI s) yfc yrs yrn ysc ymc ypc yov yen yop ynd yab yst ygs ygn ykd yfs yfn yls yln yss ysn yhp ydu yne you n (nI c) (nI i) := by
  intro n
  induction n with
  | zero => intro c i _ h; omega
  | succ n ih =>
    intro c i hi hlt k
    rw [wY_find_10]
    dsimp only
    rw [mr_i4, nI_add, nI_clamp (n := 4 * c + s) (by omega), nI_clamp (n := c) (by omega)]
    have q := h c s (by omega) hs
    refine br_f (nI_ge (b := 4) (by omega) (by omega)) (br_f (nI_pos (by omega)) ⟨vp_in_nI (by omega) (by decide), ?_⟩)
    rcases hp.2.2 (4 * c + s) (by omega) with z | ⟨a, ha, z⟩
    · rw [z]
      refine br_t (by decide) ⟨vp_in_nI (by omega) (by decide), ?_⟩
      have w := q.2 z
      rcases hp.2.1 c (by omega) with y | ⟨a, ha, y⟩
      · rw [y]
        rw [w.1 y] at k
        exact nm_e (nm_r (nI_1 _) (my_find_m k n (i + 1) (by omega) (by omega)))
      · rw [y]
        rw [w.2 a ha y] at k
        exact nm_e (nm_r (nI_1 _) (ih a (i + 1) (by omega) (by omega) k))
    · rw [q.1 a ha z] at k
      rw [z]
      exact br_f (nI_pos (by omega)) ⟨vp_in_nI (by omega) (by decide), k⟩
theorem my_find {post : Int32 → Prop} {b c s : Nat} (hb : b < 16) (hc : c < 4) (hs : s < 4) (e : ykd b = nI c) (hp : mr_PG yop ynd yab yst) (h : mr_RV yab yst rv) (k : post (rv (4 * c + s))) : wpY_find post (yfc, yrs, yrn, ysc, ymc, ypc, yov, yen, yop, ynd, yab, yst, ygs, ygn, ykd, yfs, yfn, yls, yln, yss, ysn, yhp, ydu, yne, you) (nI b) (nI s) := by
  rw [wpY_find, nI_clamp (n := b) (by omega), e]
  exact ⟨vp_in_nI hb (by decide), nm_e ⟨5, my_find_10 hs hp h 5 c 0 (by omega) (by omega) k⟩⟩
theorem my_isOf_m {post : Int32 → Prop} {k : Nat} (hk : k < 2 ^ 31) (h : post 0) : ∀ n i, i ≤ 4 → 4 - i < n → wY_isOf_10 post (nI k) yfc yrs yrn ysc ymc ypc yov yen yop ynd yab yst ygs ygn ykd yfs yfn yls yln yss ysn yhp ydu yne you n (-1) (nI i) := by
  intro n
  induction n with
  | zero => intro i _ h; omega
  | succ n ih =>
    intro i hi hlt
    rw [wY_isOf_10]
    by_cases z : i = 4
    · subst z; exact br_t (by decide) h
    · exact br_f (nI_ge (b := 4) (by omega) (by omega)) (br_f (fun e => mr_m1 hk e.symm) (br_t (by decide) (nm_r (nI_1 _) (ih (i + 1) (by omega) (by omega)))))
/-- any answer: whatever n is -/
theorem my_isOf_any {post : Int32 → Prop} {x : Int32} (hp : mr_PG yop ynd yab yst) (h0 : post 0) (h1 : post 1) : ∀ n i c, i ≤ 4 → 4 - i < n → (c = -1 ∨ ∃ a, a < 4 ∧ c = nI a) → wY_isOf_10 post x yfc yrs yrn ysc ymc ypc yov yen yop ynd yab yst ygs ygn ykd yfs yfn yls yln yss ysn yhp ydu yne you n c (nI i) := by
  intro n
  induction n with
  | zero => intro i c _ h; omega
  | succ n ih =>
    intro i c hi hlt hc
    rw [wY_isOf_10]
    by_cases z : i = 4
    · subst z; exact br_t (by decide) h0
    · refine br_f (nI_ge (b := 4) (by omega) (by omega)) ?_
      by_cases e : c = x
      · exact br_t e h1
      · refine br_f e ?_
        rcases hc with rfl | ⟨a, ha, rfl⟩
        · exact br_t (by decide) (nm_r (nI_1 _) (ih (i + 1) _ (by omega) (by omega) (Or.inl rfl)))
        · rw [nI_clamp (n := a) (by omega)]
          refine br_f (nI_pos (by omega)) ⟨vp_in_nI ha (by decide), nm_e (nm_r (nI_1 _) (ih (i + 1) _ (by omega) (by omega) ?_))⟩
          rcases hp.2.1 a ha with y | ⟨a', ha', y⟩
          · exact Or.inl y
          · exact Or.inr ⟨a', by omega, y⟩
theorem my_isOf_lt {post : Int32 → Prop} {k : Nat} (hk : k < 4) (hp : mr_PG yop ynd yab yst) (h : post 0) : ∀ n c i, c < k → c + i ≤ 3 → 4 - i < n → wY_isOf_10 post (nI k) yfc yrs yrn ysc ymc ypc yov yen yop ynd yab yst ygs ygn ykd yfs yfn yls yln yss ysn yhp ydu yne you n (nI c) (nI i) := by
  intro n
  induction n with
  | zero => intro c i _ _ h; omega
  | succ n ih =>
    intro c i hc hi hlt
    rw [wY_isOf_10]
    dsimp only
    rw [nI_clamp (n := c) (by omega)]
    refine br_f (nI_ge (b := 4) (by omega) (by omega)) (br_f (fun e => by have := mr_inj (by omega) (by omega) e; omega) (br_f (nI_pos (by omega)) ⟨vp_in_nI (by omega) (by decide), ?_⟩))
    rcases hp.2.1 c (by omega) with y | ⟨a, ha, y⟩
    · rw [y]; exact nm_e (nm_r (nI_1 _) (my_isOf_m (by omega) h n (i + 1) (by omega) (by omega)))
    · rw [y]; exact nm_e (nm_r (nI_1 _) (ih a (i + 1) (by omega) (by omega) (by omega)))
end
section
variable {pr lv fc ou yu rm mk sc mc rs rn pc wc : Int32} {op nd ab st rv cp cc cs gs gn du ls ln dp ss sn cl fs fn wt mt pl : Nat → Int32} {yfc yrs yrn ysc ymc ypc yov yen : Int32} {ygs ygn ykd yfs yfn yls yln yss ysn yhp ydu yne you : Nat → Int32}
/-- both ways to ask for a kind give one answer -/
theorem mr_isa {k : Nat} (hk : k < 4) (hp : mr_PG op nd ab st) : ∀ c, c < 4 → ∃ r : Int32, (r = 0 ∨ r = 1) ∧ (∀ (post : SX → Prop) n, c < n → wX_ask_47 post r pr lv fc ou yu rm mk sc mc rs rn pc wc op nd ab st rv cp cc cs gs gn du ls ln dp ss sn cl fs fn wt mt pl → wX_ask_22 post (nI k) pr lv fc ou yu rm mk sc mc rs rn pc wc op nd ab st rv cp cc cs gs gn du ls ln dp ss sn cl fs fn wt mt pl (n + 1) (nI c)) ∧ (∀ (post : Int32 → Prop) n i, c + i ≤ 3 → 4 - i < n → post r → wY_isOf_10 post (nI k) yfc yrs yrn ysc ymc ypc yov yen op nd ab st ygs ygn ykd yfs yfn yls yln yss ysn yhp ydu yne you n (nI c) (nI i)) := by
  have key : ∀ m c, c < m → c < 4 → ∃ r : Int32, (r = 0 ∨ r = 1) ∧ (∀ (post : SX → Prop) n, c < n → wX_ask_47 post r pr lv fc ou yu rm mk sc mc rs rn pc wc op nd ab st rv cp cc cs gs gn du ls ln dp ss sn cl fs fn wt mt pl → wX_ask_22 post (nI k) pr lv fc ou yu rm mk sc mc rs rn pc wc op nd ab st rv cp cc cs gs gn du ls ln dp ss sn cl fs fn wt mt pl (n + 1) (nI c)) ∧ (∀ (post : Int32 → Prop) n i, c + i ≤ 3 → 4 - i < n → post r → wY_isOf_10 post (nI k) yfc yrs yrn ysc ymc ypc yov yen op nd ab st ygs ygn ykd yfs yfn yls yln yss ysn yhp ydu yne you n (nI c) (nI i)) := by
    intro m
    induction m with
    | zero => intro c h; omega
    | succ m ih =>
      intro c hc h4
      rcases Nat.lt_trichotomy c k with z | z | z
      · refine ⟨0, Or.inl rfl, fun post n hn h => ?_, fun post n i hi hn h => my_isOf_lt hk hp h n c i z hi hn⟩
        rw [wX_ask_22]
        exact br_t (nI_le (by omega) (by omega)) (br_f (fun e => by have := mr_inj (by omega) (by omega) e; omega) h)
      · subst z
        refine ⟨1, Or.inr rfl, fun post n hn h => ?_, fun post n i hi hn h => ?_⟩
        · rw [wX_ask_22]
          exact br_t (nI_le (by omega) (by omega)) (br_t rfl h)
        · cases n with
          | zero => omega
          | succ n =>
            rw [wY_isOf_10]
            exact br_f (nI_ge (b := 4) (by omega) (by omega)) (br_t rfl h)
      · rcases hp.2.1 c h4 with y | ⟨a, ha, y⟩
        · refine ⟨0, Or.inl rfl, fun post n hn h => ?_, fun post n i hi hn h => ?_⟩
          · cases n with
            | zero => omega
            | succ n =>
              rw [wX_ask_22]
              dsimp only
              rw [nI_clamp (n := c) (by omega), y]
              refine br_f (nI_ge (by omega) (by omega)) ⟨vp_in_nI h4 (by decide), nm_e ?_⟩
              rw [wX_ask_22]
              exact br_t (by
                rw [Int32.le_iff_toInt_le, nI_toInt (by omega), show (-1 : Int32).toInt = -1 from by decide]; omega) (br_f (fun e => mr_m1 (by omega) e.symm) h)
          · cases n with
            | zero => omega
            | succ n =>
              rw [wY_isOf_10]
              dsimp only
              rw [nI_clamp (n := c) (by omega), y]
              exact br_f (nI_ge (b := 4) (by omega) (by omega)) (br_f (fun e => by have := mr_inj (by omega) (by omega) e; omega) (br_f (nI_pos (by omega)) ⟨vp_in_nI h4 (by decide), nm_e (nm_r (nI_1 _) (my_isOf_m (by omega) h n (i + 1) (by omega) (by omega)))⟩))
        · obtain ⟨r, hr, hX, hY⟩ := ih a (by omega) (by omega)
          refine ⟨r, hr, fun post n hn h => ?_, fun post n i hi hn h => ?_⟩
          · cases n with
            | zero => omega
            | succ n =>
              rw [wX_ask_22]
              dsimp only
              rw [nI_clamp (n := c) (by omega), y]
              exact br_f (nI_ge (by omega) (by omega)) ⟨vp_in_nI h4 (by decide), nm_e (hX post n (by omega) h)⟩
          · cases n with
            | zero => omega
            | succ n =>
              rw [wY_isOf_10]
              dsimp only
              rw [nI_clamp (n := c) (by omega), y]
              exact br_f (nI_ge (b := 4) (by omega) (by omega)) (br_f (fun e => by have := mr_inj (by omega) (by omega) e; omega) (br_f (nI_pos (by omega)) ⟨vp_in_nI h4 (by decide), nm_e (nm_r (nI_1 _) (hY post n (i + 1) (by omega) (by omega) h))⟩))
  exact fun c hc => key (c + 1) c (by omega) hc
end
end
section
/-! X: instructions -/
section
variable {pr lv ou yu rm mk sc mc rs rn pc wc : Int32} {op nd ab st rv cp cc cs gs gn du ls ln dp ss sn cl fs fn wt mt pl : Nat → Int32} {t d i : Nat} {n : Int32} {post : Int32 → SX → Prop}
theorem mr_S0 : mr_S 0 := Or.inl rfl
theorem mr_S1 : mr_S 1 := Or.inr (Or.inl rfl)
theorem mr_S2 : mr_S 2 := Or.inr (Or.inr rfl)
theorem mx_drop1 {post : SX → Prop} (ht : t < 10) (hd : d ≤ 6) (hk : 1 ≤ d) (hdp : dp t = nI d) : wpX_dropValues post (pr, lv, nI (t + 1), ou, yu, rm, mk, sc, mc, rs, rn, pc, wc, op, nd, ab, st, rv, cp, cc, cs, gs, gn, du, ls, ln, dp, ss, sn, cl, fs, fn, wt, mt, pl) 1 ↔ post (pr, lv, nI (t + 1), ou, yu, rm, mk, sc, mc, rs, rn, pc, wc, op, nd, ab, st, rv, cp, cc, cs, gs, gn, du, ls, ln, upd dp t (nI (d - 1)), ss, sn, cl, fs, fn, wt, mt, pl) := mx_drop (k := 1) ht hd hk hdp
theorem mx_drop2 {post : SX → Prop} (ht : t < 10) (hd : d ≤ 6) (hk : 2 ≤ d) (hdp : dp t = nI d) : wpX_dropValues post (pr, lv, nI (t + 1), ou, yu, rm, mk, sc, mc, rs, rn, pc, wc, op, nd, ab, st, rv, cp, cc, cs, gs, gn, du, ls, ln, dp, ss, sn, cl, fs, fn, wt, mt, pl) 2 ↔ post (pr, lv, nI (t + 1), ou, yu, rm, mk, sc, mc, rs, rn, pc, wc, op, nd, ab, st, rv, cp, cc, cs, gs, gn, du, ls, ln, upd dp t (nI (d - 2)), ss, sn, cl, fs, fn, wt, mt, pl) := mx_drop (k := 2) ht hd hk hdp
theorem mx_fromTop0 {post : Int32 → Prop} (ht : t < 10) (hd : d ≤ 6) (hk : 1 ≤ d) (hdp : dp t = nI d) : wpX_fromTop post (pr, lv, nI (t + 1), ou, yu, rm, mk, sc, mc, rs, rn, pc, wc, op, nd, ab, st, rv, cp, cc, cs, gs, gn, du, ls, ln, dp, ss, sn, cl, fs, fn, wt, mt, pl) 0 ↔ post (nI (6 * t + (d - 1))) := mx_fromTop (k := 0) ht hd (by omega) hdp
theorem mx_fromTop1 {post : Int32 → Prop} (ht : t < 10) (hd : d ≤ 6) (hk : 2 ≤ d) (hdp : dp t = nI d) : wpX_fromTop post (pr, lv, nI (t + 1), ou, yu, rm, mk, sc, mc, rs, rn, pc, wc, op, nd, ab, st, rv, cp, cc, cs, gs, gn, du, ls, ln, dp, ss, sn, cl, fs, fn, wt, mt, pl) 1 ↔ post (nI (6 * t + (d - 2))) := mx_fromTop (k := 1) ht hd (by omega) hdp
theorem mx_sortAt0 {post : Int32 → Prop} (ht : t < 10) (hd : d ≤ 6) (hk : 1 ≤ d) (hdp : dp t = nI d) : wpX_sortAt post (pr, lv, nI (t + 1), ou, yu, rm, mk, sc, mc, rs, rn, pc, wc, op, nd, ab, st, rv, cp, cc, cs, gs, gn, du, ls, ln, dp, ss, sn, cl, fs, fn, wt, mt, pl) 0 ↔ post (ss (6 * t + (d - 1))) := mx_sortAt (k := 0) ht hd (by omega) hdp
theorem mx_sortAt1 {post : Int32 → Prop} (ht : t < 10) (hd : d ≤ 6) (hk : 2 ≤ d) (hdp : dp t = nI d) : wpX_sortAt post (pr, lv, nI (t + 1), ou, yu, rm, mk, sc, mc, rs, rn, pc, wc, op, nd, ab, st, rv, cp, cc, cs, gs, gn, du, ls, ln, dp, ss, sn, cl, fs, fn, wt, mt, pl) 1 ↔ post (ss (6 * t + (d - 2))) := mx_sortAt (k := 1) ht hd (by omega) hdp
theorem mx_numberAt0 {post : Int32 → Prop} (ht : t < 10) (hd : d ≤ 6) (hk : 1 ≤ d) (hdp : dp t = nI d) : wpX_numberAt post (pr, lv, nI (t + 1), ou, yu, rm, mk, sc, mc, rs, rn, pc, wc, op, nd, ab, st, rv, cp, cc, cs, gs, gn, du, ls, ln, dp, ss, sn, cl, fs, fn, wt, mt, pl) 0 ↔ post (sn (6 * t + (d - 1))) := mx_numberAt (k := 0) ht hd (by omega) hdp
theorem mx_numberAt1 {post : Int32 → Prop} (ht : t < 10) (hd : d ≤ 6) (hk : 2 ≤ d) (hdp : dp t = nI d) : wpX_numberAt post (pr, lv, nI (t + 1), ou, yu, rm, mk, sc, mc, rs, rn, pc, wc, op, nd, ab, st, rv, cp, cc, cs, gs, gn, du, ls, ln, dp, ss, sn, cl, fs, fn, wt, mt, pl) 1 ↔ post (sn (6 * t + (d - 2))) := mx_numberAt (k := 1) ht hd (by omega) hdp
/-- what is left to moveValues -/
theorem mx_79 {o z : Int32} (ht : t < 10) (h1 : ¬ o = 14) (h2 : ¬ o = 23) (hz : (o = 13 ∧ z = n) ∨ (¬ o = 13 ∧ z = nI (i + 1))) : wX_workOne_79 post (nI i) o n pr lv (nI (t + 1)) ou yu rm mk sc mc rs rn pc wc op nd ab st rv cp cc cs gs gn du ls ln dp ss sn cl fs fn wt mt pl ↔ wX_workOne_176 post o n z (nI t) pr lv (nI (t + 1)) ou yu rm mk sc mc rs rn pc wc op nd ab st rv cp cc cs gs gn du ls ln dp ss sn cl fs fn wt mt pl := by
  rcases hz with ⟨e, rfl⟩ | ⟨e, rfl⟩
  · simp only [wX_workOne_79, mr_bf h1, mr_bf h2, mx_top, mr_bt e]
  · simp only [wX_workOne_79, mr_bf h1, mr_bf h2, mx_top, mr_bf e, nI_1]
theorem mx_176 {o z : Int32} (ht : t < 10) : wX_workOne_176 post o n z (nI t) pr lv (nI (t + 1)) ou yu rm mk sc mc rs rn pc wc op nd ab st rv cp cc cs gs gn du ls ln dp ss sn cl fs fn wt mt pl ↔ wpX_moveValues (fun u => post (-1) u) (pr, lv, nI (t + 1), ou, yu, rm, mk, sc, mc, rs, rn, pc, wc, op, nd, ab, st, rv, cp, cc, cs, gs, gn, upd du t z, ls, ln, dp, ss, sn, cl, fs, fn, wt, mt, pl) o n := by
  have e2 : (nI t).toNatClampNeg = t := nI_clamp (by omega)
  have i1 : vp_in (nI t) 10 := vp_in_nI ht (by decide)
  simp only [wX_workOne_176, e2, i1, true_and, forall_eq]
theorem mx_due {z : Int32} {P : (Nat → Int32) → Prop} (ht : t < 10) : wpX_top (fun r => vp_in r 10 ∧ (vp_in r 10 ∧ ∀ a, a = upd du r.toNatClampNeg (du r.toNatClampNeg + 1) → P a)) (pr, lv, nI (t + 1), ou, yu, rm, mk, sc, mc, rs, rn, pc, wc, op, nd, ab, st, rv, cp, cc, cs, gs, gn, du, ls, ln, dp, ss, sn, cl, fs, fn, wt, mt, pl) ↔ P (upd du t (du t + 1)) := by
  have e2 : (nI t).toNatClampNeg = t := nI_clamp (by omega)
  have i1 : vp_in (nI t) 10 := vp_in_nI ht (by decide)
  simp only [mx_top, e2, i1, true_and, forall_eq]
theorem mx_w1 (ht : t < 10) (hd : d < 6) (hdp : dp t = nI d) : wpX_workOne post (pr, lv, nI (t + 1), ou, yu, rm, mk, sc, mc, rs, rn, pc, wc, op, nd, ab, st, rv, cp, cc, cs, gs, gn, du, ls, ln, dp, ss, sn, cl, fs, fn, wt, mt, pl) (nI i) 1 n ↔ post (-1) (pr, lv, nI (t + 1), ou, yu, rm, mk, sc, mc, rs, rn, pc, wc, op, nd, ab, st, rv, cp, cc, cs, gs, gn, upd du t (nI (i + 1)), ls, ln, upd dp t (nI (d + 1)), upd ss (6 * t + d) 1, upd sn (6 * t + d) n, cl, fs, fn, wt, mt, pl) := by
  rw [wpX_workOne, mr_bf (by decide), mr_bf (by decide), mr_bf (by decide), mr_bf (by decide), mr_bf (by decide), mr_bf (by decide), mr_bt (by decide), mx_79 ht (by decide) (by decide) (Or.inr ⟨by decide, rfl⟩), mx_176 ht, wpX_moveValues, mr_bt (by decide), mx_push ht hd hdp mr_S1]
theorem mx_w2 (ht : t < 10) (hd : d < 6) (hdp : dp t = nI d) : wpX_workOne post (pr, lv, nI (t + 1), ou, yu, rm, mk, sc, mc, rs, rn, pc, wc, op, nd, ab, st, rv, cp, cc, cs, gs, gn, du, ls, ln, dp, ss, sn, cl, fs, fn, wt, mt, pl) (nI i) 2 n ↔ post (-1) (pr, lv, nI (t + 1), ou, yu, rm, mk, sc, mc, rs, rn, pc, wc, op, nd, ab, st, rv, cp, cc, cs, gs, gn, upd du t (nI (i + 1)), ls, ln, upd dp t (nI (d + 1)), upd ss (6 * t + d) 0, upd sn (6 * t + d) 0, cl, fs, fn, wt, mt, pl) := by
  rw [wpX_workOne, mr_bf (by decide), mr_bf (by decide), mr_bf (by decide), mr_bf (by decide), mr_bf (by decide), mr_bf (by decide), mr_bt (by decide), mx_79 ht (by decide) (by decide) (Or.inr ⟨by decide, rfl⟩), mx_176 ht, wpX_moveValues, mr_bf (by decide), mr_bt (by decide), mx_push ht hd hdp mr_S0]
theorem mx_w3 (ht : t < 10) (hd : d < 6) (hdp : dp t = nI d) {k : Nat} (hk : k < 4) (hs : mr_S (ls (4 * t + k))) : wpX_workOne post (pr, lv, nI (t + 1), ou, yu, rm, mk, sc, mc, rs, rn, pc, wc, op, nd, ab, st, rv, cp, cc, cs, gs, gn, du, ls, ln, dp, ss, sn, cl, fs, fn, wt, mt, pl) (nI i) 3 (nI k) ↔ post (-1) (pr, lv, nI (t + 1), ou, yu, rm, mk, sc, mc, rs, rn, pc, wc, op, nd, ab, st, rv, cp, cc, cs, gs, gn, upd du t (nI (i + 1)), ls, ln, upd dp t (nI (d + 1)), upd ss (6 * t + d) (ls (4 * t + k)), upd sn (6 * t + d) (ln (4 * t + k)), cl, fs, fn, wt, mt, pl) := by
  rw [wpX_workOne, mr_bf (by decide), mr_bf (by decide), mr_bf (by decide), mr_bf (by decide), mr_bf (by decide), mr_bf (by decide), mr_bt (by decide), mx_79 ht (by decide) (by decide) (Or.inr ⟨by decide, rfl⟩), mx_176 ht, wpX_moveValues, mr_bf (by decide), mr_bf (by decide), mr_bt (by decide), mx_pushLocal ht hd hdp hk hs]
theorem mx_w21 (ht : t < 10) (hd : d < 6) (hdp : dp t = nI d) {k : Nat} (hk : k < 4) (hs : mr_S (gs k)) : wpX_workOne post (pr, lv, nI (t + 1), ou, yu, rm, mk, sc, mc, rs, rn, pc, wc, op, nd, ab, st, rv, cp, cc, cs, gs, gn, du, ls, ln, dp, ss, sn, cl, fs, fn, wt, mt, pl) (nI i) 21 (nI k) ↔ post (-1) (pr, lv, nI (t + 1), ou, yu, rm, mk, sc, mc, rs, rn, pc, wc, op, nd, ab, st, rv, cp, cc, cs, gs, gn, upd du t (nI (i + 1)), ls, ln, upd dp t (nI (d + 1)), upd ss (6 * t + d) (gs k), upd sn (6 * t + d) (gn k), cl, fs, fn, wt, mt, pl) := by
  have i1 : vp_in (nI k) 4 := vp_in_nI hk (by decide)
  rw [wpX_workOne, mr_bf (by decide), mr_bf (by decide), mr_bf (by decide), mr_bf (by decide), mr_bf (by decide), mr_bf (by decide), mr_bf (by decide), mr_bt (by decide), mx_79 ht (by decide) (by decide) (Or.inr ⟨by decide, rfl⟩), mx_176 ht, wpX_moveValues, mr_bf (by decide), mr_bf (by decide), mr_bf (by decide), mr_bt (by decide), nI_clamp (n := k) (by omega), and_iff_right i1, and_iff_right i1, mx_push ht hd hdp hs]
theorem mx_pushAgain {post : SX → Prop} (ht : t < 10) (hd : d < 6) (hk : 1 ≤ d) (hdp : dp t = nI d) (hs : mr_S (ss (6 * t + (d - 1)))) : wpX_pushAgain post (pr, lv, nI (t + 1), ou, yu, rm, mk, sc, mc, rs, rn, pc, wc, op, nd, ab, st, rv, cp, cc, cs, gs, gn, du, ls, ln, dp, ss, sn, cl, fs, fn, wt, mt, pl) ↔ post (pr, lv, nI (t + 1), ou, yu, rm, mk, sc, mc, rs, rn, pc, wc, op, nd, ab, st, rv, cp, cc, cs, gs, gn, du, ls, ln, upd dp t (nI (d + 1)), upd ss (6 * t + d) (ss (6 * t + (d - 1))), upd sn (6 * t + d) (sn (6 * t + (d - 1))), cl, fs, fn, wt, mt, pl) := by
  have i1 : vp_in (nI (6 * t + (d - 1))) 60 := vp_in_nI (by omega) (by decide)
  rw [wpX_pushAgain, mx_fromTop0 ht (by omega) hk hdp, nI_clamp (n := 6 * t + (d - 1)) (by omega), and_iff_right i1, and_iff_right i1, mx_push ht hd hdp hs]
theorem mx_swap {post : SX → Prop} (ht : t < 10) (hd : d ≤ 6) (hk : 2 ≤ d) (hdp : dp t = nI d) (hs : mr_S (ss (6 * t + (d - 1)))) (hs' : mr_S (ss (6 * t + (d - 2)))) : wpX_swap post (pr, lv, nI (t + 1), ou, yu, rm, mk, sc, mc, rs, rn, pc, wc, op, nd, ab, st, rv, cp, cc, cs, gs, gn, du, ls, ln, dp, ss, sn, cl, fs, fn, wt, mt, pl) ↔ post (pr, lv, nI (t + 1), ou, yu, rm, mk, sc, mc, rs, rn, pc, wc, op, nd, ab, st, rv, cp, cc, cs, gs, gn, du, ls, ln, dp, upd (upd ss (6 * t + (d - 1)) (ss (6 * t + (d - 2)))) (6 * t + (d - 2)) (ss (6 * t + (d - 1))), upd (upd sn (6 * t + (d - 1)) (sn (6 * t + (d - 2)))) (6 * t + (d - 2)) (sn (6 * t + (d - 1))), cl, fs, fn, wt, mt, pl) := by
  have i1 : vp_in (nI (6 * t + (d - 1))) 60 := vp_in_nI (by omega) (by decide)
  have i2 : vp_in (nI (6 * t + (d - 2))) 60 := vp_in_nI (by omega) (by decide)
  have c1 : (nI (6 * t + (d - 1))).toNatClampNeg = 6 * t + (d - 1) := nI_clamp (by omega)
  have c2 : (nI (6 * t + (d - 2))).toNatClampNeg = 6 * t + (d - 2) := nI_clamp (by omega)
  simp only [wpX_swap, mx_fromTop0 ht hd (by omega : 1 ≤ d) hdp, mx_fromTop1 ht hd hk hdp, c1, c2, i1, i2, true_and, forall_eq, mr_S_nar hs, mr_S_nar hs']
theorem mx_w6 (ht : t < 10) (hd : d < 6) (hk : 1 ≤ d) (hdp : dp t = nI d) (hs : mr_S (ss (6 * t + (d - 1)))) : wpX_workOne post (pr, lv, nI (t + 1), ou, yu, rm, mk, sc, mc, rs, rn, pc, wc, op, nd, ab, st, rv, cp, cc, cs, gs, gn, du, ls, ln, dp, ss, sn, cl, fs, fn, wt, mt, pl) (nI i) 6 n ↔ post (-1) (pr, lv, nI (t + 1), ou, yu, rm, mk, sc, mc, rs, rn, pc, wc, op, nd, ab, st, rv, cp, cc, cs, gs, gn, upd du t (nI (i + 1)), ls, ln, upd dp t (nI (d + 1)), upd ss (6 * t + d) (ss (6 * t + (d - 1))), upd sn (6 * t + d) (sn (6 * t + (d - 1))), cl, fs, fn, wt, mt, pl) := by
  rw [wpX_workOne, mr_bf (by decide), mr_bf (by decide), mr_bf (by decide), mr_bf (by decide), mr_bf (by decide), mr_bf (by decide), mr_bt (by decide), mx_79 ht (by decide) (by decide) (Or.inr ⟨by decide, rfl⟩), mx_176 ht, wpX_moveValues, mr_bf (by decide), mr_bf (by decide), mr_bf (by decide), mr_bf (by decide), mr_bt (by decide), mx_pushAgain ht hd hk hdp hs]
theorem mx_w7 (ht : t < 10) (hd : d ≤ 6) (hk : 2 ≤ d) (hdp : dp t = nI d) (hs : mr_S (ss (6 * t + (d - 1)))) (hs' : mr_S (ss (6 * t + (d - 2)))) : wpX_workOne post (pr, lv, nI (t + 1), ou, yu, rm, mk, sc, mc, rs, rn, pc, wc, op, nd, ab, st, rv, cp, cc, cs, gs, gn, du, ls, ln, dp, ss, sn, cl, fs, fn, wt, mt, pl) (nI i) 7 n ↔ post (-1) (pr, lv, nI (t + 1), ou, yu, rm, mk, sc, mc, rs, rn, pc, wc, op, nd, ab, st, rv, cp, cc, cs, gs, gn, upd du t (nI (i + 1)), ls, ln, dp, upd (upd ss (6 * t + (d - 1)) (ss (6 * t + (d - 2)))) (6 * t + (d - 2)) (ss (6 * t + (d - 1))), upd (upd sn (6 * t + (d - 1)) (sn (6 * t + (d - 2)))) (6 * t + (d - 2)) (sn (6 * t + (d - 1))), cl, fs, fn, wt, mt, pl) := by
  rw [wpX_workOne, mr_bf (by decide), mr_bf (by decide), mr_bf (by decide), mr_bf (by decide), mr_bf (by decide), mr_bf (by decide), mr_bt (by decide), mx_79 ht (by decide) (by decide) (Or.inr ⟨by decide, rfl⟩), mx_176 ht, wpX_moveValues, mr_bf (by decide), mr_bf (by decide), mr_bf (by decide), mr_bf (by decide), mr_bf (by decide), mr_bt (by decide), mx_swap ht hd hk hdp hs hs']
/-- drop k, then push -/
theorem mx_dp1 {post : SX → Prop} {s x : Int32} (ht : t < 10) (hd : d ≤ 6) (hk : 1 ≤ d) (hs : mr_S s) : wpX_push post (pr, lv, nI (t + 1), ou, yu, rm, mk, sc, mc, rs, rn, pc, wc, op, nd, ab, st, rv, cp, cc, cs, gs, gn, du, ls, ln, upd dp t (nI (d - 1)), ss, sn, cl, fs, fn, wt, mt, pl) s x ↔ post (pr, lv, nI (t + 1), ou, yu, rm, mk, sc, mc, rs, rn, pc, wc, op, nd, ab, st, rv, cp, cc, cs, gs, gn, du, ls, ln, upd dp t (nI d), upd ss (6 * t + (d - 1)) s, upd sn (6 * t + (d - 1)) x, cl, fs, fn, wt, mt, pl) := by
  rw [mx_push (d := d - 1) ht (by omega) pk_us hs]
  try dsimp only
  rw [mr_uu, Nat.sub_add_cancel hk]
theorem mx_dp2 {post : SX → Prop} {s x : Int32} (ht : t < 10) (hd : d ≤ 6) (hk : 2 ≤ d) (hs : mr_S s) : wpX_push post (pr, lv, nI (t + 1), ou, yu, rm, mk, sc, mc, rs, rn, pc, wc, op, nd, ab, st, rv, cp, cc, cs, gs, gn, du, ls, ln, upd dp t (nI (d - 2)), ss, sn, cl, fs, fn, wt, mt, pl) s x ↔ post (pr, lv, nI (t + 1), ou, yu, rm, mk, sc, mc, rs, rn, pc, wc, op, nd, ab, st, rv, cp, cc, cs, gs, gn, du, ls, ln, upd dp t (nI (d - 1)), upd ss (6 * t + (d - 2)) s, upd sn (6 * t + (d - 2)) x, cl, fs, fn, wt, mt, pl) := by
  have e : d - 2 + 1 = d - 1 := by omega
  rw [mx_push (d := d - 2) ht (by omega) pk_us hs]
  try dsimp only
  rw [mr_uu, e]
theorem mx_compare1 {post : SX → Prop} (ht : t < 10) (hd : d ≤ 6) (hk : 2 ≤ d) (hdp : dp t = nI d) (h1 : ss (6 * t + (d - 1)) = ss (6 * t + (d - 2))) (h2 : sn (6 * t + (d - 1)) = sn (6 * t + (d - 2))) : wpX_compare post (pr, lv, nI (t + 1), ou, yu, rm, mk, sc, mc, rs, rn, pc, wc, op, nd, ab, st, rv, cp, cc, cs, gs, gn, du, ls, ln, dp, ss, sn, cl, fs, fn, wt, mt, pl) ↔ post (pr, lv, nI (t + 1), ou, yu, rm, mk, sc, mc, rs, rn, pc, wc, op, nd, ab, st, rv, cp, cc, cs, gs, gn, du, ls, ln, upd dp t (nI (d - 1)), upd ss (6 * t + (d - 2)) 1, upd sn (6 * t + (d - 2)) 1, cl, fs, fn, wt, mt, pl) := by
  rw [wpX_compare, mx_sortAt0 ht hd (by omega) hdp, mx_sortAt1 ht hd hk hdp, mr_bt h1, mx_numberAt0 ht hd (by omega) hdp, mx_numberAt1 ht hd hk hdp, mr_bt h2, wX_compare_31, mx_drop2 ht hd hk hdp]
  try dsimp only
  rw [mr_bf (by decide), wX_compare_48, mx_dp2 ht hd hk mr_S1]
theorem mx_compare0 {post : SX → Prop} (ht : t < 10) (hd : d ≤ 6) (hk : 2 ≤ d) (hdp : dp t = nI d) (h : ¬ (ss (6 * t + (d - 1)) = ss (6 * t + (d - 2)) ∧ sn (6 * t + (d - 1)) = sn (6 * t + (d - 2)))) : wpX_compare post (pr, lv, nI (t + 1), ou, yu, rm, mk, sc, mc, rs, rn, pc, wc, op, nd, ab, st, rv, cp, cc, cs, gs, gn, du, ls, ln, dp, ss, sn, cl, fs, fn, wt, mt, pl) ↔ post (pr, lv, nI (t + 1), ou, yu, rm, mk, sc, mc, rs, rn, pc, wc, op, nd, ab, st, rv, cp, cc, cs, gs, gn, du, ls, ln, upd dp t (nI (d - 1)), upd ss (6 * t + (d - 2)) 1, upd sn (6 * t + (d - 2)) 0, cl, fs, fn, wt, mt, pl) := by
  have e : wX_compare_30 post pr lv (nI (t + 1)) ou yu rm mk sc mc rs rn pc wc op nd ab st rv cp cc cs gs gn du ls ln dp ss sn cl fs fn wt mt pl ↔ post (pr, lv, nI (t + 1), ou, yu, rm, mk, sc, mc, rs, rn, pc, wc, op, nd, ab, st, rv, cp, cc, cs, gs, gn, du, ls, ln, upd dp t (nI (d - 1)), upd ss (6 * t + (d - 2)) 1, upd sn (6 * t + (d - 2)) 0, cl, fs, fn, wt, mt, pl) := by
    rw [wX_compare_30, wX_compare_31, mx_drop2 ht hd hk hdp]
    try dsimp only
    rw [mr_bt (by decide), wX_compare_48, mx_dp2 ht hd hk mr_S1]
  rw [wpX_compare, mx_sortAt0 ht hd (by omega) hdp, mx_sortAt1 ht hd hk hdp]
  by_cases h1 : ss (6 * t + (d - 1)) = ss (6 * t + (d - 2))
  · rw [mr_bt h1, mx_numberAt0 ht hd (by omega) hdp, mx_numberAt1 ht hd hk hdp, mr_bf (fun h2 => h ⟨h1, h2⟩), e]
  · rw [mr_bf h1, e]
theorem mx_w12t (ht : t < 10) (hd : d ≤ 6) (hk : 2 ≤ d) (hdp : dp t = nI d) (h1 : ss (6 * t + (d - 1)) = ss (6 * t + (d - 2))) (h2 : sn (6 * t + (d - 1)) = sn (6 * t + (d - 2))) : wpX_workOne post (pr, lv, nI (t + 1), ou, yu, rm, mk, sc, mc, rs, rn, pc, wc, op, nd, ab, st, rv, cp, cc, cs, gs, gn, du, ls, ln, dp, ss, sn, cl, fs, fn, wt, mt, pl) (nI i) 12 n ↔ post (-1) (pr, lv, nI (t + 1), ou, yu, rm, mk, sc, mc, rs, rn, pc, wc, op, nd, ab, st, rv, cp, cc, cs, gs, gn, upd du t (nI (i + 1)), ls, ln, upd dp t (nI (d - 1)), upd ss (6 * t + (d - 2)) 1, upd sn (6 * t + (d - 2)) 1, cl, fs, fn, wt, mt, pl) := by
  rw [wpX_workOne, mr_bf (by decide), mr_bf (by decide), mr_bf (by decide), mr_bf (by decide), mr_bf (by decide), mr_bf (by decide), mr_bf (by decide), mr_bt (by decide), mx_79 ht (by decide) (by decide) (Or.inr ⟨by decide, rfl⟩), mx_176 ht, wpX_moveValues, mr_bf (by decide), mr_bf (by decide), mr_bf (by decide), mr_bf (by decide), mr_bf (by decide), mr_bf (by decide), mr_bt (by decide), mx_compare1 ht hd hk hdp h1 h2]
theorem mx_w12f (ht : t < 10) (hd : d ≤ 6) (hk : 2 ≤ d) (hdp : dp t = nI d) (h : ¬ (ss (6 * t + (d - 1)) = ss (6 * t + (d - 2)) ∧ sn (6 * t + (d - 1)) = sn (6 * t + (d - 2)))) : wpX_workOne post (pr, lv, nI (t + 1), ou, yu, rm, mk, sc, mc, rs, rn, pc, wc, op, nd, ab, st, rv, cp, cc, cs, gs, gn, du, ls, ln, dp, ss, sn, cl, fs, fn, wt, mt, pl) (nI i) 12 n ↔ post (-1) (pr, lv, nI (t + 1), ou, yu, rm, mk, sc, mc, rs, rn, pc, wc, op, nd, ab, st, rv, cp, cc, cs, gs, gn, upd du t (nI (i + 1)), ls, ln, upd dp t (nI (d - 1)), upd ss (6 * t + (d - 2)) 1, upd sn (6 * t + (d - 2)) 0, cl, fs, fn, wt, mt, pl) := by
  rw [wpX_workOne, mr_bf (by decide), mr_bf (by decide), mr_bf (by decide), mr_bf (by decide), mr_bf (by decide), mr_bf (by decide), mr_bf (by decide), mr_bt (by decide), mx_79 ht (by decide) (by decide) (Or.inr ⟨by decide, rfl⟩), mx_176 ht, wpX_moveValues, mr_bf (by decide), mr_bf (by decide), mr_bf (by decide), mr_bf (by decide), mr_bf (by decide), mr_bf (by decide), mr_bt (by decide), mx_compare0 ht hd hk hdp h]
theorem mx_ask_48 {post : SX → Prop} {r : Int32} (hr : r = 0 ∨ r = 1) (ht : t < 10) (hd : d ≤ 6) (hk : 1 ≤ d) (hdp : dp t = nI d) : wX_ask_48 post r pr lv (nI (t + 1)) ou yu rm mk sc mc rs rn pc wc op nd ab st rv cp cc cs gs gn du ls ln dp ss sn cl fs fn wt mt pl ↔ post (pr, lv, nI (t + 1), ou, yu, rm, mk, sc, mc, rs, rn, pc, wc, op, nd, ab, st, rv, cp, cc, cs, gs, gn, du, ls, ln, upd dp t (nI d), upd ss (6 * t + (d - 1)) 1, upd sn (6 * t + (d - 1)) r, cl, fs, fn, wt, mt, pl) := by
  rcases hr with rfl | rfl
  · rw [wX_ask_48, mx_drop1 ht hd hk hdp]
    try dsimp only
    rw [mr_bt (by decide), wX_ask_64, mx_dp1 ht hd hk mr_S1]
  · rw [wX_ask_48, mx_drop1 ht hd hk hdp]
    try dsimp only
    rw [mr_bf (by decide), wX_ask_64, mx_dp1 ht hd hk mr_S1]
theorem mx_ask0 {post : SX → Prop} (ht : t < 10) (hd : d ≤ 6) (hk : 1 ≤ d) (hdp : dp t = nI d) (h : ¬ ss (6 * t + (d - 1)) = 2) : wpX_ask post (pr, lv, nI (t + 1), ou, yu, rm, mk, sc, mc, rs, rn, pc, wc, op, nd, ab, st, rv, cp, cc, cs, gs, gn, du, ls, ln, dp, ss, sn, cl, fs, fn, wt, mt, pl) n ↔ post (pr, lv, nI (t + 1), ou, yu, rm, mk, sc, mc, rs, rn, pc, wc, op, nd, ab, st, rv, cp, cc, cs, gs, gn, du, ls, ln, upd dp t (nI d), upd ss (6 * t + (d - 1)) 1, upd sn (6 * t + (d - 1)) 0, cl, fs, fn, wt, mt, pl) := by
  rw [wpX_ask, mx_sortAt0 ht hd hk hdp, mr_bf h, mx_ask_48 (Or.inl rfl) ht hd hk hdp]
theorem mx_ask1 {post : SX → Prop} {a c k : Nat} {r : Int32} (ht : t < 10) (hd : d ≤ 6) (hk : 1 ≤ d) (hdp : dp t = nI d) (h : ss (6 * t + (d - 1)) = 2) (hn : sn (6 * t + (d - 1)) = nI a) (ha : a < 32) (hc : c < 4) (hcl : cl a = nI c) (hr : r = 0 ∨ r = 1) (hx : ∀ (post : SX → Prop) n, c < n → wX_ask_47 post r pr lv (nI (t + 1)) ou yu rm mk sc mc rs rn pc wc op nd ab st rv cp cc cs gs gn du ls ln dp ss sn cl fs fn wt mt pl → wX_ask_22 post (nI k) pr lv (nI (t + 1)) ou yu rm mk sc mc rs rn pc wc op nd ab st rv cp cc cs gs gn du ls ln dp ss sn cl fs fn wt mt pl (n + 1) (nI c)) (p : post (pr, lv, nI (t + 1), ou, yu, rm, mk, sc, mc, rs, rn, pc, wc, op, nd, ab, st, rv, cp, cc, cs, gs, gn, du, ls, ln, upd dp t (nI d), upd ss (6 * t + (d - 1)) 1, upd sn (6 * t + (d - 1)) r, cl, fs, fn, wt, mt, pl)) : wpX_ask post (pr, lv, nI (t + 1), ou, yu, rm, mk, sc, mc, rs, rn, pc, wc, op, nd, ab, st, rv, cp, cc, cs, gs, gn, du, ls, ln, dp, ss, sn, cl, fs, fn, wt, mt, pl) (nI k) := by
  rw [wpX_ask, mx_sortAt0 ht hd hk hdp, mr_bt h, mx_numberAt0 ht hd hk hdp, hn, nI_clamp (n := a) (by omega), hcl]
  refine ⟨vp_in_nI ha (by decide), nm_e ⟨5, hx post 4 (by omega) ?_⟩⟩
  rw [wX_ask_47, mx_ask_48 hr ht hd hk hdp]
  exact p
theorem mx_w18a (ht : t < 10) : wpX_workOne post (pr, lv, nI (t + 1), ou, yu, rm, mk, sc, mc, rs, rn, pc, wc, op, nd, ab, st, rv, cp, cc, cs, gs, gn, du, ls, ln, dp, ss, sn, cl, fs, fn, wt, mt, pl) (nI i) 18 n ↔ wpX_ask (fun u => post (-1) u) (pr, lv, nI (t + 1), ou, yu, rm, mk, sc, mc, rs, rn, pc, wc, op, nd, ab, st, rv, cp, cc, cs, gs, gn, upd du t (nI (i + 1)), ls, ln, dp, ss, sn, cl, fs, fn, wt, mt, pl) n := by
  rw [wpX_workOne, mr_bf (by decide), mr_bf (by decide), mr_bf (by decide), mr_bf (by decide), mr_bf (by decide), mr_bf (by decide), mr_bf (by decide), mr_bt (by decide), mx_79 ht (by decide) (by decide) (Or.inr ⟨by decide, rfl⟩), mx_176 ht, wpX_moveValues, mr_bf (by decide), mr_bf (by decide), mr_bf (by decide), mr_bf (by decide), mr_bf (by decide), mr_bf (by decide), mr_bf (by decide), mr_bt (by decide)]
theorem mx_take {post : SX → Prop} {o : Int32} (ht : t < 10) (hd : d ≤ 6) (hk : 1 ≤ d) (hdp : dp t = nI d) (h1 : ¬ o = 4) (h2 : ¬ o = 22) : wpX_take post (pr, lv, nI (t + 1), ou, yu, rm, mk, sc, mc, rs, rn, pc, wc, op, nd, ab, st, rv, cp, cc, cs, gs, gn, du, ls, ln, dp, ss, sn, cl, fs, fn, wt, mt, pl) o n ↔ post (pr, lv, nI (t + 1), ou, yu, rm, mk, sc, mc, rs, rn, pc, wc, op, nd, ab, st, rv, cp, cc, cs, gs, gn, du, ls, ln, upd dp t (nI (d - 1)), ss, sn, cl, fs, fn, wt, mt, pl) := by
  rw [wpX_take, mx_sortAt0 ht hd hk hdp, mx_numberAt0 ht hd hk hdp, mx_drop1 ht hd hk hdp]
  try dsimp only
  rw [mr_bf h1, wX_take_31, mr_bf h2]
theorem mx_take4 {post : SX → Prop} {k : Nat} (ht : t < 10) (hd : d ≤ 6) (hk : 1 ≤ d) (hdp : dp t = nI d) (h4 : k < 4) (hs : mr_S (ss (6 * t + (d - 1)))) : wpX_take post (pr, lv, nI (t + 1), ou, yu, rm, mk, sc, mc, rs, rn, pc, wc, op, nd, ab, st, rv, cp, cc, cs, gs, gn, du, ls, ln, dp, ss, sn, cl, fs, fn, wt, mt, pl) 4 (nI k) ↔ post (pr, lv, nI (t + 1), ou, yu, rm, mk, sc, mc, rs, rn, pc, wc, op, nd, ab, st, rv, cp, cc, cs, gs, gn, du, upd ls (4 * t + k) (ss (6 * t + (d - 1))), upd ln (4 * t + k) (sn (6 * t + (d - 1))), upd dp t (nI (d - 1)), ss, sn, cl, fs, fn, wt, mt, pl) := by
  rw [wpX_take, mx_sortAt0 ht hd hk hdp, mx_numberAt0 ht hd hk hdp, mx_drop1 ht hd hk hdp]
  try dsimp only
  rw [mr_bt (by decide), mx_setLocal ht h4 hs]
  try dsimp only
  rw [wX_take_31, mr_bf (by decide)]
theorem mx_take22 {post : SX → Prop} {k : Nat} (ht : t < 10) (hd : d ≤ 6) (hk : 1 ≤ d) (hdp : dp t = nI d) (h4 : k < 4) (hs : mr_S (ss (6 * t + (d - 1)))) : wpX_take post (pr, lv, nI (t + 1), ou, yu, rm, mk, sc, mc, rs, rn, pc, wc, op, nd, ab, st, rv, cp, cc, cs, gs, gn, du, ls, ln, dp, ss, sn, cl, fs, fn, wt, mt, pl) 22 (nI k) ↔ post (pr, lv, nI (t + 1), ou, yu, rm, mk, sc, mc, rs, rn, pc, wc, op, nd, ab, st, rv, cp, cc, cs, upd gs k (ss (6 * t + (d - 1))), upd gn k (sn (6 * t + (d - 1))), du, ls, ln, upd dp t (nI (d - 1)), ss, sn, cl, fs, fn, wt, mt, pl) := by
  have i1 : vp_in (nI k) 4 := vp_in_nI h4 (by decide)
  have c1 : (nI k).toNatClampNeg = k := nI_clamp (by omega)
  rw [wpX_take, mx_sortAt0 ht hd hk hdp, mx_numberAt0 ht hd hk hdp, mx_drop1 ht hd hk hdp]
  try dsimp only
  rw [mr_bf (by decide), wX_take_31, mr_bt (by decide)]
  simp only [c1, i1, true_and, forall_eq, mr_S_cast hs]
theorem mx_w4 (ht : t < 10) (hd : d ≤ 6) (hk : 1 ≤ d) (hdp : dp t = nI d) {k : Nat} (h4 : k < 4) (hs : mr_S (ss (6 * t + (d - 1)))) : wpX_workOne post (pr, lv, nI (t + 1), ou, yu, rm, mk, sc, mc, rs, rn, pc, wc, op, nd, ab, st, rv, cp, cc, cs, gs, gn, du, ls, ln, dp, ss, sn, cl, fs, fn, wt, mt, pl) (nI i) 4 (nI k) ↔ post (-1) (pr, lv, nI (t + 1), ou, yu, rm, mk, sc, mc, rs, rn, pc, wc, op, nd, ab, st, rv, cp, cc, cs, gs, gn, upd du t (nI (i + 1)), upd ls (4 * t + k) (ss (6 * t + (d - 1))), upd ln (4 * t + k) (sn (6 * t + (d - 1))), upd dp t (nI (d - 1)), ss, sn, cl, fs, fn, wt, mt, pl) := by
  rw [wpX_workOne, mr_bf (by decide), mr_bf (by decide), mr_bf (by decide), mr_bf (by decide), mr_bf (by decide), mr_bf (by decide), mr_bt (by decide), mx_79 ht (by decide) (by decide) (Or.inr ⟨by decide, rfl⟩), mx_176 ht, wpX_moveValues, mr_bf (by decide), mr_bf (by decide), mr_bf (by decide), mr_bf (by decide), mr_bf (by decide), mr_bf (by decide), mr_bf (by decide), mr_bf (by decide), mr_bt (by decide), wX_moveValues_135, mx_take4 ht hd hk hdp h4 hs]
theorem mx_w22 (ht : t < 10) (hd : d ≤ 6) (hk : 1 ≤ d) (hdp : dp t = nI d) {k : Nat} (h4 : k < 4) (hs : mr_S (ss (6 * t + (d - 1)))) : wpX_workOne post (pr, lv, nI (t + 1), ou, yu, rm, mk, sc, mc, rs, rn, pc, wc, op, nd, ab, st, rv, cp, cc, cs, gs, gn, du, ls, ln, dp, ss, sn, cl, fs, fn, wt, mt, pl) (nI i) 22 (nI k) ↔ post (-1) (pr, lv, nI (t + 1), ou, yu, rm, mk, sc, mc, rs, rn, pc, wc, op, nd, ab, st, rv, cp, cc, cs, upd gs k (ss (6 * t + (d - 1))), upd gn k (sn (6 * t + (d - 1))), upd du t (nI (i + 1)), ls, ln, upd dp t (nI (d - 1)), ss, sn, cl, fs, fn, wt, mt, pl) := by
  rw [wpX_workOne, mr_bf (by decide), mr_bf (by decide), mr_bf (by decide), mr_bf (by decide), mr_bf (by decide), mr_bf (by decide), mr_bf (by decide), mr_bt (by decide), mx_79 ht (by decide) (by decide) (Or.inr ⟨by decide, rfl⟩), mx_176 ht, wpX_moveValues, mr_bf (by decide), mr_bf (by decide), mr_bf (by decide), mr_bf (by decide), mr_bf (by decide), mr_bf (by decide), mr_bf (by decide), mr_bf (by decide), mr_bf (by decide), mr_bt (by decide), wX_moveValues_135, mx_take22 ht hd hk hdp h4 hs]
theorem mx_w5 (ht : t < 10) (hd : d ≤ 6) (hk : 1 ≤ d) (hdp : dp t = nI d) : wpX_workOne post (pr, lv, nI (t + 1), ou, yu, rm, mk, sc, mc, rs, rn, pc, wc, op, nd, ab, st, rv, cp, cc, cs, gs, gn, du, ls, ln, dp, ss, sn, cl, fs, fn, wt, mt, pl) (nI i) 5 n ↔ post (-1) (pr, lv, nI (t + 1), ou, yu, rm, mk, sc, mc, rs, rn, pc, wc, op, nd, ab, st, rv, cp, cc, cs, gs, gn, upd du t (nI (i + 1)), ls, ln, upd dp t (nI (d - 1)), ss, sn, cl, fs, fn, wt, mt, pl) := by
  rw [wpX_workOne, mr_bf (by decide), mr_bf (by decide), mr_bf (by decide), mr_bf (by decide), mr_bf (by decide), mr_bf (by decide), mr_bt (by decide), mx_79 ht (by decide) (by decide) (Or.inr ⟨by decide, rfl⟩), mx_176 ht, wpX_moveValues, mr_bf (by decide), mr_bf (by decide), mr_bf (by decide), mr_bf (by decide), mr_bf (by decide), mr_bf (by decide), mr_bf (by decide), mr_bf (by decide), mr_bf (by decide), mr_bf (by decide), mr_bt (by decide), wX_moveValues_135, mx_take ht hd hk hdp (by decide) (by decide)]
theorem mx_w13 (ht : t < 10) : wpX_workOne post (pr, lv, nI (t + 1), ou, yu, rm, mk, sc, mc, rs, rn, pc, wc, op, nd, ab, st, rv, cp, cc, cs, gs, gn, du, ls, ln, dp, ss, sn, cl, fs, fn, wt, mt, pl) (nI i) 13 n ↔ post (-1) (pr, lv, nI (t + 1), ou, yu, rm, mk, sc, mc, rs, rn, pc, wc, op, nd, ab, st, rv, cp, cc, cs, gs, gn, upd du t n, ls, ln, dp, ss, sn, cl, fs, fn, wt, mt, pl) := by
  rw [wpX_workOne, mr_bf (by decide), mr_bf (by decide), mr_bf (by decide), mr_bf (by decide), mr_bf (by decide), mr_bf (by decide), mr_bf (by decide), mr_bt (by decide), mx_79 ht (by decide) (by decide) (Or.inl ⟨rfl, rfl⟩), mx_176 ht, wpX_moveValues, mr_bf (by decide), mr_bf (by decide), mr_bf (by decide), mr_bf (by decide), mr_bf (by decide), mr_bf (by decide), mr_bf (by decide), mr_bf (by decide), mr_bf (by decide), mr_bf (by decide), mr_bf (by decide)]
theorem mx_w0  : wpX_workOne post (pr, lv, nI (t + 1), ou, yu, rm, mk, sc, mc, rs, rn, pc, wc, op, nd, ab, st, rv, cp, cc, cs, gs, gn, du, ls, ln, dp, ss, sn, cl, fs, fn, wt, mt, pl) (nI i) 0 n ↔ post 0 (pr, lv, nI (t + 1), ou, yu, rm, mk, sc, mc, rs, rn, pc, wc, op, nd, ab, st, rv, cp, cc, cs, gs, gn, du, ls, ln, dp, ss, sn, cl, fs, fn, wt, mt, pl) := by
  rw [wpX_workOne, mr_bf (by decide), mr_bf (by decide), mr_bf (by decide), mr_bf (by decide), mr_bf (by decide), mr_bt (by decide)]
theorem mx_combine_78 {z : Int32} (ht : t < 10) (hd : d ≤ 6) (hk : 2 ≤ d) (hdp : dp t = nI d) (hi : du t = nI i) : wX_combine_78 post z pr lv (nI (t + 1)) ou yu rm mk sc mc rs rn pc wc op nd ab st rv cp cc cs gs gn du ls ln dp ss sn cl fs fn wt mt pl ↔ post (-1) (pr, lv, nI (t + 1), ou, yu, rm, mk, sc, mc, rs, rn, pc, wc, op, nd, ab, st, rv, cp, cc, cs, gs, gn, upd du t (nI (i + 1)), ls, ln, upd dp t (nI (d - 1)), upd ss (6 * t + (d - 2)) 1, upd sn (6 * t + (d - 2)) z, cl, fs, fn, wt, mt, pl) := by
  have e2 : (nI t).toNatClampNeg = t := nI_clamp (by omega)
  have i1 : vp_in (nI t) 10 := vp_in_nI ht (by decide)
  rw [wX_combine_78, mx_drop2 ht hd hk hdp]
  try dsimp only
  rw [mx_dp2 ht hd hk mr_S1]
  try dsimp only
  rw [mx_top]
  simp only [e2, i1, true_and, forall_eq, hi, nI_1]
theorem mx_combine {o z : Int32} (ht : t < 10) (hd : d ≤ 6) (hk : 2 ≤ d) (hdp : dp t = nI d) (hi : du t = nI i) (h0 : ss (6 * t + (d - 1)) = 1) (h1 : ss (6 * t + (d - 2)) = 1)
    (hz : (o = 8 ∧ z = sn (6 * t + (d - 2)) + sn (6 * t + (d - 1))) ∨ (o = 9 ∧ z = sn (6 * t + (d - 2)) - sn (6 * t + (d - 1))) ∨ (o = 10 ∧ z = sn (6 * t + (d - 2)) * sn (6 * t + (d - 1))) ∨ (o = 11 ∧ ((sn (6 * t + (d - 1)) ≤ sn (6 * t + (d - 2)) ∧ z = 0) ∨ (¬ sn (6 * t + (d - 1)) ≤ sn (6 * t + (d - 2)) ∧ z = 1)))) :
    wpX_combine post (pr, lv, nI (t + 1), ou, yu, rm, mk, sc, mc, rs, rn, pc, wc, op, nd, ab, st, rv, cp, cc, cs, gs, gn, du, ls, ln, dp, ss, sn, cl, fs, fn, wt, mt, pl) o ↔ post (-1) (pr, lv, nI (t + 1), ou, yu, rm, mk, sc, mc, rs, rn, pc, wc, op, nd, ab, st, rv, cp, cc, cs, gs, gn, upd du t (nI (i + 1)), ls, ln, upd dp t (nI (d - 1)), upd ss (6 * t + (d - 2)) 1, upd sn (6 * t + (d - 2)) z, cl, fs, fn, wt, mt, pl) := by
  rw [wpX_combine, mx_sortAt0 ht hd (by omega) hdp, mr_bt h0, mx_sortAt1 ht hd hk hdp, mr_bt h1, mx_numberAt1 ht hd hk hdp, mx_numberAt0 ht hd (by omega) hdp]
  rcases hz with ⟨rfl, rfl⟩ | ⟨rfl, rfl⟩ | ⟨rfl, rfl⟩ | ⟨rfl, ⟨e, rfl⟩ | ⟨e, rfl⟩⟩
  · rw [mr_bt (by decide), mx_combine_78 ht hd hk hdp hi]
  · rw [mr_bf (by decide), mr_bt (by decide), mx_combine_78 ht hd hk hdp hi]
  · rw [mr_bf (by decide), mr_bf (by decide), mr_bt (by decide), mx_combine_78 ht hd hk hdp hi]
  · rw [mr_bf (by decide), mr_bf (by decide), mr_bf (by decide), mr_bt e, mx_combine_78 ht hd hk hdp hi]
  · rw [mr_bf (by decide), mr_bf (by decide), mr_bf (by decide), mr_bf e, mx_combine_78 ht hd hk hdp hi]
theorem mx_combine_s {o : Int32} (ht : t < 10) (hd : d ≤ 6) (hk : 2 ≤ d) (hdp : dp t = nI d) (h : ¬ (ss (6 * t + (d - 1)) = 1 ∧ ss (6 * t + (d - 2)) = 1)) : wpX_combine post (pr, lv, nI (t + 1), ou, yu, rm, mk, sc, mc, rs, rn, pc, wc, op, nd, ab, st, rv, cp, cc, cs, gs, gn, du, ls, ln, dp, ss, sn, cl, fs, fn, wt, mt, pl) o ↔ post 4 (pr, lv, nI (t + 1), ou, yu, rm, mk, sc, mc, rs, rn, pc, wc, op, nd, ab, st, rv, cp, cc, cs, gs, gn, du, ls, ln, dp, ss, sn, cl, fs, fn, wt, mt, pl) := by
  rw [wpX_combine, mx_sortAt0 ht hd (by omega) hdp]
  by_cases h0 : ss (6 * t + (d - 1)) = 1
  · rw [mr_bt h0, mx_sortAt1 ht hd hk hdp, mr_bf (fun h1 => h ⟨h0, h1⟩)]
  · rw [mr_bf h0]
theorem mx_w8 {o : Nat} (h8 : 8 ≤ o) (h11 : o ≤ 11) : wpX_workOne post (pr, lv, nI (t + 1), ou, yu, rm, mk, sc, mc, rs, rn, pc, wc, op, nd, ab, st, rv, cp, cc, cs, gs, gn, du, ls, ln, dp, ss, sn, cl, fs, fn, wt, mt, pl) (nI i) (nI o) n ↔ wpX_combine post (pr, lv, nI (t + 1), ou, yu, rm, mk, sc, mc, rs, rn, pc, wc, op, nd, ab, st, rv, cp, cc, cs, gs, gn, du, ls, ln, dp, ss, sn, cl, fs, fn, wt, mt, pl) (nI o) := by
  have : o = 8 ∨ o = 9 ∨ o = 10 ∨ o = 11 := by omega
  rcases this with rfl | rfl | rfl | rfl <;>
  rw [wpX_workOne, mr_bf (by decide), mr_bf (by decide), mr_bf (by decide), mr_bf (by decide), mr_bf (by decide), mr_bf (by decide), mr_bf (by decide), mr_bf (by decide)]
theorem mx_140 {x2 x4 z : Int32} (ht : t < 10) (h : ¬ x2 = 23) : wX_workOne_140 post x2 x4 z (nI t) pr lv (nI (t + 1)) ou yu rm mk sc mc rs rn pc wc op nd ab st rv cp cc cs gs gn du ls ln dp ss sn cl fs fn wt mt pl ↔ post (-1) (pr, lv, nI (t + 1), ou, yu, rm, mk, sc, mc, rs, rn, pc, wc, op, nd, ab, st, rv, cp, cc, cs, gs, gn, upd du t z, ls, ln, dp, ss, sn, cl, fs, fn, wt, mt, pl) := by
  have e2 : (nI t).toNatClampNeg = t := nI_clamp (by omega)
  have i1 : vp_in (nI t) 10 := vp_in_nI ht (by decide)
  simp only [wX_workOne_140, e2, i1, true_and, forall_eq, mr_bf h]
theorem mx_91s {o : Int32} (ht : t < 10) (hd : d ≤ 6) (hk : 1 ≤ d) (hdp : dp t = nI d) (h : ¬ ss (6 * t + (d - 1)) = 1) : wX_workOne_91 post (nI i) o n pr lv (nI (t + 1)) ou yu rm mk sc mc rs rn pc wc op nd ab st rv cp cc cs gs gn du ls ln dp ss sn cl fs fn wt mt pl ↔ post 4 (pr, lv, nI (t + 1), ou, yu, rm, mk, sc, mc, rs, rn, pc, wc, op, nd, ab, st, rv, cp, cc, cs, gs, gn, du, ls, ln, dp, ss, sn, cl, fs, fn, wt, mt, pl) := by
  rw [wX_workOne_91, mx_sortAt0 ht hd hk hdp, mr_bf h]
theorem mx_w14a : wpX_workOne post (pr, lv, nI (t + 1), ou, yu, rm, mk, sc, mc, rs, rn, pc, wc, op, nd, ab, st, rv, cp, cc, cs, gs, gn, du, ls, ln, dp, ss, sn, cl, fs, fn, wt, mt, pl) (nI i) 14 n ↔ wX_workOne_91 post (nI i) 14 n pr lv (nI (t + 1)) ou yu rm mk sc mc rs rn pc wc op nd ab st rv cp cc cs gs gn du ls ln dp ss sn cl fs fn wt mt pl := by
  rw [wpX_workOne, mr_bf (by decide), mr_bf (by decide), mr_bf (by decide), mr_bf (by decide), mr_bf (by decide), mr_bf (by decide), mr_bf (by decide), mr_bt (by decide), wX_workOne_79, mr_bt (by decide)]
theorem mx_w23a : wpX_workOne post (pr, lv, nI (t + 1), ou, yu, rm, mk, sc, mc, rs, rn, pc, wc, op, nd, ab, st, rv, cp, cc, cs, gs, gn, du, ls, ln, dp, ss, sn, cl, fs, fn, wt, mt, pl) (nI i) 23 n ↔ wX_workOne_91 post (nI i) 23 n pr lv (nI (t + 1)) ou yu rm mk sc mc rs rn pc wc op nd ab st rv cp cc cs gs gn du ls ln dp ss sn cl fs fn wt mt pl := by
  rw [wpX_workOne, mr_bf (by decide), mr_bf (by decide), mr_bf (by decide), mr_bf (by decide), mr_bf (by decide), mr_bf (by decide), mr_bf (by decide), mr_bt (by decide), wX_workOne_79, mr_bf (by decide), mr_bt (by decide)]
theorem mx_w14 {z : Int32} (ht : t < 10) (hd : d ≤ 6) (hk : 1 ≤ d) (hdp : dp t = nI d) (h : ss (6 * t + (d - 1)) = 1) (hz : (sn (6 * t + (d - 1)) = 0 ∧ z = n) ∨ (¬ sn (6 * t + (d - 1)) = 0 ∧ z = nI (i + 1))) : wpX_workOne post (pr, lv, nI (t + 1), ou, yu, rm, mk, sc, mc, rs, rn, pc, wc, op, nd, ab, st, rv, cp, cc, cs, gs, gn, du, ls, ln, dp, ss, sn, cl, fs, fn, wt, mt, pl) (nI i) 14 n ↔ post (-1) (pr, lv, nI (t + 1), ou, yu, rm, mk, sc, mc, rs, rn, pc, wc, op, nd, ab, st, rv, cp, cc, cs, gs, gn, upd du t z, ls, ln, upd dp t (nI (d - 1)), ss, sn, cl, fs, fn, wt, mt, pl) := by
  rw [mx_w14a, wX_workOne_91, mx_sortAt0 ht hd hk hdp, mr_bt h, mx_numberAt0 ht hd hk hdp, mx_drop1 ht hd hk hdp]
  try dsimp only
  rw [mx_top, mr_bt (by decide)]
  rcases hz with ⟨e, rfl⟩ | ⟨e, rfl⟩
  · rw [mr_bt e, mx_140 ht (by decide)]
  · rw [mr_bf e, wX_workOne_137, nI_1, mx_140 ht (by decide)]
theorem mx_w23 {p : Nat} {pl' : Nat → Int32} (ht : t < 10) (hd : d ≤ 6) (hk : 1 ≤ d) (hdp : dp t = nI d) (h : ss (6 * t + (d - 1)) = 1) (hp : p < 2 ^ 31) (hz : (p < 20 ∧ pl' = upd pl p (sn (6 * t + (d - 1)))) ∨ (20 ≤ p ∧ pl' = pl)) : wpX_workOne post (pr, lv, nI (t + 1), ou, yu, rm, mk, sc, mc, rs, rn, nI p, wc, op, nd, ab, st, rv, cp, cc, cs, gs, gn, du, ls, ln, dp, ss, sn, cl, fs, fn, wt, mt, pl) (nI i) 23 n ↔ post (-1) (pr, lv, nI (t + 1), ou, yu, rm, mk, sc, mc, rs, rn, nI (p + 1), wc, op, nd, ab, st, rv, cp, cc, cs, gs, gn, upd du t (nI (i + 1)), ls, ln, upd dp t (nI (d - 1)), ss, sn, cl, fs, fn, wt, mt, pl') := by
  have e2 : (nI t).toNatClampNeg = t := nI_clamp (by omega)
  have i1 : vp_in (nI t) 10 := vp_in_nI ht (by decide)
  rw [mx_w23a, wX_workOne_91, mx_sortAt0 ht hd hk hdp, mr_bt h, mx_numberAt0 ht hd hk hdp, mx_drop1 ht hd hk hdp]
  try dsimp only
  rw [mx_top, mr_bf (by decide), wX_workOne_137, nI_1, wX_workOne_140]
  rcases hz with ⟨e, rfl⟩ | ⟨e, rfl⟩
  · have e3 : (nI p).toNatClampNeg = p := nI_clamp (by omega)
    have i2 : vp_in (nI p) 20 := vp_in_nI e (by decide)
    have g : ¬ (20 : Int32) ≤ nI p := nI_ge (b := 20) e (by decide)
    simp only [e2, i1, true_and, forall_eq, mr_bt, wpX_print, mr_bf g, e3, i2, nI_1]
  · have g : (20 : Int32) ≤ nI p := nI_le (a := 20) e hp
    simp only [e2, i1, true_and, forall_eq, mr_bt, wpX_print, mr_bt g, nI_1]
end
end
section
/-! X: fields, calls, leaving, couples -/
section
variable {pr lv ou yu rm mk sc mc rs rn pc wc : Int32} {op nd ab st rv cp cc cs gs gn du ls ln dp ss sn cl fs fn wt mt pl : Nat → Int32} {t d i : Nat} {n : Int32} {post : Int32 → SX → Prop}
theorem mx_touch_143 (ht : t < 10) (hi : du t = nI i) : wX_touchField_143 post pr lv (nI (t + 1)) ou yu rm mk sc mc rs rn pc wc op nd ab st rv cp cc cs gs gn du ls ln dp ss sn cl fs fn wt mt pl ↔ post (-1) (pr, lv, nI (t + 1), ou, yu, rm, mk, sc, mc, rs, rn, pc, wc, op, nd, ab, st, rv, cp, cc, cs, gs, gn, upd du t (nI (i + 1)), ls, ln, dp, ss, sn, cl, fs, fn, wt, mt, pl) := by
  have e2 : (nI t).toNatClampNeg = t := nI_clamp (by omega)
  have i1 : vp_in (nI t) 10 := vp_in_nI ht (by decide)
  rw [wX_touchField_143, mx_top]
  simp only [e2, i1, true_and, forall_eq, hi, nI_1]
theorem mx_w16s (ht : t < 10) (hd : d ≤ 6) (hk : 1 ≤ d) (hdp : dp t = nI d) (h : ¬ ss (6 * t + (d - 1)) = 2) : wpX_workOne post (pr, lv, nI (t + 1), ou, yu, rm, mk, sc, mc, rs, rn, pc, wc, op, nd, ab, st, rv, cp, cc, cs, gs, gn, du, ls, ln, dp, ss, sn, cl, fs, fn, wt, mt, pl) (nI i) 16 n ↔ post 4 (pr, lv, nI (t + 1), ou, yu, rm, mk, sc, mc, rs, rn, pc, wc, op, nd, ab, st, rv, cp, cc, cs, gs, gn, du, ls, ln, dp, ss, sn, cl, fs, fn, wt, mt, pl) := by
  rw [wpX_workOne, mr_bf (by decide), mr_bt (by decide), wX_workOne_24, wpX_touchField, mr_bf (by decide), wX_touchField_11, mx_sortAt0 ht hd hk hdp, mr_bf h]
theorem mx_w16 {a j : Nat} (ht : t < 10) (hd : d ≤ 6) (hk : 1 ≤ d) (hdp : dp t = nI d) (hi : du t = nI i) (h : ss (6 * t + (d - 1)) = 2) (hn : sn (6 * t + (d - 1)) = nI a) (ha : a < 32) (hj : j < 3) (hs : mr_S (fs (3 * a + j))) : wpX_workOne post (pr, lv, nI (t + 1), ou, yu, rm, mk, sc, mc, rs, rn, pc, wc, op, nd, ab, st, rv, cp, cc, cs, gs, gn, du, ls, ln, dp, ss, sn, cl, fs, fn, wt, mt, pl) (nI i) 16 (nI j) ↔ post (-1) (pr, lv, nI (t + 1), ou, yu, rm, mk, sc, mc, rs, rn, pc, wc, op, nd, ab, st, rv, cp, cc, cs, gs, gn, upd du t (nI (i + 1)), ls, ln, upd dp t (nI d), upd ss (6 * t + (d - 1)) (fs (3 * a + j)), upd sn (6 * t + (d - 1)) (fn (3 * a + j)), cl, fs, fn, wt, mt, pl) := by
  have c1 : (nI (3 * a + j)).toNatClampNeg = 3 * a + j := nI_clamp (by omega)
  have i1 : vp_in (nI (3 * a + j)) 96 := vp_in_nI (by omega) (by decide)
  rw [wpX_workOne, mr_bf (by decide), mr_bt (by decide), wX_workOne_24, wpX_touchField, mr_bf (by decide), wX_touchField_11, mx_sortAt0 ht hd hk hdp, mr_bt h, mx_numberAt0 ht hd hk hdp, hn, mr_i3, nI_add]
  rw [forall_eq, mr_bt (by decide), mx_drop1 ht hd hk hdp]
  try dsimp only
  rw [c1, and_iff_right i1, and_iff_right i1, mx_dp1 ht hd hk hs]
  try dsimp only
  rw [mx_touch_143 ht hi]
theorem mx_w17s (ht : t < 10) (hd : d ≤ 6) (hk : 2 ≤ d) (hdp : dp t = nI d) (h : ¬ ss (6 * t + (d - 2)) = 2) : wpX_workOne post (pr, lv, nI (t + 1), ou, yu, rm, mk, sc, mc, rs, rn, pc, wc, op, nd, ab, st, rv, cp, cc, cs, gs, gn, du, ls, ln, dp, ss, sn, cl, fs, fn, wt, mt, pl) (nI i) 17 n ↔ post 4 (pr, lv, nI (t + 1), ou, yu, rm, mk, sc, mc, rs, rn, pc, wc, op, nd, ab, st, rv, cp, cc, cs, gs, gn, du, ls, ln, dp, ss, sn, cl, fs, fn, wt, mt, pl) := by
  rw [wpX_workOne, mr_bf (by decide), mr_bf (by decide), mr_bt (by decide), wX_workOne_24, wpX_touchField, mr_bt (by decide), wX_touchField_11, mx_sortAt1 ht hd hk hdp, mr_bf h]
theorem mx_touch_138 (ht : t < 10) (hd : d ≤ 6) (hk : 2 ≤ d) (hdp : dp t = nI d) (hi : du t = nI i) : wX_touchField_138 post pr lv (nI (t + 1)) ou yu rm mk sc mc rs rn pc wc op nd ab st rv cp cc cs gs gn du ls ln dp ss sn cl fs fn wt mt pl ↔ post (-1) (pr, lv, nI (t + 1), ou, yu, rm, mk, sc, mc, rs, rn, pc, wc, op, nd, ab, st, rv, cp, cc, cs, gs, gn, upd du t (nI (i + 1)), ls, ln, upd dp t (nI (d - 2)), ss, sn, cl, fs, fn, wt, mt, pl) := by
  rw [wX_touchField_138, mx_drop2 ht hd hk hdp]
  try dsimp only
  rw [mx_touch_143 ht hi]
theorem mx_w17 {a j : Nat} {rm' : Int32} (ht : t < 10) (hd : d ≤ 6) (hk : 2 ≤ d) (hdp : dp t = nI d) (hi : du t = nI i) (h : ss (6 * t + (d - 2)) = 2) (hn : sn (6 * t + (d - 2)) = nI a) (ha : a < 32) (hj : j < 3) (hs : mr_S (ss (6 * t + (d - 1))))
    (hm : (rm' = rm ∧ (24 ≤ a ∨ ¬ ss (6 * t + (d - 1)) = 2 ∨ sn (6 * t + (d - 1)) < 24)) ∨ (rm' = rm ||| ((1 : Int32) <<< (nI a &&& 31)) ∧ a < 24 ∧ ss (6 * t + (d - 1)) = 2 ∧ ¬ sn (6 * t + (d - 1)) < 24)) : wpX_workOne post (pr, lv, nI (t + 1), ou, yu, rm, mk, sc, mc, rs, rn, pc, wc, op, nd, ab, st, rv, cp, cc, cs, gs, gn, du, ls, ln, dp, ss, sn, cl, fs, fn, wt, mt, pl) (nI i) 17 (nI j) ↔ post (-1) (pr, lv, nI (t + 1), ou, yu, rm', mk, sc, mc, rs, rn, pc, wc, op, nd, ab, st, rv, cp, cc, cs, gs, gn, upd du t (nI (i + 1)), ls, ln, upd dp t (nI (d - 2)), ss, sn, cl, upd fs (3 * a + j) (ss (6 * t + (d - 1))), upd fn (3 * a + j) (sn (6 * t + (d - 1))), wt, mt, pl) := by
  have c1 : (nI (3 * a + j)).toNatClampNeg = 3 * a + j := nI_clamp (by omega)
  have i1 : vp_in (nI (3 * a + j)) 96 := vp_in_nI (by omega) (by decide)
  rw [wpX_workOne, mr_bf (by decide), mr_bf (by decide), mr_bt (by decide), wX_workOne_24, wpX_touchField, mr_bt (by decide), wX_touchField_11, mx_sortAt1 ht hd hk hdp, mr_bt h, mx_numberAt1 ht hd hk hdp, hn, mr_i3, nI_add]
  rw [forall_eq, mr_bf (by decide), mx_sortAt0 ht hd (by omega) hdp, c1, and_iff_right i1, mr_S_cast hs, forall_eq, mx_numberAt0 ht hd (by omega) hdp, and_iff_right i1, forall_eq, pk_us, pk_us]
  rcases hm with ⟨rfl, hm⟩ | ⟨rfl, h1, h2, h3⟩
  · by_cases h1 : 24 ≤ a
    · have g1 : (24 : Int32) ≤ nI a := nI_le (a := 24) h1 (by omega)
      rw [mr_bt g1, mx_touch_138 ht hd hk hdp hi]
    · have g1 : ¬ (24 : Int32) ≤ nI a := nI_ge (b := 24) (by omega) (by omega)
      rw [mr_bf g1, and_iff_right i1]
      by_cases h2 : ss (6 * t + (d - 1)) = 2
      · have h3 : sn (6 * t + (d - 1)) < 24 := by
          rcases hm with q | q | q
          · exact absurd q h1
          · exact absurd h2 q
          · exact q
        rw [mr_bt h2, and_iff_right i1, mr_bt h3, mx_touch_138 ht hd hk hdp hi]
      · rw [mr_bf h2, mx_touch_138 ht hd hk hdp hi]
  · have g1 : ¬ (24 : Int32) ≤ nI a := nI_ge (b := 24) (by omega) (by omega)
    rw [mr_bf g1, and_iff_right i1, mr_bt h2, and_iff_right i1, mr_bf h3, forall_eq, mx_touch_138 ht hd hk hdp hi]
/-! leaving -/
theorem mx_w20a : wpX_workOne post (pr, lv, nI (t + 1), ou, yu, rm, mk, sc, mc, rs, rn, pc, wc, op, nd, ab, st, rv, cp, cc, cs, gs, gn, du, ls, ln, dp, ss, sn, cl, fs, fn, wt, mt, pl) (nI i) 20 n ↔ wpX_leave (fun r u => post r u) (pr, lv, nI (t + 1), ou, yu, rm, mk, sc, mc, rs, rn, pc, wc, op, nd, ab, st, rv, cp, cc, cs, gs, gn, du, ls, ln, dp, ss, sn, cl, fs, fn, wt, mt, pl) := by
  rw [wpX_workOne, mr_bf (by decide), mr_bf (by decide), mr_bf (by decide), mr_bf (by decide), mr_bt (by decide)]
theorem mx_leave {d' : Nat} (ht : t + 1 < 10) (hd : d ≤ 6) (hk : 1 ≤ d) (hdp : dp (t + 1) = nI d) (hd' : d' < 6) (hdp' : dp t = nI d') (hs : mr_S (ss (6 * (t + 1) + (d - 1)))) : wpX_leave post (pr, lv, nI (t + 1 + 1), ou, yu, rm, mk, sc, mc, rs, rn, pc, wc, op, nd, ab, st, rv, cp, cc, cs, gs, gn, du, ls, ln, dp, ss, sn, cl, fs, fn, wt, mt, pl) ↔ post (-1) (pr, lv, nI (t + 1), ou, yu, rm, mk, sc, mc, rs, rn, pc, wc, op, nd, ab, st, rv, cp, cc, cs, gs, gn, du, ls, ln, upd dp t (nI (d' + 1)), upd ss (6 * t + d') (ss (6 * (t + 1) + (d - 1))), upd sn (6 * t + d') (sn (6 * (t + 1) + (d - 1))), cl, fs, fn, wt, mt, pl) := by
  rw [wpX_leave, mx_sortAt0 ht hd hk hdp, mx_numberAt0 ht hd hk hdp, nI_pred, forall_eq, mr_bf (nI_nle (by omega) (by omega)), mx_push (by omega) hd' hdp' hs]
theorem mx_leave0 {z : Int32} (hd : d ≤ 6) (hk : 1 ≤ d) (hdp : dp 0 = nI d) (hz : (ss (d - 1) = 2 ∧ ∃ a, a < 32 ∧ sn (d - 1) = nI a ∧ z = cl a) ∨ (¬ ss (d - 1) = 2 ∧ z = sn (d - 1))) : wpX_leave post (pr, lv, nI (0 + 1), ou, yu, rm, mk, sc, mc, rs, rn, pc, wc, op, nd, ab, st, rv, cp, cc, cs, gs, gn, du, ls, ln, dp, ss, sn, cl, fs, fn, wt, mt, pl) ↔ post 0 (pr, lv, 0, ou, yu, rm, mk, sc, mc, ss (d - 1), z, pc, wc, op, nd, ab, st, rv, cp, cc, cs, gs, gn, du, ls, ln, dp, ss, sn, cl, fs, fn, wt, mt, pl) := by
  have e0 : 6 * 0 + (d - 1) = d - 1 := by omega
  rw [wpX_leave, mx_sortAt0 (by omega) hd hk hdp, mx_numberAt0 (by omega) hd hk hdp, nI_pred, forall_eq, nI_0, mr_bt (by decide), e0]
  rcases hz with ⟨h, a, ha, e, rfl⟩ | ⟨h, rfl⟩
  · rw [mr_bt h, e, nI_clamp (n := a) (by omega), and_iff_right (vp_in_nI ha (by decide)), forall_eq]
  · rw [mr_bf h]
/-! calling -/
theorem mx_call_97 {x7 : Int32} {a sz : Nat} {s v : Int32} (ht : t + 1 < 10) (hd : d ≤ 6) (hk : 2 ≤ d) (hdp : dp t = nI d) (hi : du t = nI i) (hx : x7 = nI sz) (hz : sz < 60) (hs : mr_S s)
    (k : ∀ ls' ln' : Nat → Int32, (∀ k, k < 4 * (t + 1) → ls' k = ls k ∧ ln' k = ln k) → (∀ i, i < 4 → ls' (4 * (t + 1) + i) = 0 ∧ ln' (4 * (t + 1) + i) = 0) → post (-1) (pr, lv, nI (t + 1 + 1), ou, yu, rm, mk, sc, mc, rs, rn, pc, wc, op, nd, ab, st, rv, cp, cc, cs, gs, gn, upd (upd du t (nI (i + 1))) (t + 1) x7, upd (upd ls' (4 * (t + 1) + 0) 2) (4 * (t + 1) + 1) s, upd (upd ln' (4 * (t + 1) + 0) (nI a)) (4 * (t + 1) + 1) v, upd (upd dp t (nI (d - 2))) (t + 1) 0, ss, sn, cl, fs, fn, wt, mt, pl)) : wX_call_97 post (nI a) s v x7 pr lv (nI (t + 1)) ou yu rm mk sc mc rs rn pc wc op nd ab st rv cp cc cs gs gn du ls ln dp ss sn cl fs fn wt mt pl := by
  have e2 : (nI t).toNatClampNeg = t := nI_clamp (by omega)
  have i1 : vp_in (nI t) 10 := vp_in_nI (by omega) (by decide)
  subst hx
  rw [wX_call_97, mr_bt (nI_pos' (by omega)), mr_bf (fun e => by have := mr_inj (a := t + 1) (b := 10) (by omega) (by omega) e; omega), mx_drop2 (by omega) hd hk hdp]
  try dsimp only
  rw [mx_top, e2, and_iff_right i1, and_iff_right i1, forall_eq, hi, nI_1]
  refine mx_openFrame (F := t + 1) (by omega) fun ls' ln' h1 h2 => ?_
  have r := k ls' ln' h1 h2
  rw [← mx_setLocal (post := fun u => post (-1) u) (k := 1) (by omega) (by omega) hs] at r
  rw [← mx_setLocal (post := fun u => wpX_setLocal (fun u => post (-1) u) u (nI 1) s v) (k := 0) (by omega) (by omega) mr_S2] at r
  exact r
theorem mx_call_97m {a : Nat} {s v : Int32} : wX_call_97 post (nI a) s v (-1) pr lv (nI (t + 1)) ou yu rm mk sc mc rs rn pc wc op nd ab st rv cp cc cs gs gn du ls ln dp ss sn cl fs fn wt mt pl ↔ post 6 (pr, lv, nI (t + 1), ou, yu, rm, mk, sc, mc, rs, rn, pc, wc, op, nd, ab, st, rv, cp, cc, cs, gs, gn, du, ls, ln, dp, ss, sn, cl, fs, fn, wt, mt, pl) := by
  rw [wX_call_97, mr_bf (by decide)]
theorem mx_call_97d {a z : Nat} {s v : Int32} (hz : z < 60) : wX_call_97 post (nI a) s v (nI z) pr lv (nI (9 + 1)) ou yu rm mk sc mc rs rn pc wc op nd ab st rv cp cc cs gs gn du ls ln dp ss sn cl fs fn wt mt pl ↔ post 7 (pr, lv, nI (9 + 1), ou, yu, rm, mk, sc, mc, rs, rn, pc, wc, op, nd, ab, st, rv, cp, cc, cs, gs, gn, du, ls, ln, dp, ss, sn, cl, fs, fn, wt, mt, pl) := by
  have g : (0 : Int32) ≤ nI z := nI_pos' (by omega)
  rw [wX_call_97, mr_bt g, mr_bt (by decide)]
theorem mx_call_s (ht : t < 10) (hd : d ≤ 6) (hk : 2 ≤ d) (hdp : dp t = nI d) (h : ¬ ss (6 * t + (d - 2)) = 2) : wpX_call post (pr, lv, nI (t + 1), ou, yu, rm, mk, sc, mc, rs, rn, pc, wc, op, nd, ab, st, rv, cp, cc, cs, gs, gn, du, ls, ln, dp, ss, sn, cl, fs, fn, wt, mt, pl) (nI i) n ↔ post 4 (pr, lv, nI (t + 1), ou, yu, rm, mk, sc, mc, rs, rn, pc, wc, op, nd, ab, st, rv, cp, cc, cs, gs, gn, du, ls, ln, dp, ss, sn, cl, fs, fn, wt, mt, pl) := by
  rw [wpX_call, mx_sortAt1 ht hd hk hdp, mr_bf h]
theorem mx_w19a : wpX_workOne post (pr, lv, nI (t + 1), ou, yu, rm, mk, sc, mc, rs, rn, pc, wc, op, nd, ab, st, rv, cp, cc, cs, gs, gn, du, ls, ln, dp, ss, sn, cl, fs, fn, wt, mt, pl) (nI i) 19 n ↔ wpX_call (fun r u => post r u) (pr, lv, nI (t + 1), ou, yu, rm, mk, sc, mc, rs, rn, pc, wc, op, nd, ab, st, rv, cp, cc, cs, gs, gn, du, ls, ln, dp, ss, sn, cl, fs, fn, wt, mt, pl) (nI i) n := by
  rw [wpX_workOne, mr_bf (by decide), mr_bf (by decide), mr_bf (by decide), mr_bt (by decide)]
theorem mx_call_66 {a c k : Nat} {s v : Int32} (hi : i < 60) (hc : c < 4) (hk4 : k < 4) (hr : vp_nar .byte (rv (4 * c + k)).toInt8.toInt32 = rv (4 * c + k)) : wX_call_66 post (nI i) (nI k) (nI a) s v (nI c) pr lv (nI (t + 1)) ou yu rm mk sc mc rs rn pc wc op nd ab st rv cp cc cs gs gn du ls ln dp ss sn cl fs fn wt mt pl ↔ wX_call_97 post (nI a) s v (rv (4 * c + k)) pr lv (nI (t + 1)) ou yu rm mk sc mc rs rn pc wc op nd ab st rv cp (upd cc i (nI c)) (upd cs i (rv (4 * c + k))) gs gn du ls ln dp ss sn cl fs fn wt mt pl := by
  have c1 : (nI (4 * c + k)).toNatClampNeg = 4 * c + k := nI_clamp (by omega)
  have c2 : (nI i).toNatClampNeg = i := nI_clamp (by omega)
  have i1 : vp_in (nI (4 * c + k)) 16 := vp_in_nI (by omega) (by decide)
  have i2 : vp_in (nI i) 60 := vp_in_nI hi (by decide)
  simp only [wX_call_66, mr_i4, nI_add, c1, c2, i1, i2, true_and, forall_eq, hr, mr_nb2 (show c < 128 by omega)]
theorem mr_RV_nar {z : Int32} (h : z = -1 ∨ ∃ a, a < 60 ∧ z = nI a) : vp_nar .byte z.toInt8.toInt32 = z := by
  rcases h with rfl | ⟨a, ha, rfl⟩
  · exact mr_nbm.2.1
  · exact mr_nb2 (by omega)
theorem mr_CC_set {c k : Nat} (h : mr_CC nd rv cc cs) (hi : i < 60) (hc : c < 4) (hk : k < 4) (e : nd i = nI k) : mr_CC nd rv (upd cc i (nI c)) (upd cs i (rv (4 * c + k))) := by
  intro j hj
  by_cases z : j = i
  · subst z
    rw [pk_us, pk_us]
    refine Or.inr ⟨c, hc, rfl, fun k' hk' e' => ?_⟩
    have := mr_inj (by omega) (by omega) (e.symm.trans e')
    subst this
    rfl
  · rw [pk_un z, pk_un z]; exact h j hj
/-- a call asks for the start that the table holds -/
theorem mx_call {a c k : Nat} (ht : t < 10) (hd : d ≤ 6) (hk : 2 ≤ d) (hdp : dp t = nI d) (h : ss (6 * t + (d - 2)) = 2) (hn : sn (6 * t + (d - 2)) = nI a) (ha : a < 32) (hc : c < 4) (hcl : cl a = nI c) (hi : i < 60) (hk4 : k < 4) (e : nd i = nI k) (hr : rv (4 * c + k) = -1 ∨ ∃ z, z < 60 ∧ rv (4 * c + k) = nI z) (hcc : mr_CC nd rv cc cs)
    (p : ∀ cc' cs' : Nat → Int32, mr_CC nd rv cc' cs' → wX_call_97 post (nI a) (ss (6 * t + (d - 1))) (sn (6 * t + (d - 1))) (rv (4 * c + k)) pr lv (nI (t + 1)) ou yu rm mk sc mc rs rn pc wc op nd ab st rv cp cc' cs' gs gn du ls ln dp ss sn cl fs fn wt mt pl) : wpX_call post (pr, lv, nI (t + 1), ou, yu, rm, mk, sc, mc, rs, rn, pc, wc, op, nd, ab, st, rv, cp, cc, cs, gs, gn, du, ls, ln, dp, ss, sn, cl, fs, fn, wt, mt, pl) (nI i) (nI k) := by
  have c2 : (nI i).toNatClampNeg = i := nI_clamp (by omega)
  have i2 : vp_in (nI i) 60 := vp_in_nI hi (by decide)
  have q := p _ _ (mr_CC_set hcc hi hc hk4 e)
  rw [← mx_call_66 hi hc hk4 (mr_RV_nar hr)] at q
  rw [wpX_call, mx_sortAt1 ht hd hk hdp, mr_bt h, mx_numberAt1 ht hd hk hdp, mx_sortAt0 ht hd (by omega) hdp, mx_numberAt0 ht hd (by omega) hdp, hn, nI_clamp (n := a) (by omega), hcl, and_iff_right (vp_in_nI ha (by decide)), forall_eq, c2, and_iff_right i2, forall_eq]
  refine br_c (fun _ => q) fun _ => ⟨i2, br_c (fun e2 => ?_) fun _ => q⟩
  rcases hcc i hi with z | ⟨c', hc', z, w⟩
  · rw [z] at e2
    exact absurd e2.symm (mr_m1 (by omega))
  · have := mr_inj (by omega) (by omega) (z.symm.trans e2)
    subst this
    rw [w k hk4 e]
    exact p cc cs hcc
/-! a new object -/
theorem mx_make_96 {y : Nat} (hy : y < 8) (ht : t < 10) (hd : d < 6) (hdp : dp t = nI d) (hi : du t = nI i) {fs0 fn0 : Nat → Int32}
    (k : ∀ fs' fn' : Nat → Int32, (∀ k, k < 3 * (24 + y) → fs' k = fs0 k ∧ fn' k = fn0 k) → (∀ j, j < 3 → fs' (3 * (24 + y) + j) = 0 ∧ fn' (3 * (24 + y) + j) = 0) → post (-1) (pr, lv, nI (t + 1), ou, yu, rm, mk, sc, mc, rs, rn, pc, wc, op, nd, ab, st, rv, cp, cc, cs, gs, gn, upd du t (nI (i + 1)), ls, ln, upd dp t (nI (d + 1)), upd ss (6 * t + d) 2, upd sn (6 * t + d) (nI (24 + y)), cl, fs', fn', wt, mt, pl)) :
    ∀ m j fs fn, j ≤ 3 → 3 - j < m → (∀ k, k < 3 * (24 + y) → fs k = fs0 k ∧ fn k = fn0 k) → (∀ i, i < j → fs (3 * (24 + y) + i) = 0 ∧ fn (3 * (24 + y) + i) = 0) → wX_makeObject_96 post (nI (24 + y)) pr lv (nI (t + 1)) ou yu rm mk sc mc rs rn pc wc m (nI (3 * (24 + y) + j)) op nd ab st rv cp cc cs gs gn du ls ln dp ss sn cl fs fn wt mt pl := by
  intro m
  induction m with
  | zero => intro j fs fn _ h; omega
  | succ m ih =>
    intro j fs fn hj hlt h1 h2
    rw [wX_makeObject_96]
    dsimp only
    rw [mr_i3, mr_p3]
    by_cases z : j = 3
    · subst z
      refine br_t (nI_le (by omega) (by omega)) ?_
      rw [mx_push ht hd hdp mr_S2]
      try dsimp only
      rw [mx_top, nI_clamp (n := t) (by omega), hi, nI_1]
      exact ⟨vp_in_nI ht (by decide), vp_in_nI ht (by decide), nm_e (k fs fn h1 h2)⟩
    · refine br_f (nI_ge (by omega) (by omega)) ⟨vp_in_nI (by omega) (by decide), nm_e ⟨vp_in_nI (by omega) (by decide), nm_e (nm_r (nI_1 _) ?_)⟩⟩
      rw [nI_clamp (n := 3 * (24 + y) + j) (by omega), mr_nbm.2.2.1]
      refine ih (j + 1) _ _ (by omega) (by omega) (fun k hk => ?_) (fun i hi => ?_)
      · rw [pk_un (by omega), pk_un (by omega)]; exact h1 k hk
      · by_cases e : i = j
        · subst e; rw [pk_us, pk_us]; exact ⟨rfl, rfl⟩
        · rw [pk_un (by omega), pk_un (by omega)]; exact h2 i (by omega)
theorem mx_make_56 {y c : Nat} (hy : y < 8) (hc : c < 4) (ht : t < 10) (hd : d < 6) (hdp : dp t = nI d) (hi : du t = nI i)
    (k : ∀ fs' fn' : Nat → Int32, (∀ k, k < 3 * (24 + y) → fs' k = fs k ∧ fn' k = fn k) → (∀ j, j < 3 → fs' (3 * (24 + y) + j) = 0 ∧ fn' (3 * (24 + y) + j) = 0) → post (-1) (pr, lv, nI (t + 1), ou, nI (y + 1), rm, mk, sc, mc + 1, rs, rn, pc, wc, op, nd, ab, st, rv, cp, cc, cs, gs, gn, upd du t (nI (i + 1)), ls, ln, upd dp t (nI (d + 1)), upd ss (6 * t + d) 2, upd sn (6 * t + d) (nI (24 + y)), upd cl (24 + y) (nI c), fs', fn', wt, mt, pl)) : wX_makeObject_56 post (nI c) pr lv (nI (t + 1)) ou (nI y) rm mk sc mc rs rn pc wc op nd ab st rv cp cc cs gs gn du ls ln dp ss sn cl fs fn wt mt pl := by
  rw [wX_makeObject_56]
  refine nm_r (mr_24 y) (nm_r (nI_1 y) (nm_e ⟨vp_in_nI (by omega) (by decide), nm_e (nm_r (mr_i3 _) ⟨4, ?_⟩)⟩))
  rw [nI_clamp (n := 24 + y) (by omega), mr_nb2 (by omega)]
  exact mx_make_96 hy ht hd hdp hi k 4 0 fs fn (by omega) (by omega) (fun k _ => ⟨rfl, rfl⟩) fun i hi => by omega
end
end
section
/-! X: couples, one step -/
def mr_tk (o : Nat) : Nat := [0, 0, 0, 0, 1, 1, 1, 2, 2, 2, 2, 2, 2, 0, 1, 0, 1, 2, 1, 2, 1, 0, 1, 1].getD o 0
def mr_lv (o : Nat) : Nat := [0, 1, 1, 1, 0, 0, 2, 2, 1, 1, 1, 1, 1, 0, 0, 1, 1, 0, 1, 0, 0, 1, 0, 0].getD o 0
theorem mr_o24 {P : Nat → Prop} {o : Nat} (h : o ≤ 23) (h0 : P 0) (h1 : P 1) (h2 : P 2) (h3 : P 3) (h4 : P 4) (h5 : P 5) (h6 : P 6) (h7 : P 7) (h8 : P 8) (h9 : P 9) (h10 : P 10) (h11 : P 11) (h12 : P 12) (h13 : P 13) (h14 : P 14) (h15 : P 15) (h16 : P 16) (h17 : P 17) (h18 : P 18) (h19 : P 19) (h20 : P 20) (h21 : P 21) (h22 : P 22) (h23 : P 23) : P o := by
  have : o = 0 ∨ o = 1 ∨ o = 2 ∨ o = 3 ∨ o = 4 ∨ o = 5 ∨ o = 6 ∨ o = 7 ∨ o = 8 ∨ o = 9 ∨ o = 10 ∨ o = 11 ∨ o = 12 ∨ o = 13 ∨ o = 14 ∨ o = 15 ∨ o = 16 ∨ o = 17 ∨ o = 18 ∨ o = 19 ∨ o = 20 ∨ o = 21 ∨ o = 22 ∨ o = 23 := by omega
  rcases this with rfl | rfl | rfl | rfl | rfl | rfl | rfl | rfl | rfl | rfl | rfl | rfl | rfl | rfl | rfl | rfl | rfl | rfl | rfl | rfl | rfl | rfl | rfl | rfl <;> assumption
theorem mr_tk_le {o : Nat} (h : o ≤ 23) : mr_tk o ≤ 2 ∧ mr_lv o ≤ 2 := by
  refine mr_o24 (P := fun o => mr_tk o ≤ 2 ∧ mr_lv o ≤ 2) h ?_ ?_ ?_ ?_ ?_ ?_ ?_ ?_ ?_ ?_ ?_ ?_ ?_ ?_ ?_ ?_ ?_ ?_ ?_ ?_ ?_ ?_ ?_ ?_ <;> decide
section
variable {pr lv fc ou yu rm mk sc mc rs rn pc wc : Int32} {op nd ab st rv cp cc cs gs gn du ls ln dp ss sn cl fs fn wt mt pl : Nat → Int32} {o : Nat} {post : Int32 → Prop}
theorem mx_takenBy (h : o ≤ 23) : wpX_takenBy post (pr, lv, fc, ou, yu, rm, mk, sc, mc, rs, rn, pc, wc, op, nd, ab, st, rv, cp, cc, cs, gs, gn, du, ls, ln, dp, ss, sn, cl, fs, fn, wt, mt, pl) (nI o) ↔ post (nI (mr_tk o)) := by
  refine mr_o24 (P := fun o => wpX_takenBy post (pr, lv, fc, ou, yu, rm, mk, sc, mc, rs, rn, pc, wc, op, nd, ab, st, rv, cp, cc, cs, gs, gn, du, ls, ln, dp, ss, sn, cl, fs, fn, wt, mt, pl) (nI o) ↔ post (nI (mr_tk o))) h ?_ ?_ ?_ ?_ ?_ ?_ ?_ ?_ ?_ ?_ ?_ ?_ ?_ ?_ ?_ ?_ ?_ ?_ ?_ ?_ ?_ ?_ ?_ ?_ <;> (rw [wpX_takenBy]; repeat (first | rw [mr_bt (by decide)] | rw [mr_bf (by decide)] | rw [wX_takenBy_18])) <;> exact Iff.rfl
theorem mx_putBy (h : o ≤ 23) : wpX_putBy post (pr, lv, fc, ou, yu, rm, mk, sc, mc, rs, rn, pc, wc, op, nd, ab, st, rv, cp, cc, cs, gs, gn, du, ls, ln, dp, ss, sn, cl, fs, fn, wt, mt, pl) (nI o) ↔ post (nI (mr_lv o)) := by
  refine mr_o24 (P := fun o => wpX_putBy post (pr, lv, fc, ou, yu, rm, mk, sc, mc, rs, rn, pc, wc, op, nd, ab, st, rv, cp, cc, cs, gs, gn, du, ls, ln, dp, ss, sn, cl, fs, fn, wt, mt, pl) (nI o) ↔ post (nI (mr_lv o))) h ?_ ?_ ?_ ?_ ?_ ?_ ?_ ?_ ?_ ?_ ?_ ?_ ?_ ?_ ?_ ?_ ?_ ?_ ?_ ?_ ?_ ?_ ?_ ?_ <;> (rw [wpX_putBy]; repeat (first | rw [mr_bt (by decide)] | rw [mr_bf (by decide)] | rw [wX_putBy_43])) <;> exact Iff.rfl
end
section
variable {pr lv ou yu rm mk sc mc rs rn pc wc : Int32} {op nd ab st rv cp cc cs gs gn du ls ln dp ss sn cl fs fn wt mt pl : Nat → Int32} {t d i k : Nat} {n : Int32} {post : Int32 → SX → Prop}
/-- after an instruction: one more step unless it failed -/
def mr_KX (post : Int32 → SX → Prop) (r : Int32) (u : SX) : Prop := match u with
  | (pr, lv, fc, ou, yu, rm, mk, sc, mc, rs, rn, pc, wc, op, nd, ab, st, rv, cp, cc, cs, gs, gn, du, ls, ln, dp, ss, sn, cl, fs, fn, wt, mt, pl) => (((r = (-1) → (wX_work_144 post r pr lv fc ou yu rm mk sc mc rs rn pc wc op nd ab st rv cp cc cs gs gn du ls ln dp ss sn cl fs fn wt mt pl)) ∧ (¬ r = (-1) → (((r = 0 → (wX_work_144 post r pr lv fc ou yu rm mk sc mc rs rn pc wc op nd ab st rv cp cc cs gs gn du ls ln dp ss sn cl fs fn wt mt pl)) ∧ (¬ r = 0 → (post r (pr, lv, fc, ou, yu, rm, mk, sc, mc, rs, rn, pc, wc, op, nd, ab, st, rv, cp, cc, cs, gs, gn, du, ls, ln, dp, ss, sn, cl, fs, fn, wt, mt, pl))))))))
theorem mr_KXm {fc : Int32} (h : post (-1) (pr, lv, fc, ou, yu, rm, mk, nI (k + 1), mc, rs, rn, pc, wc, op, nd, ab, st, rv, cp, cc, cs, gs, gn, du, ls, ln, dp, ss, sn, cl, fs, fn, wt, mt, pl)) : mr_KX post (-1) (pr, lv, fc, ou, yu, rm, mk, nI k, mc, rs, rn, pc, wc, op, nd, ab, st, rv, cp, cc, cs, gs, gn, du, ls, ln, dp, ss, sn, cl, fs, fn, wt, mt, pl) := br_t rfl (nm_r (nI_1 k) h)
theorem mr_KX0 {fc : Int32} (h : post 0 (pr, lv, fc, ou, yu, rm, mk, nI (k + 1), mc, rs, rn, pc, wc, op, nd, ab, st, rv, cp, cc, cs, gs, gn, du, ls, ln, dp, ss, sn, cl, fs, fn, wt, mt, pl)) : mr_KX post 0 (pr, lv, fc, ou, yu, rm, mk, nI k, mc, rs, rn, pc, wc, op, nd, ab, st, rv, cp, cc, cs, gs, gn, du, ls, ln, dp, ss, sn, cl, fs, fn, wt, mt, pl) := br_f (by decide) (br_t rfl (nm_r (nI_1 k) h))
theorem mr_KXr {fc r : Int32} (h1 : ¬ r = -1) (h2 : ¬ r = 0) (h : post r (pr, lv, fc, ou, yu, rm, mk, sc, mc, rs, rn, pc, wc, op, nd, ab, st, rv, cp, cc, cs, gs, gn, du, ls, ln, dp, ss, sn, cl, fs, fn, wt, mt, pl)) : mr_KX post r (pr, lv, fc, ou, yu, rm, mk, sc, mc, rs, rn, pc, wc, op, nd, ab, st, rv, cp, cc, cs, gs, gn, du, ls, ln, dp, ss, sn, cl, fs, fn, wt, mt, pl) := br_f h1 (br_f h2 h)
theorem mx_69 {o : Nat} (ho : o ≤ 23) (ht : t < 10) (hd : d ≤ 6) (hdp : dp t = nI d) (hi : i < 60) (e : op i = nI o) (h1 : mr_tk o ≤ d) (h2 : d - mr_tk o + mr_lv o ≤ 6) (h : wpX_workOne (mr_KX post) (pr, lv, nI (t + 1), ou, yu, rm, mk, sc, mc, rs, rn, pc, wc, op, nd, ab, st, rv, cp, cc, cs, gs, gn, du, ls, ln, dp, ss, sn, cl, fs, fn, wt, mt, pl) (nI i) (nI o) (nd i)) : wX_work_69 post (nI t) (nI i) pr lv (nI (t + 1)) ou yu rm mk sc mc rs rn pc wc op nd ab st rv cp cc cs gs gn du ls ln dp ss sn cl fs fn wt mt pl := by
  have c1 : (nI t).toNatClampNeg = t := nI_clamp (by omega)
  have c2 : (nI i).toNatClampNeg = i := nI_clamp (by omega)
  have i1 : vp_in (nI t) 10 := vp_in_nI ht (by decide)
  have i2 : vp_in (nI i) 60 := vp_in_nI hi (by decide)
  have b := mr_tk_le ho
  have g1 : ¬ nI d < nI (mr_tk o) := nI_nlt h1 (by omega)
  have g2 : nI (d - mr_tk o + mr_lv o) ≤ 6 := nI_le (b := 6) h2 (by decide)
  rw [wX_work_69, c2, and_iff_right i2, forall_eq, e, mx_takenBy ho]
  try dsimp only
  rw [and_iff_right i1, c1, hdp, mr_bf g1, and_iff_right i1, mx_putBy ho, pk_sub h1, nI_add, mr_bt g2, and_iff_right i2]
  exact h
theorem mx_69f {o : Nat} (ho : o ≤ 23) (ht : t < 10) (hd : d ≤ 6) (hdp : dp t = nI d) (hi : i < 60) (e : op i = nI o) (hf : d < mr_tk o ∨ 6 < d - mr_tk o + mr_lv o) (h : post 3 (pr, lv, nI (t + 1), ou, yu, rm, mk, sc, mc, rs, rn, pc, wc, op, nd, ab, st, rv, cp, cc, cs, gs, gn, du, ls, ln, dp, ss, sn, cl, fs, fn, wt, mt, pl)) : wX_work_69 post (nI t) (nI i) pr lv (nI (t + 1)) ou yu rm mk sc mc rs rn pc wc op nd ab st rv cp cc cs gs gn du ls ln dp ss sn cl fs fn wt mt pl := by
  have c1 : (nI t).toNatClampNeg = t := nI_clamp (by omega)
  have c2 : (nI i).toNatClampNeg = i := nI_clamp (by omega)
  have i1 : vp_in (nI t) 10 := vp_in_nI ht (by decide)
  have i2 : vp_in (nI i) 60 := vp_in_nI hi (by decide)
  have b := mr_tk_le ho
  rw [wX_work_69, c2, and_iff_right i2, forall_eq, e, mx_takenBy ho]
  try dsimp only
  rw [and_iff_right i1, c1, hdp]
  by_cases z : d < mr_tk o
  · exact br_t (nI_lt z (by omega)) h
  · have g1 : ¬ nI d < nI (mr_tk o) := nI_nlt (by omega) (by omega)
    have g2 : ¬ nI (d - mr_tk o + mr_lv o) ≤ 6 := nI_ge (a := 6) (by omega) (by omega)
    rw [mr_bf g1, and_iff_right i1, mx_putBy ho, pk_sub (by omega), nI_add, mr_bf g2]
    exact h
/-! couples -/
theorem mx_56f (h : post 0 (pr, lv, nI (t + 1), ou, yu, rm, mk, sc, mc, rs, rn, pc, wc, op, nd, ab, st, rv, cp, cc, cs, gs, gn, du, ls, ln, dp, ss, sn, cl, fs, fn, wt, mt, pl)) : wX_workCouple_56 post 0 pr lv (nI (t + 1)) ou yu rm mk sc mc rs rn pc wc op nd ab st rv cp cc cs gs gn du ls ln dp ss sn cl fs fn wt mt pl := br_t rfl ⟨rfl, h⟩
theorem mx_56t (h : post 1 (pr, lv, nI (t + 1), ou, yu, rm, mk, nI (k + 2), mc, rs, rn, pc, wc, op, nd, ab, st, rv, cp, cc, cs, gs, gn, du, ls, ln, dp, ss, sn, cl, fs, fn, wt, mt, pl)) : wX_workCouple_56 post 1 pr lv (nI (t + 1)) ou yu rm mk (nI k) mc rs rn pc wc op nd ab st rv cp cc cs gs gn du ls ln dp ss sn cl fs fn wt mt pl := br_f (by decide) (nm_r (mr_p2 k) ⟨rfl, h⟩)
theorem mx_loadGet {a j m : Nat} (ht : t < 10) (hd : d < 6) (hdp : dp t = nI d) (hi : i + 1 < 60) (hdu : du t = nI i) (hm : m < 4) (em : nd i = nI m) (hj : j < 3) (ej : nd (i + 1) = nI j) (h : ls (4 * t + m) = 2) (hn : ln (4 * t + m) = nI a) (ha : a < 32) (hs : mr_S (fs (3 * a + j))) : wpX_loadGet post (pr, lv, nI (t + 1), ou, yu, rm, mk, sc, mc, rs, rn, pc, wc, op, nd, ab, st, rv, cp, cc, cs, gs, gn, du, ls, ln, dp, ss, sn, cl, fs, fn, wt, mt, pl) (nI i) ↔ post 1 (pr, lv, nI (t + 1), ou, yu, rm, mk, sc, mc, rs, rn, pc, wc, op, nd, ab, st, rv, cp, cc, cs, gs, gn, upd du t (nI (i + 2)), ls, ln, upd dp t (nI (d + 1)), upd ss (6 * t + d) (fs (3 * a + j)), upd sn (6 * t + d) (fn (3 * a + j)), cl, fs, fn, wt, mt, pl) := by
  have c1 : (nI t).toNatClampNeg = t := nI_clamp (by omega)
  have c2 : (nI i).toNatClampNeg = i := nI_clamp (by omega)
  have c3 : (nI (i + 1)).toNatClampNeg = i + 1 := nI_clamp (by omega)
  have c4 : (nI (4 * t + m)).toNatClampNeg = 4 * t + m := nI_clamp (by omega)
  have c5 : (nI (3 * a + j)).toNatClampNeg = 3 * a + j := nI_clamp (by omega)
  have i1 : vp_in (nI t) 10 := vp_in_nI ht (by decide)
  have i2 : vp_in (nI i) 60 := vp_in_nI (by omega) (by decide)
  have i3 : vp_in (nI (i + 1)) 60 := vp_in_nI hi (by decide)
  have i4 : vp_in (nI (4 * t + m)) 40 := vp_in_nI (by omega) (by decide)
  have i5 : vp_in (nI (3 * a + j)) 96 := vp_in_nI (by omega) (by decide)
  have g : ¬ (6 : Int32) ≤ nI d := nI_ge (b := 6) hd (by decide)
  rw [wpX_loadGet, mx_top, and_iff_right i2, c2, em, mr_i4, nI_add, forall_eq, and_iff_right i1, c1, hdp, mr_bf g, and_iff_right i4, c4, mr_bt h, and_iff_right i4, nI_1, and_iff_right i3, c3, ej, hn, mr_i3, nI_add, forall_eq, and_iff_right i5, and_iff_right i5, c5, mx_push ht hd hdp hs]
  try dsimp only
  rw [and_iff_right i1, and_iff_right i1, forall_eq, hdu, mr_p2]
theorem mx_loadGetf {m : Nat} (ht : t < 10) (hd : d ≤ 6) (hdp : dp t = nI d) (hi : i < 60) (hm : m < 4) (em : nd i = nI m) (h : d = 6 ∨ ¬ ls (4 * t + m) = 2) : wpX_loadGet post (pr, lv, nI (t + 1), ou, yu, rm, mk, sc, mc, rs, rn, pc, wc, op, nd, ab, st, rv, cp, cc, cs, gs, gn, du, ls, ln, dp, ss, sn, cl, fs, fn, wt, mt, pl) (nI i) ↔ post 0 (pr, lv, nI (t + 1), ou, yu, rm, mk, sc, mc, rs, rn, pc, wc, op, nd, ab, st, rv, cp, cc, cs, gs, gn, du, ls, ln, dp, ss, sn, cl, fs, fn, wt, mt, pl) := by
  have c1 : (nI t).toNatClampNeg = t := nI_clamp (by omega)
  have c2 : (nI i).toNatClampNeg = i := nI_clamp (by omega)
  have c4 : (nI (4 * t + m)).toNatClampNeg = 4 * t + m := nI_clamp (by omega)
  have i1 : vp_in (nI t) 10 := vp_in_nI ht (by decide)
  have i2 : vp_in (nI i) 60 := vp_in_nI (by omega) (by decide)
  have i4 : vp_in (nI (4 * t + m)) 40 := vp_in_nI (by omega) (by decide)
  rw [wpX_loadGet, mx_top, and_iff_right i2, c2, em, mr_i4, nI_add, forall_eq, and_iff_right i1, c1, hdp]
  by_cases z : d = 6
  · subst z
    rw [mr_bt (by decide)]
  · have g : ¬ (6 : Int32) ≤ nI d := nI_ge (b := 6) (by omega) (by decide)
    have h' : ¬ ls (4 * t + m) = 2 := h.elim (fun q => absurd q z) id
    rw [mr_bf g, and_iff_right i4, c4, mr_bf h']
theorem mx_pushAdd (ht : t < 10) (hd : d < 6) (hk : 1 ≤ d) (hdp : dp t = nI d) (hi : i < 60) (hdu : du t = nI i) (h : ss (6 * t + (d - 1)) = 1) : wpX_pushAdd post (pr, lv, nI (t + 1), ou, yu, rm, mk, sc, mc, rs, rn, pc, wc, op, nd, ab, st, rv, cp, cc, cs, gs, gn, du, ls, ln, dp, ss, sn, cl, fs, fn, wt, mt, pl) (nI i) ↔ post 1 (pr, lv, nI (t + 1), ou, yu, rm, mk, sc, mc, rs, rn, pc, wc, op, nd, ab, st, rv, cp, cc, cs, gs, gn, upd du t (nI (i + 2)), ls, ln, dp, ss, upd sn (6 * t + (d - 1)) (sn (6 * t + (d - 1)) + nd i), cl, fs, fn, wt, mt, pl) := by
  have c1 : (nI t).toNatClampNeg = t := nI_clamp (by omega)
  have c2 : (nI i).toNatClampNeg = i := nI_clamp (by omega)
  have c4 : (nI (6 * t + (d - 1))).toNatClampNeg = 6 * t + (d - 1) := nI_clamp (by omega)
  have i1 : vp_in (nI t) 10 := vp_in_nI ht (by decide)
  have i2 : vp_in (nI i) 60 := vp_in_nI (by omega) (by decide)
  have i4 : vp_in (nI (6 * t + (d - 1))) 60 := vp_in_nI (by omega) (by decide)
  have g : ¬ (6 : Int32) ≤ nI d := nI_ge (b := 6) hd (by decide)
  have g1 : ¬ nI d < 1 := nI_nlt (b := 1) hk (by omega)
  rw [wpX_pushAdd, mx_top, and_iff_right i1, c1, hdp, mr_bf g1, and_iff_right i1, mr_bf g, mx_sortAt0 ht (by omega) hk hdp, mr_bt h, mx_fromTop0 ht (by omega) hk hdp, and_iff_right i4, and_iff_right i2, and_iff_right i4, c4, c2, forall_eq, and_iff_right i1, and_iff_right i1, forall_eq, hdu, mr_p2]
theorem mx_pushAddf (ht : t < 10) (hd : d ≤ 6) (hdp : dp t = nI d) (h : d = 0 ∨ d = 6 ∨ ¬ ss (6 * t + (d - 1)) = 1) : wpX_pushAdd post (pr, lv, nI (t + 1), ou, yu, rm, mk, sc, mc, rs, rn, pc, wc, op, nd, ab, st, rv, cp, cc, cs, gs, gn, du, ls, ln, dp, ss, sn, cl, fs, fn, wt, mt, pl) (nI i) ↔ post 0 (pr, lv, nI (t + 1), ou, yu, rm, mk, sc, mc, rs, rn, pc, wc, op, nd, ab, st, rv, cp, cc, cs, gs, gn, du, ls, ln, dp, ss, sn, cl, fs, fn, wt, mt, pl) := by
  have c1 : (nI t).toNatClampNeg = t := nI_clamp (by omega)
  have i1 : vp_in (nI t) 10 := vp_in_nI ht (by decide)
  rw [wpX_pushAdd, mx_top, and_iff_right i1, c1, hdp]
  by_cases z : d = 0
  · subst z
    rw [mr_bt (by decide)]
  · have g1 : ¬ nI d < 1 := nI_nlt (b := 1) (by omega) (by omega)
    rw [mr_bf g1, and_iff_right i1]
    by_cases w : d = 6
    · subst w
      rw [mr_bt (by decide)]
    · have g : ¬ (6 : Int32) ≤ nI d := nI_ge (b := 6) (by omega) (by decide)
      have h' : ¬ ss (6 * t + (d - 1)) = 1 := h.elim (fun q => absurd q z) fun q => q.elim (fun q => absurd q w) id
      rw [mr_bf g, mx_sortAt0 ht (by omega) (by omega) hdp, mr_bf h']
theorem mx_lessZero {z : Int32} (ht : t < 10) (hd : d ≤ 6) (hk : 2 ≤ d) (hdp : dp t = nI d) (hi : i + 1 < 60) (h : ss (6 * t + (d - 1)) = 1) (h' : ss (6 * t + (d - 2)) = 1) (hz : (sn (6 * t + (d - 1)) ≤ sn (6 * t + (d - 2)) ∧ z = nd (i + 1)) ∨ (¬ sn (6 * t + (d - 1)) ≤ sn (6 * t + (d - 2)) ∧ z = nI (i + 2))) : wpX_lessZero post (pr, lv, nI (t + 1), ou, yu, rm, mk, sc, mc, rs, rn, pc, wc, op, nd, ab, st, rv, cp, cc, cs, gs, gn, du, ls, ln, dp, ss, sn, cl, fs, fn, wt, mt, pl) (nI i) ↔ post 1 (pr, lv, nI (t + 1), ou, yu, rm, mk, sc, mc, rs, rn, pc, wc, op, nd, ab, st, rv, cp, cc, cs, gs, gn, upd du t z, ls, ln, upd dp t (nI (d - 2)), ss, sn, cl, fs, fn, wt, mt, pl) := by
  have c1 : (nI t).toNatClampNeg = t := nI_clamp (by omega)
  have c3 : (nI (i + 1)).toNatClampNeg = i + 1 := nI_clamp (by omega)
  have i1 : vp_in (nI t) 10 := vp_in_nI ht (by decide)
  have i3 : vp_in (nI (i + 1)) 60 := vp_in_nI hi (by decide)
  have g1 : ¬ nI d < 2 := nI_nlt (b := 2) hk (by omega)
  rw [wpX_lessZero, mx_top, and_iff_right i1, c1, hdp, mr_bf g1, mx_sortAt0 ht hd (by omega) hdp, mr_bt h, mx_sortAt1 ht hd hk hdp, mr_bt h', mx_numberAt1 ht hd hk hdp, mx_numberAt0 ht hd (by omega) hdp]
  rcases hz with ⟨e, rfl⟩ | ⟨e, rfl⟩
  · rw [mr_bt e, wX_lessZero_53, mx_drop2 ht hd hk hdp]
    try dsimp only
    rw [mr_bt (by decide), nI_1, and_iff_right i3, and_iff_right i1, c1, c3, forall_eq]
  · rw [mr_bf e, wX_lessZero_53, mx_drop2 ht hd hk hdp]
    try dsimp only
    rw [mr_bf (by decide), and_iff_right i1, c1, mr_p2, forall_eq]
theorem mx_lessZerof (ht : t < 10) (hd : d ≤ 6) (hdp : dp t = nI d) (h : d < 2 ∨ ¬ ss (6 * t + (d - 1)) = 1 ∨ ¬ ss (6 * t + (d - 2)) = 1) : wpX_lessZero post (pr, lv, nI (t + 1), ou, yu, rm, mk, sc, mc, rs, rn, pc, wc, op, nd, ab, st, rv, cp, cc, cs, gs, gn, du, ls, ln, dp, ss, sn, cl, fs, fn, wt, mt, pl) (nI i) ↔ post 0 (pr, lv, nI (t + 1), ou, yu, rm, mk, sc, mc, rs, rn, pc, wc, op, nd, ab, st, rv, cp, cc, cs, gs, gn, du, ls, ln, dp, ss, sn, cl, fs, fn, wt, mt, pl) := by
  have c1 : (nI t).toNatClampNeg = t := nI_clamp (by omega)
  have i1 : vp_in (nI t) 10 := vp_in_nI ht (by decide)
  rw [wpX_lessZero, mx_top, and_iff_right i1, c1, hdp]
  by_cases z : d < 2
  · have g1 : nI d < 2 := nI_lt (b := 2) z (by decide)
    rw [mr_bt g1]
  · have g1 : ¬ nI d < 2 := nI_nlt (b := 2) (by omega) (by omega)
    rw [mr_bf g1, mx_sortAt0 ht hd (by omega) hdp]
    by_cases w : ss (6 * t + (d - 1)) = 1
    · have h' : ¬ ss (6 * t + (d - 2)) = 1 := h.elim (fun q => absurd q z) fun q => q.elim (fun q => absurd w q) id
      rw [mr_bt w, mx_sortAt1 ht hd (by omega) hdp, mr_bf h']
    · rw [mr_bf w]
theorem mx_loadLoad {m m' : Nat} (ht : t < 10) (hd : d ≤ 4) (hdp : dp t = nI d) (hi : i + 1 < 60) (hdu : du t = nI i) (hm : m < 4) (em : nd i = nI m) (hm' : m' < 4) (em' : nd (i + 1) = nI m') (hs : mr_S (ls (4 * t + m))) (hs' : mr_S (ls (4 * t + m'))) : wpX_loadLoad post (pr, lv, nI (t + 1), ou, yu, rm, mk, sc, mc, rs, rn, pc, wc, op, nd, ab, st, rv, cp, cc, cs, gs, gn, du, ls, ln, dp, ss, sn, cl, fs, fn, wt, mt, pl) (nI i) ↔ post 1 (pr, lv, nI (t + 1), ou, yu, rm, mk, sc, mc, rs, rn, pc, wc, op, nd, ab, st, rv, cp, cc, cs, gs, gn, upd du t (nI (i + 2)), ls, ln, upd dp t (nI (d + 2)), upd (upd ss (6 * t + d) (ls (4 * t + m))) (6 * t + (d + 1)) (ls (4 * t + m')), upd (upd sn (6 * t + d) (ln (4 * t + m))) (6 * t + (d + 1)) (ln (4 * t + m')), cl, fs, fn, wt, mt, pl) := by
  have c1 : (nI t).toNatClampNeg = t := nI_clamp (by omega)
  have c2 : (nI i).toNatClampNeg = i := nI_clamp (by omega)
  have c3 : (nI (i + 1)).toNatClampNeg = i + 1 := nI_clamp (by omega)
  have i1 : vp_in (nI t) 10 := vp_in_nI ht (by decide)
  have i2 : vp_in (nI i) 60 := vp_in_nI (by omega) (by decide)
  have i3 : vp_in (nI (i + 1)) 60 := vp_in_nI hi (by decide)
  have g : nI d ≤ 4 := nI_le (b := 4) hd (by decide)
  rw [wpX_loadLoad, mx_top, and_iff_right i1, c1, hdp, mr_bt g, and_iff_right i2, c2, em, mx_pushLocal ht (by omega) hdp hm hs]
  try dsimp only
  rw [nI_1, and_iff_right i3, c3, em', mx_pushLocal (d := d + 1) ht (by omega) pk_us hm' hs']
  try dsimp only
  rw [and_iff_right i1, and_iff_right i1, forall_eq, hdu, mr_p2, mr_uu]
theorem mx_loadLoadf (ht : t < 10) (hd : d ≤ 6) (hdp : dp t = nI d) (h : 4 < d) : wpX_loadLoad post (pr, lv, nI (t + 1), ou, yu, rm, mk, sc, mc, rs, rn, pc, wc, op, nd, ab, st, rv, cp, cc, cs, gs, gn, du, ls, ln, dp, ss, sn, cl, fs, fn, wt, mt, pl) (nI i) ↔ post 0 (pr, lv, nI (t + 1), ou, yu, rm, mk, sc, mc, rs, rn, pc, wc, op, nd, ab, st, rv, cp, cc, cs, gs, gn, du, ls, ln, dp, ss, sn, cl, fs, fn, wt, mt, pl) := by
  have c1 : (nI t).toNatClampNeg = t := nI_clamp (by omega)
  have i1 : vp_in (nI t) 10 := vp_in_nI ht (by decide)
  have g : ¬ nI d ≤ 4 := nI_ge (a := 4) h (by omega)
  rw [wpX_loadLoad, mx_top, and_iff_right i1, c1, hdp, mr_bf g]
/-! one step -/
def mr_KC (post : Int32 → SX → Prop) (t i : Nat) (r : Int32) (u : SX) : Prop := match u with
  | (pr, lv, fc, ou, yu, rm, mk, sc, mc, rs, rn, pc, wc, op, nd, ab, st, rv, cp, cc, cs, gs, gn, du, ls, ln, dp, ss, sn, cl, fs, fn, wt, mt, pl) => (((r = 0 → (wX_work_69 post (nI t) (nI i) pr lv fc ou yu rm mk sc mc rs rn pc wc op nd ab st rv cp cc cs gs gn du ls ln dp ss sn cl fs fn wt mt pl)) ∧ (¬ r = 0 → (post (-1) (pr, lv, fc, ou, yu, rm, mk, sc, mc, rs, rn, pc, wc, op, nd, ab, st, rv, cp, cc, cs, gs, gn, du, ls, ln, dp, ss, sn, cl, fs, fn, wt, mt, pl)))))
theorem mx_work (ht : t < 10) (hdu : du t = nI i) (hi : i < 60) (hk : k < 300) (hc : lv = 2 → ¬ cp i = 0 → wpX_workCouple (mr_KC post t i) (pr, lv, nI (t + 1), ou, yu, rm, mk, nI k, mc, rs, rn, pc, wc, op, nd, ab, st, rv, cp, cc, cs, gs, gn, du, ls, ln, dp, ss, sn, cl, fs, fn, wt, mt, pl) (nI i) (cp i)) (hn : ¬ (lv = 2 ∧ ¬ cp i = 0) → wX_work_69 post (nI t) (nI i) pr lv (nI (t + 1)) ou yu rm mk (nI k) mc rs rn pc wc op nd ab st rv cp cc cs gs gn du ls ln dp ss sn cl fs fn wt mt pl) : wpX_work post (pr, lv, nI (t + 1), ou, yu, rm, mk, nI k, mc, rs, rn, pc, wc, op, nd, ab, st, rv, cp, cc, cs, gs, gn, du, ls, ln, dp, ss, sn, cl, fs, fn, wt, mt, pl) := by
  have c1 : (nI t).toNatClampNeg = t := nI_clamp (by omega)
  have c2 : (nI i).toNatClampNeg = i := nI_clamp (by omega)
  have i1 : vp_in (nI t) 10 := vp_in_nI ht (by decide)
  have i2 : vp_in (nI i) 60 := vp_in_nI hi (by decide)
  have g1 : ¬ nI i < 0 := nI_pos (by omega)
  have g2 : nI i ≤ 59 := nI_le (b := 59) (by omega) (by decide)
  have g3 : ¬ nI k = 300 := fun e => by have := mr_inj (b := 300) (by omega) (by omega) e; omega
  rw [wpX_work, mx_top, and_iff_right i1, c1, hdu, forall_eq, mr_bf g1, mr_bt g2, mr_bf g3, c2]
  by_cases z : lv = 2
  · by_cases w : cp i = 0
    · exact br_t z ⟨i2, br_t w (hn fun q => q.2 w)⟩
    · exact br_t z ⟨i2, br_f w ⟨i2, hc z w⟩⟩
  · exact br_f z (hn fun q => z q.1)
theorem mx_work_c (ht : t < 10) (h : du t < 0 ∨ 59 < du t) (p : post 1 (pr, lv, nI (t + 1), ou, yu, rm, mk, sc, mc, rs, rn, pc, wc, op, nd, ab, st, rv, cp, cc, cs, gs, gn, du, ls, ln, dp, ss, sn, cl, fs, fn, wt, mt, pl)) : wpX_work post (pr, lv, nI (t + 1), ou, yu, rm, mk, sc, mc, rs, rn, pc, wc, op, nd, ab, st, rv, cp, cc, cs, gs, gn, du, ls, ln, dp, ss, sn, cl, fs, fn, wt, mt, pl) := by
  have c1 : (nI t).toNatClampNeg = t := nI_clamp (by omega)
  have i1 : vp_in (nI t) 10 := vp_in_nI ht (by decide)
  rw [wpX_work, mx_top, and_iff_right i1, c1, forall_eq]
  by_cases z : du t < 0
  · exact br_t z p
  · exact br_f z (br_f (Int32.not_le.mpr (h.elim (fun q => absurd q z) id)) p)
theorem mx_work_t (ht : t < 10) (hdu : du t = nI i) (hi : i < 60) (p : post 2 (pr, lv, nI (t + 1), ou, yu, rm, mk, nI 300, mc, rs, rn, pc, wc, op, nd, ab, st, rv, cp, cc, cs, gs, gn, du, ls, ln, dp, ss, sn, cl, fs, fn, wt, mt, pl)) : wpX_work post (pr, lv, nI (t + 1), ou, yu, rm, mk, nI 300, mc, rs, rn, pc, wc, op, nd, ab, st, rv, cp, cc, cs, gs, gn, du, ls, ln, dp, ss, sn, cl, fs, fn, wt, mt, pl) := by
  have c1 : (nI t).toNatClampNeg = t := nI_clamp (by omega)
  have i1 : vp_in (nI t) 10 := vp_in_nI ht (by decide)
  have g1 : ¬ nI i < 0 := nI_pos (by omega)
  have g2 : nI i ≤ 59 := nI_le (b := 59) (by omega) (by decide)
  rw [wpX_work, mx_top, and_iff_right i1, c1, hdu, forall_eq, mr_bf g1, mr_bt g2]
  exact br_t rfl p
theorem mx_couple_late {w : Int32} (hk : 298 < k) (hk3 : k < 300) (p : post 0 (pr, lv, nI (t + 1), ou, yu, rm, mk, nI k, mc, rs, rn, pc, wc, op, nd, ab, st, rv, cp, cc, cs, gs, gn, du, ls, ln, dp, ss, sn, cl, fs, fn, wt, mt, pl)) : wpX_workCouple post (pr, lv, nI (t + 1), ou, yu, rm, mk, nI k, mc, rs, rn, pc, wc, op, nd, ab, st, rv, cp, cc, cs, gs, gn, du, ls, ln, dp, ss, sn, cl, fs, fn, wt, mt, pl) (nI i) w := by
  rw [wpX_workCouple]
  exact br_f (nI_ge (a := 298) hk (by omega)) p
theorem mx_couple1 (hk : k ≤ 298) (p : wpX_loadGet (fun r u => match u with | (pr, lv, fc, ou, yu, rm, mk, sc, mc, rs, rn, pc, wc, op, nd, ab, st, rv, cp, cc, cs, gs, gn, du, ls, ln, dp, ss, sn, cl, fs, fn, wt, mt, pl) => wX_workCouple_56 post r pr lv fc ou yu rm mk sc mc rs rn pc wc op nd ab st rv cp cc cs gs gn du ls ln dp ss sn cl fs fn wt mt pl) (pr, lv, nI (t + 1), ou, yu, rm, mk, nI k, mc, rs, rn, pc, wc, op, nd, ab, st, rv, cp, cc, cs, gs, gn, du, ls, ln, dp, ss, sn, cl, fs, fn, wt, mt, pl) (nI i)) : wpX_workCouple post (pr, lv, nI (t + 1), ou, yu, rm, mk, nI k, mc, rs, rn, pc, wc, op, nd, ab, st, rv, cp, cc, cs, gs, gn, du, ls, ln, dp, ss, sn, cl, fs, fn, wt, mt, pl) (nI i) 1 := by
  rw [wpX_workCouple]
  exact br_t (nI_le (b := 298) hk (by decide)) (br_t rfl p)
theorem mx_couple2 (hk : k ≤ 298) (p : wpX_pushAdd (fun r u => match u with | (pr, lv, fc, ou, yu, rm, mk, sc, mc, rs, rn, pc, wc, op, nd, ab, st, rv, cp, cc, cs, gs, gn, du, ls, ln, dp, ss, sn, cl, fs, fn, wt, mt, pl) => wX_workCouple_56 post r pr lv fc ou yu rm mk sc mc rs rn pc wc op nd ab st rv cp cc cs gs gn du ls ln dp ss sn cl fs fn wt mt pl) (pr, lv, nI (t + 1), ou, yu, rm, mk, nI k, mc, rs, rn, pc, wc, op, nd, ab, st, rv, cp, cc, cs, gs, gn, du, ls, ln, dp, ss, sn, cl, fs, fn, wt, mt, pl) (nI i)) : wpX_workCouple post (pr, lv, nI (t + 1), ou, yu, rm, mk, nI k, mc, rs, rn, pc, wc, op, nd, ab, st, rv, cp, cc, cs, gs, gn, du, ls, ln, dp, ss, sn, cl, fs, fn, wt, mt, pl) (nI i) 2 := by
  rw [wpX_workCouple]
  exact br_t (nI_le (b := 298) hk (by decide)) (br_f (by decide) (br_t rfl p))
theorem mx_couple3 (hk : k ≤ 298) (p : wpX_lessZero (fun r u => match u with | (pr, lv, fc, ou, yu, rm, mk, sc, mc, rs, rn, pc, wc, op, nd, ab, st, rv, cp, cc, cs, gs, gn, du, ls, ln, dp, ss, sn, cl, fs, fn, wt, mt, pl) => wX_workCouple_56 post r pr lv fc ou yu rm mk sc mc rs rn pc wc op nd ab st rv cp cc cs gs gn du ls ln dp ss sn cl fs fn wt mt pl) (pr, lv, nI (t + 1), ou, yu, rm, mk, nI k, mc, rs, rn, pc, wc, op, nd, ab, st, rv, cp, cc, cs, gs, gn, du, ls, ln, dp, ss, sn, cl, fs, fn, wt, mt, pl) (nI i)) : wpX_workCouple post (pr, lv, nI (t + 1), ou, yu, rm, mk, nI k, mc, rs, rn, pc, wc, op, nd, ab, st, rv, cp, cc, cs, gs, gn, du, ls, ln, dp, ss, sn, cl, fs, fn, wt, mt, pl) (nI i) 3 := by
  rw [wpX_workCouple]
  exact br_t (nI_le (b := 298) hk (by decide)) (br_f (by decide) (br_f (by decide) (br_t rfl p)))
theorem mx_couple4 (hk : k ≤ 298) (p : wpX_loadLoad (fun r u => match u with | (pr, lv, fc, ou, yu, rm, mk, sc, mc, rs, rn, pc, wc, op, nd, ab, st, rv, cp, cc, cs, gs, gn, du, ls, ln, dp, ss, sn, cl, fs, fn, wt, mt, pl) => wX_workCouple_56 post r pr lv fc ou yu rm mk sc mc rs rn pc wc op nd ab st rv cp cc cs gs gn du ls ln dp ss sn cl fs fn wt mt pl) (pr, lv, nI (t + 1), ou, yu, rm, mk, nI k, mc, rs, rn, pc, wc, op, nd, ab, st, rv, cp, cc, cs, gs, gn, du, ls, ln, dp, ss, sn, cl, fs, fn, wt, mt, pl) (nI i)) : wpX_workCouple post (pr, lv, nI (t + 1), ou, yu, rm, mk, nI k, mc, rs, rn, pc, wc, op, nd, ab, st, rv, cp, cc, cs, gs, gn, du, ls, ln, dp, ss, sn, cl, fs, fn, wt, mt, pl) (nI i) 4 := by
  rw [wpX_workCouple]
  exact br_t (nI_le (b := 298) hk (by decide)) (br_f (by decide) (br_f (by decide) (br_f (by decide) p)))
end
end
section
/-! Y: instructions -/
section
variable {yfc yrs yrn ysc ymc ypc yov yen : Int32} {yop ynd yab yst ygs ygn ykd yfs yfn yls yln yss ysn yhp ydu yne you : Nat → Int32} {o : Nat} {post : Int32 → Prop}
theorem my_takes (h : o ≤ 23) : wpY_takes post (yfc, yrs, yrn, ysc, ymc, ypc, yov, yen, yop, ynd, yab, yst, ygs, ygn, ykd, yfs, yfn, yls, yln, yss, ysn, yhp, ydu, yne, you) (nI o) ↔ post (nI (mr_tk o)) := by
  refine mr_o24 (P := fun o => wpY_takes post (yfc, yrs, yrn, ysc, ymc, ypc, yov, yen, yop, ynd, yab, yst, ygs, ygn, ykd, yfs, yfn, yls, yln, yss, ysn, yhp, ydu, yne, you) (nI o) ↔ post (nI (mr_tk o))) h ?_ ?_ ?_ ?_ ?_ ?_ ?_ ?_ ?_ ?_ ?_ ?_ ?_ ?_ ?_ ?_ ?_ ?_ ?_ ?_ ?_ ?_ ?_ ?_ <;> (rw [wpY_takes]; repeat (first | rw [mr_bt (by decide)] | rw [mr_bf (by decide)] | rw [wY_takes_43])) <;> exact Iff.rfl
theorem my_leaves (h : o ≤ 23) : wpY_leaves post (yfc, yrs, yrn, ysc, ymc, ypc, yov, yen, yop, ynd, yab, yst, ygs, ygn, ykd, yfs, yfn, yls, yln, yss, ysn, yhp, ydu, yne, you) (nI o) ↔ post (nI (mr_lv o)) := by
  refine mr_o24 (P := fun o => wpY_leaves post (yfc, yrs, yrn, ysc, ymc, ypc, yov, yen, yop, ynd, yab, yst, ygs, ygn, ykd, yfs, yfn, yls, yln, yss, ysn, yhp, ydu, yne, you) (nI o) ↔ post (nI (mr_lv o))) h ?_ ?_ ?_ ?_ ?_ ?_ ?_ ?_ ?_ ?_ ?_ ?_ ?_ ?_ ?_ ?_ ?_ ?_ ?_ ?_ ?_ ?_ ?_ ?_ <;> (rw [wpY_leaves]; repeat (first | rw [mr_bt (by decide)] | rw [mr_bf (by decide)] | rw [wY_leaves_24] | rw [wY_leaves_36])) <;> exact Iff.rfl
end
section
variable {yrs yrn ysc ymc ypc yov yen : Int32} {yop ynd yab yst ygs ygn ykd yfs yfn yls yln yss ysn yhp ydu yne you : Nat → Int32} {t d i k : Nat} {n : Int32}
theorem my_drop1 {post : SY → Prop} (ht : t < 10) (hd : d ≤ 6) (hk : 1 ≤ d) (hdp : yhp t = nI d) : wpY_drop post (nI (t + 1), yrs, yrn, ysc, ymc, ypc, yov, yen, yop, ynd, yab, yst, ygs, ygn, ykd, yfs, yfn, yls, yln, yss, ysn, yhp, ydu, yne, you) 1 ↔ post (nI (t + 1), yrs, yrn, ysc, ymc, ypc, yov, yen, yop, ynd, yab, yst, ygs, ygn, ykd, yfs, yfn, yls, yln, yss, ysn, upd yhp t (nI (d - 1)), ydu, yne, you) := my_drop (k := 1) ht hd hk hdp
theorem my_drop2 {post : SY → Prop} (ht : t < 10) (hd : d ≤ 6) (hk : 2 ≤ d) (hdp : yhp t = nI d) : wpY_drop post (nI (t + 1), yrs, yrn, ysc, ymc, ypc, yov, yen, yop, ynd, yab, yst, ygs, ygn, ykd, yfs, yfn, yls, yln, yss, ysn, yhp, ydu, yne, you) 2 ↔ post (nI (t + 1), yrs, yrn, ysc, ymc, ypc, yov, yen, yop, ynd, yab, yst, ygs, ygn, ykd, yfs, yfn, yls, yln, yss, ysn, upd yhp t (nI (d - 2)), ydu, yne, you) := my_drop (k := 2) ht hd hk hdp
theorem my_below0 {post : Int32 → Prop} (ht : t < 10) (hd : d ≤ 6) (hk : 1 ≤ d) (hdp : yhp t = nI d) : wpY_below post (nI (t + 1), yrs, yrn, ysc, ymc, ypc, yov, yen, yop, ynd, yab, yst, ygs, ygn, ykd, yfs, yfn, yls, yln, yss, ysn, yhp, ydu, yne, you) 0 ↔ post (nI (6 * t + (d - 1))) := my_below (k := 0) ht hd (by omega) hdp
theorem my_below1 {post : Int32 → Prop} (ht : t < 10) (hd : d ≤ 6) (hk : 2 ≤ d) (hdp : yhp t = nI d) : wpY_below post (nI (t + 1), yrs, yrn, ysc, ymc, ypc, yov, yen, yop, ynd, yab, yst, ygs, ygn, ykd, yfs, yfn, yls, yln, yss, ysn, yhp, ydu, yne, you) 1 ↔ post (nI (6 * t + (d - 2))) := my_below (k := 1) ht hd (by omega) hdp
theorem my_dp1 {post : SY → Prop} {s x : Int32} (ht : t < 10) (hd : d ≤ 6) (hk : 1 ≤ d) : wpY_push post (nI (t + 1), yrs, yrn, ysc, ymc, ypc, yov, yen, yop, ynd, yab, yst, ygs, ygn, ykd, yfs, yfn, yls, yln, yss, ysn, upd yhp t (nI (d - 1)), ydu, yne, you) s x ↔ post (nI (t + 1), yrs, yrn, ysc, ymc, ypc, yov, yen, yop, ynd, yab, yst, ygs, ygn, ykd, yfs, yfn, yls, yln, upd yss (6 * t + (d - 1)) s, upd ysn (6 * t + (d - 1)) x, upd yhp t (nI d), ydu, yne, you) := by
  rw [my_push (d := d - 1) ht (by omega) pk_us]
  try dsimp only
  rw [mr_uu, Nat.sub_add_cancel hk]
theorem my_dp2 {post : SY → Prop} {s x : Int32} (ht : t < 10) (hd : d ≤ 6) (hk : 2 ≤ d) : wpY_push post (nI (t + 1), yrs, yrn, ysc, ymc, ypc, yov, yen, yop, ynd, yab, yst, ygs, ygn, ykd, yfs, yfn, yls, yln, yss, ysn, upd yhp t (nI (d - 2)), ydu, yne, you) s x ↔ post (nI (t + 1), yrs, yrn, ysc, ymc, ypc, yov, yen, yop, ynd, yab, yst, ygs, ygn, ykd, yfs, yfn, yls, yln, upd yss (6 * t + (d - 2)) s, upd ysn (6 * t + (d - 2)) x, upd yhp t (nI (d - 1)), ydu, yne, you) := by
  have e : d - 2 + 1 = d - 1 := by omega
  rw [my_push (d := d - 2) ht (by omega) pk_us]
  try dsimp only
  rw [mr_uu, e]
/-! sorts -/
theorem my_fit {p : Int32 → Prop} {o : Nat} (ho : o ≤ 7 ∨ o = 12 ∨ o = 13 ∨ o = 15 ∨ o = 18 ∨ o = 20 ∨ o = 21 ∨ o = 22) : wpY_sortsFit p (nI (t + 1), yrs, yrn, ysc, ymc, ypc, yov, yen, yop, ynd, yab, yst, ygs, ygn, ykd, yfs, yfn, yls, yln, yss, ysn, yhp, ydu, yne, you) (nI o) ↔ p 1 := by
  have : o = 0 ∨ o = 1 ∨ o = 2 ∨ o = 3 ∨ o = 4 ∨ o = 5 ∨ o = 6 ∨ o = 7 ∨ o = 12 ∨ o = 13 ∨ o = 15 ∨ o = 18 ∨ o = 20 ∨ o = 21 ∨ o = 22 := by omega
  rcases this with rfl | rfl | rfl | rfl | rfl | rfl | rfl | rfl | rfl | rfl | rfl | rfl | rfl | rfl | rfl <;> (rw [wpY_sortsFit]; repeat (first | rw [mr_bt (by decide)] | rw [mr_bf (by decide)] | rw [wY_sortsFit_46]))
theorem my_fit8 {p : Int32 → Prop} {o : Nat} (h8 : 8 ≤ o) (h11 : o ≤ 11) (ht : t < 10) (hd : d ≤ 6) (hk : 2 ≤ d) (hdp : yhp t = nI d) (h : yss (6 * t + (d - 1)) = 1 ∧ yss (6 * t + (d - 2)) = 1) : wpY_sortsFit p (nI (t + 1), yrs, yrn, ysc, ymc, ypc, yov, yen, yop, ynd, yab, yst, ygs, ygn, ykd, yfs, yfn, yls, yln, yss, ysn, yhp, ydu, yne, you) (nI o) ↔ p 1 := by
  have g1 : ¬ nI o < 8 := nI_nlt (b := 8) h8 (by omega)
  have g2 : ¬ 11 < nI o := nI_nlt (a := 11) h11 (by decide)
  have i1 : vp_in (nI (6 * t + (d - 1))) 60 := vp_in_nI (by omega) (by decide)
  have i2 : vp_in (nI (6 * t + (d - 2))) 60 := vp_in_nI (by omega) (by decide)
  rw [wpY_sortsFit, mr_bf g1, mr_bf g2, my_below0 ht hd (by omega) hdp, and_iff_right i1, nI_clamp (n := 6 * t + (d - 1)) (by omega), mr_bt h.1, my_below1 ht hd hk hdp, and_iff_right i2, nI_clamp (n := 6 * t + (d - 2)) (by omega), mr_bt h.2]
theorem my_fit8f {p : Int32 → Prop} {o : Nat} (h8 : 8 ≤ o) (h11 : o ≤ 11) (ht : t < 10) (hd : d ≤ 6) (hk : 2 ≤ d) (hdp : yhp t = nI d) (h : ¬ (yss (6 * t + (d - 1)) = 1 ∧ yss (6 * t + (d - 2)) = 1)) : wpY_sortsFit p (nI (t + 1), yrs, yrn, ysc, ymc, ypc, yov, yen, yop, ynd, yab, yst, ygs, ygn, ykd, yfs, yfn, yls, yln, yss, ysn, yhp, ydu, yne, you) (nI o) ↔ p 0 := by
  have g1 : ¬ nI o < 8 := nI_nlt (b := 8) h8 (by omega)
  have g2 : ¬ 11 < nI o := nI_nlt (a := 11) h11 (by decide)
  have i1 : vp_in (nI (6 * t + (d - 1))) 60 := vp_in_nI (by omega) (by decide)
  have i2 : vp_in (nI (6 * t + (d - 2))) 60 := vp_in_nI (by omega) (by decide)
  rw [wpY_sortsFit, mr_bf g1, mr_bf g2, my_below0 ht hd (by omega) hdp, and_iff_right i1, nI_clamp (n := 6 * t + (d - 1)) (by omega)]
  by_cases z : yss (6 * t + (d - 1)) = 1
  · rw [mr_bt z, my_below1 ht hd hk hdp, and_iff_right i2, nI_clamp (n := 6 * t + (d - 2)) (by omega), mr_bf (fun w => h ⟨z, w⟩)]
  · rw [mr_bf z]
theorem my_fit1 {p : Int32 → Prop} {o : Nat} (ho : o = 14 ∨ o = 23) (ht : t < 10) (hd : d ≤ 6) (hk : 1 ≤ d) (hdp : yhp t = nI d) (h : yss (6 * t + (d - 1)) = 1) : wpY_sortsFit p (nI (t + 1), yrs, yrn, ysc, ymc, ypc, yov, yen, yop, ynd, yab, yst, ygs, ygn, ykd, yfs, yfn, yls, yln, yss, ysn, yhp, ydu, yne, you) (nI o) ↔ p 1 := by
  have i1 : vp_in (nI (6 * t + (d - 1))) 60 := vp_in_nI (by omega) (by decide)
  have e : wY_sortsFit_58 p (nI (t + 1)) yrs yrn ysc ymc ypc yov yen yop ynd yab yst ygs ygn ykd yfs yfn yls yln yss ysn yhp ydu yne you ↔ p 1 := by
    rw [wY_sortsFit_58, my_below0 ht hd hk hdp, and_iff_right i1, nI_clamp (n := 6 * t + (d - 1)) (by omega), mr_bt h]
  rcases ho with rfl | rfl
  · rw [wpY_sortsFit, mr_bf (by decide), mr_bt (by decide), wY_sortsFit_46, mr_bt (by decide), e]
  · rw [wpY_sortsFit, mr_bf (by decide), mr_bt (by decide), wY_sortsFit_46, mr_bf (by decide), mr_bt (by decide), e]
theorem my_fit1f {p : Int32 → Prop} {o : Nat} (ho : o = 14 ∨ o = 23) (ht : t < 10) (hd : d ≤ 6) (hk : 1 ≤ d) (hdp : yhp t = nI d) (h : ¬ yss (6 * t + (d - 1)) = 1) : wpY_sortsFit p (nI (t + 1), yrs, yrn, ysc, ymc, ypc, yov, yen, yop, ynd, yab, yst, ygs, ygn, ykd, yfs, yfn, yls, yln, yss, ysn, yhp, ydu, yne, you) (nI o) ↔ p 0 := by
  have i1 : vp_in (nI (6 * t + (d - 1))) 60 := vp_in_nI (by omega) (by decide)
  have e : wY_sortsFit_58 p (nI (t + 1)) yrs yrn ysc ymc ypc yov yen yop ynd yab yst ygs ygn ykd yfs yfn yls yln yss ysn yhp ydu yne you ↔ p 0 := by
    rw [wY_sortsFit_58, my_below0 ht hd hk hdp, and_iff_right i1, nI_clamp (n := 6 * t + (d - 1)) (by omega), mr_bf h]
  rcases ho with rfl | rfl
  · rw [wpY_sortsFit, mr_bf (by decide), mr_bt (by decide), wY_sortsFit_46, mr_bt (by decide), e]
  · rw [wpY_sortsFit, mr_bf (by decide), mr_bt (by decide), wY_sortsFit_46, mr_bf (by decide), mr_bt (by decide), e]
theorem my_fit16 {p : Int32 → Prop} (ht : t < 10) (hd : d ≤ 6) (hk : 1 ≤ d) (hdp : yhp t = nI d) (h : yss (6 * t + (d - 1)) = 2) : wpY_sortsFit p (nI (t + 1), yrs, yrn, ysc, ymc, ypc, yov, yen, yop, ynd, yab, yst, ygs, ygn, ykd, yfs, yfn, yls, yln, yss, ysn, yhp, ydu, yne, you) (nI 16) ↔ p 1 := by
  have i1 : vp_in (nI (6 * t + (d - 1))) 60 := vp_in_nI (by omega) (by decide)
  rw [wpY_sortsFit, mr_bf (by decide), mr_bt (by decide), wY_sortsFit_46, mr_bf (by decide), mr_bf (by decide), mr_bt (by decide), my_below0 ht hd hk hdp, and_iff_right i1, nI_clamp (n := 6 * t + (d - 1)) (by omega), mr_bt h]
theorem my_fit16f {p : Int32 → Prop} (ht : t < 10) (hd : d ≤ 6) (hk : 1 ≤ d) (hdp : yhp t = nI d) (h : ¬ yss (6 * t + (d - 1)) = 2) : wpY_sortsFit p (nI (t + 1), yrs, yrn, ysc, ymc, ypc, yov, yen, yop, ynd, yab, yst, ygs, ygn, ykd, yfs, yfn, yls, yln, yss, ysn, yhp, ydu, yne, you) (nI 16) ↔ p 0 := by
  have i1 : vp_in (nI (6 * t + (d - 1))) 60 := vp_in_nI (by omega) (by decide)
  rw [wpY_sortsFit, mr_bf (by decide), mr_bt (by decide), wY_sortsFit_46, mr_bf (by decide), mr_bf (by decide), mr_bt (by decide), my_below0 ht hd hk hdp, and_iff_right i1, nI_clamp (n := 6 * t + (d - 1)) (by omega), mr_bf h]
theorem my_fit17 {p : Int32 → Prop} {o : Nat} (ho : o = 17 ∨ o = 19) (ht : t < 10) (hd : d ≤ 6) (hk : 2 ≤ d) (hdp : yhp t = nI d) (h : yss (6 * t + (d - 2)) = 2) : wpY_sortsFit p (nI (t + 1), yrs, yrn, ysc, ymc, ypc, yov, yen, yop, ynd, yab, yst, ygs, ygn, ykd, yfs, yfn, yls, yln, yss, ysn, yhp, ydu, yne, you) (nI o) ↔ p 1 := by
  have i1 : vp_in (nI (6 * t + (d - 2))) 60 := vp_in_nI (by omega) (by decide)
  have e : wY_sortsFit_116 p (nI (t + 1)) yrs yrn ysc ymc ypc yov yen yop ynd yab yst ygs ygn ykd yfs yfn yls yln yss ysn yhp ydu yne you ↔ p 1 := by
    rw [wY_sortsFit_116, my_below1 ht hd hk hdp, and_iff_right i1, nI_clamp (n := 6 * t + (d - 2)) (by omega), mr_bt h]
  rcases ho with rfl | rfl
  · rw [wpY_sortsFit, mr_bf (by decide), mr_bt (by decide), wY_sortsFit_46, mr_bf (by decide), mr_bf (by decide), mr_bf (by decide), mr_bt (by decide), e]
  · rw [wpY_sortsFit, mr_bf (by decide), mr_bt (by decide), wY_sortsFit_46, mr_bf (by decide), mr_bf (by decide), mr_bf (by decide), mr_bf (by decide), mr_bt (by decide), e]
theorem my_fit17f {p : Int32 → Prop} {o : Nat} (ho : o = 17 ∨ o = 19) (ht : t < 10) (hd : d ≤ 6) (hk : 2 ≤ d) (hdp : yhp t = nI d) (h : ¬ yss (6 * t + (d - 2)) = 2) : wpY_sortsFit p (nI (t + 1), yrs, yrn, ysc, ymc, ypc, yov, yen, yop, ynd, yab, yst, ygs, ygn, ykd, yfs, yfn, yls, yln, yss, ysn, yhp, ydu, yne, you) (nI o) ↔ p 0 := by
  have i1 : vp_in (nI (6 * t + (d - 2))) 60 := vp_in_nI (by omega) (by decide)
  have e : wY_sortsFit_116 p (nI (t + 1)) yrs yrn ysc ymc ypc yov yen yop ynd yab yst ygs ygn ykd yfs yfn yls yln yss ysn yhp ydu yne you ↔ p 0 := by
    rw [wY_sortsFit_116, my_below1 ht hd hk hdp, and_iff_right i1, nI_clamp (n := 6 * t + (d - 2)) (by omega), mr_bf h]
  rcases ho with rfl | rfl
  · rw [wpY_sortsFit, mr_bf (by decide), mr_bt (by decide), wY_sortsFit_46, mr_bf (by decide), mr_bf (by decide), mr_bf (by decide), mr_bt (by decide), e]
  · rw [wpY_sortsFit, mr_bf (by decide), mr_bt (by decide), wY_sortsFit_46, mr_bf (by decide), mr_bf (by decide), mr_bf (by decide), mr_bf (by decide), mr_bt (by decide), e]
/-! can -/
theorem my_can_c {post : Int32 → SY → Prop} (ht : t < 10) (h : ydu t < 0 ∨ 59 < ydu t) (p : post 0 (nI (t + 1), yrs, yrn, ysc, ymc, ypc, 1, 1, yop, ynd, yab, yst, ygs, ygn, ykd, yfs, yfn, yls, yln, yss, ysn, yhp, ydu, yne, you)) : wpY_can post (nI (t + 1), yrs, yrn, ysc, ymc, ypc, yov, yen, yop, ynd, yab, yst, ygs, ygn, ykd, yfs, yfn, yls, yln, yss, ysn, yhp, ydu, yne, you) := by
  have c1 : (nI t).toNatClampNeg = t := nI_clamp (by omega)
  have i1 : vp_in (nI t) 10 := vp_in_nI ht (by decide)
  rw [wpY_can, nI_pred, and_iff_right i1, c1, forall_eq, my_in0 h]
  exact br_t rfl (br_f (by decide) p)
theorem my_can_t {post : Int32 → SY → Prop} (ht : t < 10) (hi : i < 60) (hdu : ydu t = nI i) (p : post 0 (nI (t + 1), yrs, yrn, nI 300, ymc, ypc, 1, 2, yop, ynd, yab, yst, ygs, ygn, ykd, yfs, yfn, yls, yln, yss, ysn, yhp, ydu, yne, you)) : wpY_can post (nI (t + 1), yrs, yrn, nI 300, ymc, ypc, yov, yen, yop, ynd, yab, yst, ygs, ygn, ykd, yfs, yfn, yls, yln, yss, ysn, yhp, ydu, yne, you) := by
  have c1 : (nI t).toNatClampNeg = t := nI_clamp (by omega)
  have i1 : vp_in (nI t) 10 := vp_in_nI ht (by decide)
  have g1 : ¬ nI i < 0 := nI_pos (by omega)
  have g2 : ¬ 59 < nI i := nI_nlt (a := 59) (by omega) (by decide)
  rw [wpY_can, nI_pred, and_iff_right i1, c1, hdu, forall_eq, my_in1 g1 g2]
  exact br_f (by decide) (br_t rfl (br_f (by decide) p))
theorem my_can_s {post : Int32 → SY → Prop} {o : Nat} (ho : o ≤ 23) (ht : t < 10) (hd : d ≤ 6) (hdp : yhp t = nI d) (hi : i < 60) (hdu : ydu t = nI i) (hk : k < 300) (e : yop i = nI o) (hf : d < mr_tk o ∨ 6 < d - mr_tk o + mr_lv o) (p : post 0 (nI (t + 1), yrs, yrn, nI k, ymc, ypc, 1, 3, yop, ynd, yab, yst, ygs, ygn, ykd, yfs, yfn, yls, yln, yss, ysn, yhp, ydu, yne, you)) : wpY_can post (nI (t + 1), yrs, yrn, nI k, ymc, ypc, yov, yen, yop, ynd, yab, yst, ygs, ygn, ykd, yfs, yfn, yls, yln, yss, ysn, yhp, ydu, yne, you) := by
  have c1 : (nI t).toNatClampNeg = t := nI_clamp (by omega)
  have c2 : (nI i).toNatClampNeg = i := nI_clamp (by omega)
  have i1 : vp_in (nI t) 10 := vp_in_nI ht (by decide)
  have i2 : vp_in (nI i) 60 := vp_in_nI hi (by decide)
  have g1 : ¬ nI i < 0 := nI_pos (by omega)
  have g2 : ¬ 59 < nI i := nI_nlt (a := 59) (by omega) (by decide)
  have g3 : ¬ nI k = 300 := fun e => by have := mr_inj (b := 300) (by omega) (by omega) e; omega
  have b := mr_tk_le ho
  have q : wY_can_95 post (nI (t + 1)) yrs yrn (nI k) ymc ypc yov yen yop ynd yab yst ygs ygn ykd yfs yfn yls yln yss ysn yhp ydu yne you := br_f (by decide) p
  rw [wpY_can, nI_pred, and_iff_right i1, c1, hdu, forall_eq, my_in1 g1 g2, mr_bf (by decide), mr_bf g3, and_iff_right i2, c2, e, forall_eq, and_iff_right i1, hdp, forall_eq, my_takes ho]
  by_cases z : d < mr_tk o
  · exact br_t (nI_lt z (by omega)) q
  · have g4 : ¬ nI d < nI (mr_tk o) := nI_nlt (by omega) (by omega)
    have g5 : ¬ nI (d - mr_tk o + mr_lv o) ≤ 6 := nI_ge (a := 6) (by omega) (by omega)
    rw [mr_bf g4, my_takes ho, my_leaves ho, pk_sub (by omega), nI_add, mr_bf g5]
    exact q
end
end
section
/-! Y: can, then work -/
section
variable {yrs yrn ysc ymc ypc yen : Int32} {yop ynd yab yst ygs ygn ykd yfs yfn yls yln yss ysn yhp ydu yne you : Nat → Int32} {t d i k o : Nat} {n : Int32} {post : Int32 → SY → Prop}
theorem my_can_0 (ho : o ≤ 23) (ht : t < 10) (hd : d ≤ 6) (hdp : yhp t = nI d) (hi : i < 60) (hdu : ydu t = nI i) (hk : k < 300) (e : yop i = nI o) (h1 : mr_tk o ≤ d) (h2 : d - mr_tk o + mr_lv o ≤ 6) (hf : ∀ p : Int32 → Prop, wpY_sortsFit p (nI (t + 1), yrs, yrn, nI k, ymc, ypc, 0, yen, yop, ynd, yab, yst, ygs, ygn, ykd, yfs, yfn, yls, yln, yss, ysn, yhp, ydu, yne, you) (nI o) ↔ p 0) (p : post 0 (nI (t + 1), yrs, yrn, nI k, ymc, ypc, 1, 4, yop, ynd, yab, yst, ygs, ygn, ykd, yfs, yfn, yls, yln, yss, ysn, yhp, ydu, yne, you)) : wpY_can post (nI (t + 1), yrs, yrn, nI k, ymc, ypc, 0, yen, yop, ynd, yab, yst, ygs, ygn, ykd, yfs, yfn, yls, yln, yss, ysn, yhp, ydu, yne, you) := by
  have c1 : (nI t).toNatClampNeg = t := nI_clamp (by omega)
  have c2 : (nI i).toNatClampNeg = i := nI_clamp (by omega)
  have i1 : vp_in (nI t) 10 := vp_in_nI ht (by decide)
  have i2 : vp_in (nI i) 60 := vp_in_nI hi (by decide)
  have g1 : ¬ nI i < 0 := nI_pos (by omega)
  have g2 : ¬ 59 < nI i := nI_nlt (a := 59) (by omega) (by decide)
  have g3 : ¬ nI k = 300 := fun e => by have := mr_inj (b := 300) (by omega) (by omega) e; omega
  have b := mr_tk_le ho
  have g4 : ¬ nI d < nI (mr_tk o) := nI_nlt (by omega) (by omega)
  have g5 : nI (d - mr_tk o + mr_lv o) ≤ 6 := nI_le (b := 6) h2 (by decide)
  rw [wpY_can, nI_pred, and_iff_right i1, c1, hdu, forall_eq, my_in1 g1 g2, mr_bf (by decide), mr_bf g3, and_iff_right i2, c2, e, forall_eq, and_iff_right i1, hdp, forall_eq, my_takes ho, mr_bf g4, my_takes ho, my_leaves ho, pk_sub (by omega), nI_add, mr_bt g5, hf]
  exact br_t rfl (br_f (by decide) p)
theorem my_can_1 (ho : o ≤ 23) (ht : t < 10) (hd : d ≤ 6) (hdp : yhp t = nI d) (hi : i < 60) (hdu : ydu t = nI i) (hk : k < 300) (e : yop i = nI o) (h1 : mr_tk o ≤ d) (h2 : d - mr_tk o + mr_lv o ≤ 6) (hf : ∀ p : Int32 → Prop, wpY_sortsFit p (nI (t + 1), yrs, yrn, nI k, ymc, ypc, 0, yen, yop, ynd, yab, yst, ygs, ygn, ykd, yfs, yfn, yls, yln, yss, ysn, yhp, ydu, yne, you) (nI o) ↔ p 1) (h15 : o ≠ 15) (h19 : o ≠ 19) (p : post 1 (nI (t + 1), yrs, yrn, nI k, ymc, ypc, 0, yen, yop, ynd, yab, yst, ygs, ygn, ykd, yfs, yfn, yls, yln, yss, ysn, yhp, ydu, yne, you)) : wpY_can post (nI (t + 1), yrs, yrn, nI k, ymc, ypc, 0, yen, yop, ynd, yab, yst, ygs, ygn, ykd, yfs, yfn, yls, yln, yss, ysn, yhp, ydu, yne, you) := by
  have c1 : (nI t).toNatClampNeg = t := nI_clamp (by omega)
  have c2 : (nI i).toNatClampNeg = i := nI_clamp (by omega)
  have i1 : vp_in (nI t) 10 := vp_in_nI ht (by decide)
  have i2 : vp_in (nI i) 60 := vp_in_nI hi (by decide)
  have g1 : ¬ nI i < 0 := nI_pos (by omega)
  have g2 : ¬ 59 < nI i := nI_nlt (a := 59) (by omega) (by decide)
  have g3 : ¬ nI k = 300 := fun e => by have := mr_inj (b := 300) (by omega) (by omega) e; omega
  have b := mr_tk_le ho
  have g4 : ¬ nI d < nI (mr_tk o) := nI_nlt (by omega) (by omega)
  have g5 : nI (d - mr_tk o + mr_lv o) ≤ 6 := nI_le (b := 6) h2 (by decide)
  have g6 : ¬ nI o = 15 := fun e => h15 (mr_inj (b := 15) (by omega) (by omega) e)
  have g7 : ¬ nI o = 19 := fun e => h19 (mr_inj (b := 19) (by omega) (by omega) e)
  rw [wpY_can, nI_pred, and_iff_right i1, c1, hdu, forall_eq, my_in1 g1 g2, mr_bf (by decide), mr_bf g3, and_iff_right i2, c2, e, forall_eq, and_iff_right i1, hdp, forall_eq, my_takes ho, mr_bf g4, my_takes ho, my_leaves ho, pk_sub (by omega), nI_add, mr_bt g5, hf]
  exact br_f (by decide) (br_f g6 (br_f g7 (br_f g7 (br_t rfl p))))
theorem my_can_15 {hh : Nat → Nat} (ht : t < 10) (hd : d < 6) (hdp : yhp t = nI d) (hi : i < 60) (hdu : ydu t = nI i) (hk : k < 300) (e : yop i = nI 15) (H : mr_YH (t + 1) hh ygs ygn yls yln yss ysn yfs yfn yhp (mr_L (t + 1) hh ygs ygn yls yln yss ysn yfs yfn)) :
    ∃ ne', (∀ b, b < 16 → (¬ ne' b = 0 ↔ mr_L (t + 1) hh ygs ygn yls yln yss ysn yfs yfn b)) ∧ (cn (mr_L (t + 1) hh ygs ygn yls yln yss ysn yfs yfn) 16 = 16 → ∀ post : Int32 → SY → Prop, post 0 (nI (t + 1), yrs, yrn, nI k, ymc, ypc, 1, 5, yop, ynd, yab, yst, ygs, ygn, ykd, yfs, yfn, yls, yln, yss, ysn, yhp, ydu, ne', you) → wpY_can post (nI (t + 1), yrs, yrn, nI k, ymc, ypc, 0, yen, yop, ynd, yab, yst, ygs, ygn, ykd, yfs, yfn, yls, yln, yss, ysn, yhp, ydu, yne, you)) ∧
    (cn (mr_L (t + 1) hh ygs ygn yls yln yss ysn yfs yfn) 16 < 16 → ∀ post : Int32 → SY → Prop, post 1 (nI (t + 1), yrs, yrn, nI k, ymc, ypc, 0, yen, yop, ynd, yab, yst, ygs, ygn, ykd, yfs, yfn, yls, yln, yss, ysn, yhp, ydu, ne', you) → wpY_can post (nI (t + 1), yrs, yrn, nI k, ymc, ypc, 0, yen, yop, ynd, yab, yst, ygs, ygn, ykd, yfs, yfn, yls, yln, yss, ysn, yhp, ydu, yne, you)) := by
  have c1 : (nI t).toNatClampNeg = t := nI_clamp (by omega)
  have c2 : (nI i).toNatClampNeg = i := nI_clamp (by omega)
  have i1 : vp_in (nI t) 10 := vp_in_nI ht (by decide)
  have i2 : vp_in (nI i) 60 := vp_in_nI hi (by decide)
  have g1 : ¬ nI i < 0 := nI_pos (by omega)
  have g2 : ¬ 59 < nI i := nI_nlt (a := 59) (by omega) (by decide)
  have g3 : ¬ nI k = 300 := fun e => by have := mr_inj (b := 300) (by omega) (by omega) e; omega
  have g4 : ¬ nI d < nI (mr_tk 15) := nI_nlt (Nat.zero_le _) (by omega)
  have g5 : nI (d - mr_tk 15 + mr_lv 15) ≤ 6 := nI_le (b := 6) (show d - 0 + 1 ≤ 6 by omega) (by decide)
  obtain ⟨ne', h1, h2⟩ := my_mark (ysc := nI k) (yov := 0) (yrs := yrs) (yrn := yrn) (ymc := ymc) (ypc := ypc) (yen := yen) (yop := yop) (ynd := ynd) (yab := yab) (yst := yst) (ygs := ygs) (ygn := ygn) (ykd := ykd) (yfs := yfs) (yfn := yfn) (yls := yls) (yln := yln) (yss := yss) (ysn := ysn) (yhp := yhp) (ydu := ydu) (you := you) (ne := yne) H
  refine ⟨ne', h1, fun z post p => ?_, fun z post p => ?_⟩
  · rw [wpY_can, nI_pred, and_iff_right i1, c1, hdu, forall_eq, my_in1 g1 g2, mr_bf (by decide), mr_bf g3, and_iff_right i2, c2, e, forall_eq, and_iff_right i1, hdp, forall_eq, my_takes (by omega), mr_bf g4, my_takes (by omega), my_leaves (by omega), pk_sub (show mr_tk 15 ≤ d from Nat.zero_le _), nI_add, mr_bt g5, my_fit (by omega)]
    exact br_f (by decide) (br_t rfl (h2 _ (br_t (congrArg nI z) (br_f (by decide) p))))
  · rw [wpY_can, nI_pred, and_iff_right i1, c1, hdu, forall_eq, my_in1 g1 g2, mr_bf (by decide), mr_bf g3, and_iff_right i2, c2, e, forall_eq, and_iff_right i1, hdp, forall_eq, my_takes (by omega), mr_bf g4, my_takes (by omega), my_leaves (by omega), pk_sub (show mr_tk 15 ≤ d from Nat.zero_le _), nI_add, mr_bt g5, my_fit (by omega)]
    exact br_f (by decide) (br_t rfl (h2 _ (br_f (fun q => by have := mr_inj (b := 16) (by omega) (by omega) q; omega) (br_f (by decide) (br_f (by decide) (br_t rfl p))))))
theorem my_can_19 {b c m : Nat} {rv : Nat → Int32} (ht : t < 10) (hd : d ≤ 6) (h2d : 2 ≤ d) (hdp : yhp t = nI d) (hi : i < 60) (hdu : ydu t = nI i) (hk : k < 300) (e : yop i = nI 19) (h : yss (6 * t + (d - 2)) = 2) (hn : ysn (6 * t + (d - 2)) = nI b) (hb : b < 16) (hc : c < 4) (hcl : ykd b = nI c) (hm : m < 4) (em : ynd i = nI m) (hp : mr_PG yop ynd yab yst) (hr : mr_RV yab yst rv)
    (p6 : rv (4 * c + m) = -1 → post 0 (nI (t + 1), yrs, yrn, nI k, ymc, ypc, 1, 6, yop, ynd, yab, yst, ygs, ygn, ykd, yfs, yfn, yls, yln, yss, ysn, yhp, ydu, yne, you)) (p7 : ∀ z, z < 60 → rv (4 * c + m) = nI z → t = 9 → post 0 (nI (t + 1), yrs, yrn, nI k, ymc, ypc, 1, 7, yop, ynd, yab, yst, ygs, ygn, ykd, yfs, yfn, yls, yln, yss, ysn, yhp, ydu, yne, you))
    (p : ∀ z, z < 60 → rv (4 * c + m) = nI z → t < 9 → post 1 (nI (t + 1), yrs, yrn, nI k, ymc, ypc, 0, yen, yop, ynd, yab, yst, ygs, ygn, ykd, yfs, yfn, yls, yln, yss, ysn, yhp, ydu, yne, you)) : wpY_can post (nI (t + 1), yrs, yrn, nI k, ymc, ypc, 0, yen, yop, ynd, yab, yst, ygs, ygn, ykd, yfs, yfn, yls, yln, yss, ysn, yhp, ydu, yne, you) := by
  have c1 : (nI t).toNatClampNeg = t := nI_clamp (by omega)
  have c2 : (nI i).toNatClampNeg = i := nI_clamp (by omega)
  have c3 : (nI (6 * t + (d - 2))).toNatClampNeg = 6 * t + (d - 2) := nI_clamp (by omega)
  have i1 : vp_in (nI t) 10 := vp_in_nI ht (by decide)
  have i2 : vp_in (nI i) 60 := vp_in_nI hi (by decide)
  have i3 : vp_in (nI (6 * t + (d - 2))) 60 := vp_in_nI (by omega) (by decide)
  have g1 : ¬ nI i < 0 := nI_pos (by omega)
  have g2 : ¬ 59 < nI i := nI_nlt (a := 59) (by omega) (by decide)
  have g3 : ¬ nI k = 300 := fun e => by have := mr_inj (b := 300) (by omega) (by omega) e; omega
  have g4 : ¬ nI d < nI (mr_tk 19) := nI_nlt (show 2 ≤ d from h2d) (by omega)
  have g5 : nI (d - mr_tk 19 + mr_lv 19) ≤ 6 := nI_le (b := 6) (show d - 2 + 0 ≤ 6 by omega) (by decide)
  rw [wpY_can, nI_pred, and_iff_right i1, c1, hdu, forall_eq, my_in1 g1 g2, mr_bf (by decide), mr_bf g3, and_iff_right i2, c2, e, forall_eq, and_iff_right i1, hdp, forall_eq, my_takes (by omega), mr_bf g4, my_takes (by omega), my_leaves (by omega), pk_sub (show mr_tk 19 ≤ d from h2d), nI_add, mr_bt g5, my_fit17 (Or.inr rfl) ht hd h2d hdp h]
  refine br_f (by decide) (br_f (by decide) ?_)
  rw [wY_can_142, mr_bt (by decide), and_iff_right i2, c2, em, wpY_start, my_below1 ht hd h2d hdp, and_iff_right i3, c3, hn, mr_and15 b hb]
  refine my_find hb hc hm hcl hp hr ?_
  rcases mr_RV_r hp hr hm c hc with z | ⟨z, hz, ez⟩
  · rw [z]
    exact br_f (by decide) (br_f (by decide) (p6 z))
  · rw [ez]
    refine br_t (nI_pos' (by omega)) (br_t rfl ?_)
    by_cases w : t = 9
    · subst w
      exact br_t rfl (br_f (by decide) (p7 z hz ez rfl))
    · exact br_f (fun q => by have := mr_inj (a := t + 1) (b := 10) (by omega) (by omega) q; omega) (br_t rfl (p z hz ez (by omega)))
end
end
section
/-! Y: work -/
section
variable {yrs yrn ymc ypc yov yen : Int32} {yop ynd yab yst ygs ygn ykd yfs yfn yls yln yss ysn yhp ydu yne you : Nat → Int32} {t d i k o : Nat} {n : Int32} {post : SY → Prop}
theorem my_ws (ho : o ≤ 23) (h0 : o ≠ 0) (h13 : o ≠ 13) (h15 : o ≠ 15) (h19 : o ≠ 19) (h20 : o ≠ 20) (h2 : mr_tk o ≠ 2) (ht : t < 10) (hi : i < 60) (hdu : ydu t = nI i) (e : yop i = nI o) : wpY_work post (nI (t + 1), yrs, yrn, nI k, ymc, ypc, yov, yen, yop, ynd, yab, yst, ygs, ygn, ykd, yfs, yfn, yls, yln, yss, ysn, yhp, ydu, yne, you) ↔ wpY_simple (fun u => post u) (nI (t + 1), yrs, yrn, nI (k + 1), ymc, ypc, yov, yen, yop, ynd, yab, yst, ygs, ygn, ykd, yfs, yfn, yls, yln, yss, ysn, yhp, upd ydu t (nI (i + 1)), yne, you) (nI o) (ynd i) := by
  have c1 : (nI t).toNatClampNeg = t := nI_clamp (by omega)
  have c2 : (nI i).toNatClampNeg = i := nI_clamp (by omega)
  have i1 : vp_in (nI t) 10 := vp_in_nI ht (by decide)
  have i2 : vp_in (nI i) 60 := vp_in_nI hi (by decide)
  have b := mr_tk_le ho
  have g0 : ¬ nI o = 0 := fun e => h0 (mr_inj (b := 0) (by omega) (by omega) e)
  have g13 : ¬ nI o = 13 := fun e => h13 (mr_inj (b := 13) (by omega) (by omega) e)
  have g15 : ¬ nI o = 15 := fun e => h15 (mr_inj (b := 15) (by omega) (by omega) e)
  have g19 : ¬ nI o = 19 := fun e => h19 (mr_inj (b := 19) (by omega) (by omega) e)
  have g20 : ¬ nI o = 20 := fun e => h20 (mr_inj (b := 20) (by omega) (by omega) e)
  have g2 : ¬ nI (mr_tk o) = 2 := fun e => h2 (mr_inj (b := 2) (by omega) (by omega) e)
  rw [wpY_work, nI_pred, and_iff_right i1, c1, hdu, forall_eq, and_iff_right i2, c2, e, forall_eq, and_iff_right i1, and_iff_right i1, nI_1, forall_eq, nI_1, forall_eq, mr_bf g0, mr_bf g13, mr_bf g15, mr_bf g19, mr_bf g20, my_takes ho, mr_bf g2, and_iff_right i2]
theorem my_wt (ho : o ≤ 23) (h19 : o ≠ 19) (h2 : mr_tk o = 2) (ht : t < 10) (hi : i < 60) (hdu : ydu t = nI i) (e : yop i = nI o) : wpY_work post (nI (t + 1), yrs, yrn, nI k, ymc, ypc, yov, yen, yop, ynd, yab, yst, ygs, ygn, ykd, yfs, yfn, yls, yln, yss, ysn, yhp, ydu, yne, you) ↔ wpY_two (fun u => post u) (nI (t + 1), yrs, yrn, nI (k + 1), ymc, ypc, yov, yen, yop, ynd, yab, yst, ygs, ygn, ykd, yfs, yfn, yls, yln, yss, ysn, yhp, upd ydu t (nI (i + 1)), yne, you) (nI o) (ynd i) := by
  have c1 : (nI t).toNatClampNeg = t := nI_clamp (by omega)
  have c2 : (nI i).toNatClampNeg = i := nI_clamp (by omega)
  have i1 : vp_in (nI t) 10 := vp_in_nI ht (by decide)
  have i2 : vp_in (nI i) 60 := vp_in_nI hi (by decide)
  have h0 : o ≠ 0 := fun e => by subst e; exact absurd h2 (by decide)
  have h13 : o ≠ 13 := fun e => by subst e; exact absurd h2 (by decide)
  have h15 : o ≠ 15 := fun e => by subst e; exact absurd h2 (by decide)
  have h20 : o ≠ 20 := fun e => by subst e; exact absurd h2 (by decide)
  have g0 : ¬ nI o = 0 := fun e => h0 (mr_inj (b := 0) (by omega) (by omega) e)
  have g13 : ¬ nI o = 13 := fun e => h13 (mr_inj (b := 13) (by omega) (by omega) e)
  have g15 : ¬ nI o = 15 := fun e => h15 (mr_inj (b := 15) (by omega) (by omega) e)
  have g19 : ¬ nI o = 19 := fun e => h19 (mr_inj (b := 19) (by omega) (by omega) e)
  have g20 : ¬ nI o = 20 := fun e => h20 (mr_inj (b := 20) (by omega) (by omega) e)
  have g2 : nI (mr_tk o) = 2 := by rw [h2]; rfl
  rw [wpY_work, nI_pred, and_iff_right i1, c1, hdu, forall_eq, and_iff_right i2, c2, e, forall_eq, and_iff_right i1, and_iff_right i1, nI_1, forall_eq, nI_1, forall_eq, mr_bf g0, mr_bf g13, mr_bf g15, mr_bf g19, mr_bf g20, my_takes ho, mr_bt g2, and_iff_right i2]
theorem my_w0 (ht : t < 10) (hi : i < 60) (hdu : ydu t = nI i) (e : yop i = nI 0) : wpY_work post (nI (t + 1), yrs, yrn, nI k, ymc, ypc, yov, yen, yop, ynd, yab, yst, ygs, ygn, ykd, yfs, yfn, yls, yln, yss, ysn, yhp, ydu, yne, you) ↔ post (nI (t + 1), yrs, yrn, nI (k + 1), ymc, ypc, 1, 0, yop, ynd, yab, yst, ygs, ygn, ykd, yfs, yfn, yls, yln, yss, ysn, yhp, upd ydu t (nI (i + 1)), yne, you) := by
  have c1 : (nI t).toNatClampNeg = t := nI_clamp (by omega)
  have c2 : (nI i).toNatClampNeg = i := nI_clamp (by omega)
  have i1 : vp_in (nI t) 10 := vp_in_nI ht (by decide)
  have i2 : vp_in (nI i) 60 := vp_in_nI hi (by decide)
  rw [wpY_work, nI_pred, and_iff_right i1, c1, hdu, forall_eq, and_iff_right i2, c2, e, forall_eq, and_iff_right i1, and_iff_right i1, nI_1, forall_eq, nI_1, forall_eq, mr_bt (by decide), my_stop]
theorem my_w13 (ht : t < 10) (hi : i < 60) (hdu : ydu t = nI i) (e : yop i = nI 13) : wpY_work post (nI (t + 1), yrs, yrn, nI k, ymc, ypc, yov, yen, yop, ynd, yab, yst, ygs, ygn, ykd, yfs, yfn, yls, yln, yss, ysn, yhp, ydu, yne, you) ↔ post (nI (t + 1), yrs, yrn, nI (k + 1), ymc, ypc, yov, yen, yop, ynd, yab, yst, ygs, ygn, ykd, yfs, yfn, yls, yln, yss, ysn, yhp, upd ydu t (ynd i), yne, you) := by
  have c1 : (nI t).toNatClampNeg = t := nI_clamp (by omega)
  have c2 : (nI i).toNatClampNeg = i := nI_clamp (by omega)
  have i1 : vp_in (nI t) 10 := vp_in_nI ht (by decide)
  have i2 : vp_in (nI i) 60 := vp_in_nI hi (by decide)
  rw [wpY_work, nI_pred, and_iff_right i1, c1, hdu, forall_eq, and_iff_right i2, c2, e, forall_eq, and_iff_right i1, and_iff_right i1, nI_1, forall_eq, nI_1, forall_eq, mr_bf (by decide), mr_bt (by decide), and_iff_right i2, and_iff_right i1, forall_eq, mr_uu]
theorem my_w15 (ht : t < 10) (hi : i < 60) (hdu : ydu t = nI i) (e : yop i = nI 15) : wpY_work post (nI (t + 1), yrs, yrn, nI k, ymc, ypc, yov, yen, yop, ynd, yab, yst, ygs, ygn, ykd, yfs, yfn, yls, yln, yss, ysn, yhp, ydu, yne, you) ↔ wpY_make (fun u => post u) (nI (t + 1), yrs, yrn, nI (k + 1), ymc, ypc, yov, yen, yop, ynd, yab, yst, ygs, ygn, ykd, yfs, yfn, yls, yln, yss, ysn, yhp, upd ydu t (nI (i + 1)), yne, you) (ynd i) := by
  have c1 : (nI t).toNatClampNeg = t := nI_clamp (by omega)
  have c2 : (nI i).toNatClampNeg = i := nI_clamp (by omega)
  have i1 : vp_in (nI t) 10 := vp_in_nI ht (by decide)
  have i2 : vp_in (nI i) 60 := vp_in_nI hi (by decide)
  rw [wpY_work, nI_pred, and_iff_right i1, c1, hdu, forall_eq, and_iff_right i2, c2, e, forall_eq, and_iff_right i1, and_iff_right i1, nI_1, forall_eq, nI_1, forall_eq, mr_bf (by decide), mr_bf (by decide), mr_bt (by decide), and_iff_right i2]
theorem my_w19 (ht : t < 10) (hi : i < 60) (hdu : ydu t = nI i) (e : yop i = nI 19) : wpY_work post (nI (t + 1), yrs, yrn, nI k, ymc, ypc, yov, yen, yop, ynd, yab, yst, ygs, ygn, ykd, yfs, yfn, yls, yln, yss, ysn, yhp, ydu, yne, you) ↔ wpY_call (fun u => post u) (nI (t + 1), yrs, yrn, nI (k + 1), ymc, ypc, yov, yen, yop, ynd, yab, yst, ygs, ygn, ykd, yfs, yfn, yls, yln, yss, ysn, yhp, upd ydu t (nI (i + 1)), yne, you) (ynd i) := by
  have c1 : (nI t).toNatClampNeg = t := nI_clamp (by omega)
  have c2 : (nI i).toNatClampNeg = i := nI_clamp (by omega)
  have i1 : vp_in (nI t) 10 := vp_in_nI ht (by decide)
  have i2 : vp_in (nI i) 60 := vp_in_nI hi (by decide)
  rw [wpY_work, nI_pred, and_iff_right i1, c1, hdu, forall_eq, and_iff_right i2, c2, e, forall_eq, and_iff_right i1, and_iff_right i1, nI_1, forall_eq, nI_1, forall_eq, mr_bf (by decide), mr_bf (by decide), mr_bf (by decide), mr_bt (by decide), and_iff_right i2]
theorem my_w20 (ht : t < 10) (hi : i < 60) (hdu : ydu t = nI i) (e : yop i = nI 20) : wpY_work post (nI (t + 1), yrs, yrn, nI k, ymc, ypc, yov, yen, yop, ynd, yab, yst, ygs, ygn, ykd, yfs, yfn, yls, yln, yss, ysn, yhp, ydu, yne, you) ↔ wpY_leave (fun u => post u) (nI (t + 1), yrs, yrn, nI (k + 1), ymc, ypc, yov, yen, yop, ynd, yab, yst, ygs, ygn, ykd, yfs, yfn, yls, yln, yss, ysn, yhp, upd ydu t (nI (i + 1)), yne, you) := by
  have c1 : (nI t).toNatClampNeg = t := nI_clamp (by omega)
  have c2 : (nI i).toNatClampNeg = i := nI_clamp (by omega)
  have i1 : vp_in (nI t) 10 := vp_in_nI ht (by decide)
  have i2 : vp_in (nI i) 60 := vp_in_nI hi (by decide)
  rw [wpY_work, nI_pred, and_iff_right i1, c1, hdu, forall_eq, and_iff_right i2, c2, e, forall_eq, and_iff_right i1, and_iff_right i1, nI_1, forall_eq, nI_1, forall_eq, mr_bf (by decide), mr_bf (by decide), mr_bf (by decide), mr_bf (by decide), mr_bt (by decide)]
end
section
variable {yrs yrn ysc ymc ypc yov yen : Int32} {yop ynd yab yst ygs ygn ykd yfs yfn yls yln yss ysn yhp ydu yne you : Nat → Int32} {t d i k : Nat} {n : Int32} {post : SY → Prop}
theorem my_s1 (ht : t < 10) (hd : d < 6) (hdp : yhp t = nI d) : wpY_simple post (nI (t + 1), yrs, yrn, ysc, ymc, ypc, yov, yen, yop, ynd, yab, yst, ygs, ygn, ykd, yfs, yfn, yls, yln, yss, ysn, yhp, ydu, yne, you) (nI 1) n ↔ post (nI (t + 1), yrs, yrn, ysc, ymc, ypc, yov, yen, yop, ynd, yab, yst, ygs, ygn, ykd, yfs, yfn, yls, yln, upd yss (6 * t + d) 1, upd ysn (6 * t + d) n, upd yhp t (nI (d + 1)), ydu, yne, you) := by
  rw [wpY_simple, forall_eq, mr_bt (by decide), my_push ht hd hdp]
theorem my_s2 (ht : t < 10) (hd : d < 6) (hdp : yhp t = nI d) : wpY_simple post (nI (t + 1), yrs, yrn, ysc, ymc, ypc, yov, yen, yop, ynd, yab, yst, ygs, ygn, ykd, yfs, yfn, yls, yln, yss, ysn, yhp, ydu, yne, you) (nI 2) n ↔ post (nI (t + 1), yrs, yrn, ysc, ymc, ypc, yov, yen, yop, ynd, yab, yst, ygs, ygn, ykd, yfs, yfn, yls, yln, upd yss (6 * t + d) 0, upd ysn (6 * t + d) 0, upd yhp t (nI (d + 1)), ydu, yne, you) := by
  rw [wpY_simple, forall_eq, mr_bf (by decide), mr_bt (by decide), my_push ht hd hdp]
theorem mr_and3 : ∀ b, b < 4 → nI b &&& 3 = nI b := by decide +kernel
theorem my_s3 {m : Nat} (hm : m < 4) (ht : t < 10) (hd : d < 6) (hdp : yhp t = nI d) : wpY_simple post (nI (t + 1), yrs, yrn, ysc, ymc, ypc, yov, yen, yop, ynd, yab, yst, ygs, ygn, ykd, yfs, yfn, yls, yln, yss, ysn, yhp, ydu, yne, you) (nI 3) (nI m) ↔ post (nI (t + 1), yrs, yrn, ysc, ymc, ypc, yov, yen, yop, ynd, yab, yst, ygs, ygn, ykd, yfs, yfn, yls, yln, upd yss (6 * t + d) (yls (4 * t + m)), upd ysn (6 * t + d) (yln (4 * t + m)), upd yhp t (nI (d + 1)), ydu, yne, you) := by
  have i1 : vp_in (nI (4 * t + m)) 40 := vp_in_nI (by omega) (by decide)
  rw [wpY_simple, forall_eq, mr_bf (by decide), mr_bf (by decide), mr_bt (by decide), nI_pred, mr_i4, mr_and3 m hm, nI_add, and_iff_right i1, and_iff_right i1, nI_clamp (n := 4 * t + m) (by omega), my_push ht hd hdp]
theorem my_s21 {m : Nat} (hm : m < 4) (ht : t < 10) (hd : d < 6) (hdp : yhp t = nI d) : wpY_simple post (nI (t + 1), yrs, yrn, ysc, ymc, ypc, yov, yen, yop, ynd, yab, yst, ygs, ygn, ykd, yfs, yfn, yls, yln, yss, ysn, yhp, ydu, yne, you) (nI 21) (nI m) ↔ post (nI (t + 1), yrs, yrn, ysc, ymc, ypc, yov, yen, yop, ynd, yab, yst, ygs, ygn, ykd, yfs, yfn, yls, yln, upd yss (6 * t + d) (ygs m), upd ysn (6 * t + d) (ygn m), upd yhp t (nI (d + 1)), ydu, yne, you) := by
  have i1 : vp_in (nI m) 4 := vp_in_nI (by omega) (by decide)
  rw [wpY_simple, forall_eq, mr_bf (by decide), mr_bf (by decide), mr_bf (by decide), mr_bt (by decide), and_iff_right i1, and_iff_right i1, nI_clamp (n := m) (by omega), my_push ht hd hdp]
theorem my_s6 (ht : t < 10) (hd : d < 6) (hk : 1 ≤ d) (hdp : yhp t = nI d) : wpY_simple post (nI (t + 1), yrs, yrn, ysc, ymc, ypc, yov, yen, yop, ynd, yab, yst, ygs, ygn, ykd, yfs, yfn, yls, yln, yss, ysn, yhp, ydu, yne, you) (nI 6) n ↔ post (nI (t + 1), yrs, yrn, ysc, ymc, ypc, yov, yen, yop, ynd, yab, yst, ygs, ygn, ykd, yfs, yfn, yls, yln, upd yss (6 * t + d) (yss (6 * t + (d - 1))), upd ysn (6 * t + d) (ysn (6 * t + (d - 1))), upd yhp t (nI (d + 1)), ydu, yne, you) := by
  have i1 : vp_in (nI (6 * t + (d - 1))) 60 := vp_in_nI (by omega) (by decide)
  rw [wpY_simple, forall_eq, mr_bf (by decide), mr_bf (by decide), mr_bf (by decide), mr_bf (by decide), mr_bt (by decide), my_below0 ht (by omega) hk hdp, and_iff_right i1, and_iff_right i1, nI_clamp (n := 6 * t + (d - 1)) (by omega), my_push ht hd hdp]
/-- values that are objects have a kind -/
def mr_YV (ykd : Nat → Int32) (s v : Int32) : Prop := s = 2 → ∃ b c, b < 16 ∧ c < 4 ∧ v = nI b ∧ ykd b = nI c
theorem my_239 {fc : Int32} {o : Nat} {x2 x4 x5 : Int32} (ho : o ≤ 23) (h18 : o ≠ 18) (h23 : o ≠ 23) (hp : mr_PG yop ynd yab yst) (hv : mr_YV ykd x4 x5) (p : post (fc, yrs, yrn, ysc, ymc, ypc, yov, yen, yop, ynd, yab, yst, ygs, ygn, ykd, yfs, yfn, yls, yln, yss, ysn, yhp, ydu, yne, you)) : wY_simple_239 post (nI o) x2 x4 x5 fc yrs yrn ysc ymc ypc yov yen yop ynd yab yst ygs ygn ykd yfs yfn yls yln yss ysn yhp ydu yne you := by
  have g18 : ¬ nI o = 18 := fun e => h18 (mr_inj (b := 18) (by omega) (by omega) e)
  have g23 : ¬ nI o = 23 := fun e => h23 (mr_inj (b := 23) (by omega) (by omega) e)
  have q : ∀ z, wY_simple_263 post (nI o) x5 z fc yrs yrn ysc ymc ypc yov yen yop ynd yab yst ygs ygn ykd yfs yfn yls yln yss ysn yhp ydu yne you := fun z => br_f g18 (br_f g23 p)
  rw [wY_simple_239]
  refine br_c (fun e => ?_) fun _ => q 0
  obtain ⟨b, c, hb, hc, rfl, ec⟩ := hv e
  rw [mr_and15 b hb, wpY_isOf, nI_clamp (n := b) (by omega), ec]
  exact ⟨vp_in_nI hb (by decide), nm_e ⟨5, my_isOf_any hp (br_t rfl (q 0)) (br_f (by decide) (q 1)) 5 0 (nI c) (by omega) (by omega) (Or.inr ⟨c, hc, rfl⟩)⟩⟩
theorem my_sx {o : Nat} (ho : o ≤ 23) (h1 : o ≠ 1) (h2 : o ≠ 2) (h3 : o ≠ 3) (h21 : o ≠ 21) (h6 : o ≠ 6) (h4 : o ≠ 4) (h22 : o ≠ 22) (ht : t < 10) (hd : d ≤ 6) (hk : 1 ≤ d) (hdp : yhp t = nI d) : wpY_simple post (nI (t + 1), yrs, yrn, ysc, ymc, ypc, yov, yen, yop, ynd, yab, yst, ygs, ygn, ykd, yfs, yfn, yls, yln, yss, ysn, yhp, ydu, yne, you) (nI o) n ↔ wY_simple_184 post (nI o) n (yss (6 * t + (d - 1))) (ysn (6 * t + (d - 1))) (nI (t + 1)) yrs yrn ysc ymc ypc yov yen yop ynd yab yst ygs ygn ykd yfs yfn yls yln yss ysn (upd yhp t (nI (d - 1))) ydu yne you := by
  have i1 : vp_in (nI (6 * t + (d - 1))) 60 := vp_in_nI (by omega) (by decide)
  have c1 : (nI (6 * t + (d - 1))).toNatClampNeg = 6 * t + (d - 1) := nI_clamp (by omega)
  have g1 : ¬ nI o = 1 := fun e => h1 (mr_inj (b := 1) (by omega) (by omega) e)
  have g2 : ¬ nI o = 2 := fun e => h2 (mr_inj (b := 2) (by omega) (by omega) e)
  have g3 : ¬ nI o = 3 := fun e => h3 (mr_inj (b := 3) (by omega) (by omega) e)
  have g21 : ¬ nI o = 21 := fun e => h21 (mr_inj (b := 21) (by omega) (by omega) e)
  have g6 : ¬ nI o = 6 := fun e => h6 (mr_inj (b := 6) (by omega) (by omega) e)
  have g4 : ¬ nI o = 4 := fun e => h4 (mr_inj (b := 4) (by omega) (by omega) e)
  have g22 : ¬ nI o = 22 := fun e => h22 (mr_inj (b := 22) (by omega) (by omega) e)
  rw [wpY_simple, forall_eq, mr_bf g1, mr_bf g2, mr_bf g3, mr_bf g21, mr_bf g6, my_below0 ht hd hk hdp, and_iff_right i1, c1, forall_eq, my_below0 ht hd hk hdp, and_iff_right i1, c1, forall_eq, my_drop1 ht hd hk hdp]
  try dsimp only
  rw [mr_bf g4, mr_bf g22]
theorem my_s5 (ht : t < 10) (hd : d ≤ 6) (hk : 1 ≤ d) (hdp : yhp t = nI d) (hp : mr_PG yop ynd yab yst) (hv : mr_YV ykd (yss (6 * t + (d - 1))) (ysn (6 * t + (d - 1)))) (p : post (nI (t + 1), yrs, yrn, ysc, ymc, ypc, yov, yen, yop, ynd, yab, yst, ygs, ygn, ykd, yfs, yfn, yls, yln, yss, ysn, upd yhp t (nI (d - 1)), ydu, yne, you)) : wpY_simple post (nI (t + 1), yrs, yrn, ysc, ymc, ypc, yov, yen, yop, ynd, yab, yst, ygs, ygn, ykd, yfs, yfn, yls, yln, yss, ysn, yhp, ydu, yne, you) (nI 5) n := by
  rw [my_sx (by omega) (by omega) (by omega) (by omega) (by omega) (by omega) (by omega) (by omega) ht hd hk hdp]
  exact br_f (by decide) (br_f (by decide) (my_239 (by omega) (by omega) (by omega) hp hv p))
theorem my_s14 {z : Int32} (ht : t < 10) (hd : d ≤ 6) (hk : 1 ≤ d) (hdp : yhp t = nI d) (hp : mr_PG yop ynd yab yst) (h : yss (6 * t + (d - 1)) = 1) (hz : (ysn (6 * t + (d - 1)) = 0 ∧ z = n) ∨ (¬ ysn (6 * t + (d - 1)) = 0 ∧ z = nI i)) (p : post (nI (t + 1), yrs, yrn, ysc, ymc, ypc, yov, yen, yop, ynd, yab, yst, ygs, ygn, ykd, yfs, yfn, yls, yln, yss, ysn, upd yhp t (nI (d - 1)), upd ydu t z, yne, you)) : wpY_simple post (nI (t + 1), yrs, yrn, ysc, ymc, ypc, yov, yen, yop, ynd, yab, yst, ygs, ygn, ykd, yfs, yfn, yls, yln, yss, ysn, yhp, upd ydu t (nI i), yne, you) (nI 14) n := by
  have hv : mr_YV ykd (yss (6 * t + (d - 1))) (ysn (6 * t + (d - 1))) := fun e => absurd (h.symm.trans e) (by decide)
  rw [my_sx (by omega) (by omega) (by omega) (by omega) (by omega) (by omega) (by omega) (by omega) ht hd hk hdp]
  rcases hz with ⟨e, rfl⟩ | ⟨e, rfl⟩
  · refine br_t rfl (br_t e ?_)
    rw [nI_pred, nI_clamp (n := t) (by omega), mr_uu]
    exact ⟨vp_in_nI ht (by decide), nm_e (br_f (by decide) (my_239 (by omega) (by omega) (by omega) hp hv p))⟩
  · exact br_t rfl (br_f e (br_f (by decide) (my_239 (by omega) (by omega) (by omega) hp hv p)))
theorem my_s16 {b j : Nat} (ht : t < 10) (hd : d ≤ 6) (hk : 1 ≤ d) (hdp : yhp t = nI d) (hp : mr_PG yop ynd yab yst) (hj : j < 3) (hb : b < 16) (hn : ysn (6 * t + (d - 1)) = nI b) (hv : mr_YV ykd (yss (6 * t + (d - 1))) (ysn (6 * t + (d - 1)))) (p : post (nI (t + 1), yrs, yrn, ysc, ymc, ypc, yov, yen, yop, ynd, yab, yst, ygs, ygn, ykd, yfs, yfn, yls, yln, upd yss (6 * t + (d - 1)) (yfs (3 * b + j)), upd ysn (6 * t + (d - 1)) (yfn (3 * b + j)), upd yhp t (nI d), ydu, yne, you)) : wpY_simple post (nI (t + 1), yrs, yrn, ysc, ymc, ypc, yov, yen, yop, ynd, yab, yst, ygs, ygn, ykd, yfs, yfn, yls, yln, yss, ysn, yhp, ydu, yne, you) (nI 16) (nI j) := by
  have i1 : vp_in (nI (3 * b + j)) 48 := vp_in_nI (by omega) (by decide)
  rw [my_sx (by omega) (by omega) (by omega) (by omega) (by omega) (by omega) (by omega) (by omega) ht hd hk hdp]
  refine br_f (by decide) ?_
  rw [wY_simple_207, mr_bt (by decide)]
  rw [hn] at hv ⊢
  rw [mr_i3, nI_add, nI_clamp (n := 3 * b + j) (by omega), and_iff_right i1, and_iff_right i1, my_dp1 ht hd hk]
  exact my_239 (by omega) (by omega) (by omega) hp hv p
theorem my_s18n (ht : t < 10) (hd : d ≤ 6) (hk : 1 ≤ d) (hdp : yhp t = nI d) (h : ¬ yss (6 * t + (d - 1)) = 2) (p : post (nI (t + 1), yrs, yrn, ysc, ymc, ypc, yov, yen, yop, ynd, yab, yst, ygs, ygn, ykd, yfs, yfn, yls, yln, upd yss (6 * t + (d - 1)) 1, upd ysn (6 * t + (d - 1)) 0, upd yhp t (nI d), ydu, yne, you)) : wpY_simple post (nI (t + 1), yrs, yrn, ysc, ymc, ypc, yov, yen, yop, ynd, yab, yst, ygs, ygn, ykd, yfs, yfn, yls, yln, yss, ysn, yhp, ydu, yne, you) (nI 18) n := by
  rw [my_sx (by omega) (by omega) (by omega) (by omega) (by omega) (by omega) (by omega) (by omega) ht hd hk hdp]
  refine br_f (by decide) (br_f (by decide) (br_f h (br_t rfl (br_t rfl ?_))))
  rw [wY_simple_283, my_dp1 ht hd hk]
  exact br_f (by decide) p
theorem my_s18 {b c m : Nat} {r : Int32} (hr : r = 0 ∨ r = 1) (ht : t < 10) (hd : d ≤ 6) (hk : 1 ≤ d) (hdp : yhp t = nI d) (h : yss (6 * t + (d - 1)) = 2) (hb : b < 16) (hc : c < 4) (hn : ysn (6 * t + (d - 1)) = nI b) (ec : ykd b = nI c)
    (hY : ∀ (post : Int32 → Prop) n i, c + i ≤ 3 → 4 - i < n → post r → wY_isOf_10 post (nI m) (nI (t + 1)) yrs yrn ysc ymc ypc yov yen yop ynd yab yst ygs ygn ykd yfs yfn yls yln yss ysn (upd yhp t (nI (d - 1))) ydu yne you n (nI c) (nI i)) (p : post (nI (t + 1), yrs, yrn, ysc, ymc, ypc, yov, yen, yop, ynd, yab, yst, ygs, ygn, ykd, yfs, yfn, yls, yln, upd yss (6 * t + (d - 1)) 1, upd ysn (6 * t + (d - 1)) r, upd yhp t (nI d), ydu, yne, you)) : wpY_simple post (nI (t + 1), yrs, yrn, ysc, ymc, ypc, yov, yen, yop, ynd, yab, yst, ygs, ygn, ykd, yfs, yfn, yls, yln, yss, ysn, yhp, ydu, yne, you) (nI 18) (nI m) := by
  rw [my_sx (by omega) (by omega) (by omega) (by omega) (by omega) (by omega) (by omega) (by omega) ht hd hk hdp]
  refine br_f (by decide) (br_f (by decide) (br_t h ?_))
  rw [hn, mr_and15 b hb, wpY_isOf, nI_clamp (n := b) (by omega), ec]
  refine ⟨vp_in_nI hb (by decide), nm_e ⟨5, hY _ 5 0 (by omega) (by omega) ?_⟩⟩
  rcases hr with rfl | rfl
  · refine br_t rfl (br_t rfl (br_t rfl ?_))
    rw [wY_simple_283, my_dp1 ht hd hk]
    exact br_f (by decide) p
  · refine br_f (by decide) (br_t rfl (br_f (by decide) ?_))
    rw [wY_simple_283, my_dp1 ht hd hk]
    exact br_f (by decide) p
theorem my_s23 {p : Nat} {pl' : Nat → Int32} (ht : t < 10) (hd : d ≤ 6) (hk : 1 ≤ d) (hdp : yhp t = nI d) (h : yss (6 * t + (d - 1)) = 1) (hp : p < 2 ^ 31) (hz : (p < 20 ∧ pl' = upd you p (ysn (6 * t + (d - 1)))) ∨ (20 ≤ p ∧ pl' = you)) (q : post (nI (t + 1), yrs, yrn, ysc, ymc, nI (p + 1), yov, yen, yop, ynd, yab, yst, ygs, ygn, ykd, yfs, yfn, yls, yln, yss, ysn, upd yhp t (nI (d - 1)), ydu, yne, pl')) : wpY_simple post (nI (t + 1), yrs, yrn, ysc, ymc, nI p, yov, yen, yop, ynd, yab, yst, ygs, ygn, ykd, yfs, yfn, yls, yln, yss, ysn, yhp, ydu, yne, you) (nI 23) n := by
  have h2 : ¬ yss (6 * t + (d - 1)) = 2 := fun e => absurd (h.symm.trans e) (by decide)
  rw [my_sx (by omega) (by omega) (by omega) (by omega) (by omega) (by omega) (by omega) (by omega) ht hd hk hdp]
  refine br_f (by decide) (br_f (by decide) (br_f h2 (br_f (by decide) (br_t rfl ?_))))
  rcases hz with ⟨e, rfl⟩ | ⟨e, rfl⟩
  · rw [nI_clamp (n := p) (by omega)]
    exact br_f (nI_ge (b := 20) e (by decide)) ⟨vp_in_nI e (by decide), nm_e (nm_r (nI_1 p) q)⟩
  · exact br_t (nI_le (a := 20) e hp) (nm_r (nI_1 p) q)
theorem my_s4 {m : Nat} (hm : m < 4) (ht : t < 10) (hd : d ≤ 6) (hk : 1 ≤ d) (hdp : yhp t = nI d) (hp : mr_PG yop ynd yab yst) (hv : mr_YV ykd (yss (6 * t + (d - 1))) (ysn (6 * t + (d - 1)))) (p : post (nI (t + 1), yrs, yrn, ysc, ymc, ypc, yov, yen, yop, ynd, yab, yst, ygs, ygn, ykd, yfs, yfn, upd yls (4 * t + m) (yss (6 * t + (d - 1))), upd yln (4 * t + m) (ysn (6 * t + (d - 1))), yss, ysn, upd yhp t (nI (d - 1)), ydu, yne, you)) : wpY_simple post (nI (t + 1), yrs, yrn, ysc, ymc, ypc, yov, yen, yop, ynd, yab, yst, ygs, ygn, ykd, yfs, yfn, yls, yln, yss, ysn, yhp, ydu, yne, you) (nI 4) (nI m) := by
  have i1 : vp_in (nI (6 * t + (d - 1))) 60 := vp_in_nI (by omega) (by decide)
  have i2 : vp_in (nI (4 * t + m)) 40 := vp_in_nI (by omega) (by decide)
  have c1 : (nI (6 * t + (d - 1))).toNatClampNeg = 6 * t + (d - 1) := nI_clamp (by omega)
  rw [wpY_simple, forall_eq, mr_bf (by decide), mr_bf (by decide), mr_bf (by decide), mr_bf (by decide), mr_bf (by decide), my_below0 ht hd hk hdp, and_iff_right i1, c1, forall_eq, my_below0 ht hd hk hdp, and_iff_right i1, c1, forall_eq, my_drop1 ht hd hk hdp]
  try dsimp only
  rw [mr_bt (by decide), wY_simple_164, mr_bf (by decide), wY_simple_180, wpY_copy, mr_bt (by decide), nI_pred, mr_i4, nI_add, nI_clamp (n := 4 * t + m) (by omega)]
  exact ⟨i2, nm_e ⟨i2, nm_e (br_f (by decide) (br_f (by decide) (my_239 (by omega) (by omega) (by omega) hp hv p)))⟩⟩
theorem my_s22 {m : Nat} (hm : m < 4) (ht : t < 10) (hd : d ≤ 6) (hk : 1 ≤ d) (hdp : yhp t = nI d) (hp : mr_PG yop ynd yab yst) (hv : mr_YV ykd (yss (6 * t + (d - 1))) (ysn (6 * t + (d - 1)))) (p : post (nI (t + 1), yrs, yrn, ysc, ymc, ypc, yov, yen, yop, ynd, yab, yst, upd ygs m (yss (6 * t + (d - 1))), upd ygn m (ysn (6 * t + (d - 1))), ykd, yfs, yfn, yls, yln, yss, ysn, upd yhp t (nI (d - 1)), ydu, yne, you)) : wpY_simple post (nI (t + 1), yrs, yrn, ysc, ymc, ypc, yov, yen, yop, ynd, yab, yst, ygs, ygn, ykd, yfs, yfn, yls, yln, yss, ysn, yhp, ydu, yne, you) (nI 22) (nI m) := by
  have i1 : vp_in (nI (6 * t + (d - 1))) 60 := vp_in_nI (by omega) (by decide)
  have i2 : vp_in (nI m) 4 := vp_in_nI (by omega) (by decide)
  have c1 : (nI (6 * t + (d - 1))).toNatClampNeg = 6 * t + (d - 1) := nI_clamp (by omega)
  rw [wpY_simple, forall_eq, mr_bf (by decide), mr_bf (by decide), mr_bf (by decide), mr_bf (by decide), mr_bf (by decide), my_below0 ht hd hk hdp, and_iff_right i1, c1, forall_eq, my_below0 ht hd hk hdp, and_iff_right i1, c1, forall_eq, my_drop1 ht hd hk hdp]
  try dsimp only
  rw [mr_bf (by decide), mr_bt (by decide), wY_simple_164, mr_bt (by decide), wY_simple_180, wpY_copy, mr_bf (by decide), nI_clamp (n := m) (by omega)]
  exact ⟨i2, nm_e ⟨i2, nm_e (br_f (by decide) (br_f (by decide) (my_239 (by omega) (by omega) (by omega) hp hv p)))⟩⟩
end
end
section
/-! Y: two values, call, leave, make -/
section
variable {yrs yrn ysc ymc ypc yov yen : Int32} {yop ynd yab yst ygs ygn ykd yfs yfn yls yln yss ysn yhp ydu yne you : Nat → Int32} {t d i k : Nat} {n : Int32} {post : SY → Prop}
theorem my_t7 (ht : t < 10) (hd : d ≤ 6) (hk : 2 ≤ d) (hdp : yhp t = nI d) : wpY_two post (nI (t + 1), yrs, yrn, ysc, ymc, ypc, yov, yen, yop, ynd, yab, yst, ygs, ygn, ykd, yfs, yfn, yls, yln, yss, ysn, yhp, ydu, yne, you) (nI 7) n ↔ post (nI (t + 1), yrs, yrn, ysc, ymc, ypc, yov, yen, yop, ynd, yab, yst, ygs, ygn, ykd, yfs, yfn, yls, yln, upd (upd yss (6 * t + (d - 2)) (yss (6 * t + (d - 1)))) (6 * t + (d - 1)) (yss (6 * t + (d - 2))), upd (upd ysn (6 * t + (d - 2)) (ysn (6 * t + (d - 1)))) (6 * t + (d - 1)) (ysn (6 * t + (d - 2))), upd yhp t (nI d), ydu, yne, you) := by
  have i1 : vp_in (nI (6 * t + (d - 1))) 60 := vp_in_nI (by omega) (by decide)
  have i2 : vp_in (nI (6 * t + (d - 2))) 60 := vp_in_nI (by omega) (by decide)
  have c1 : (nI (6 * t + (d - 1))).toNatClampNeg = 6 * t + (d - 1) := nI_clamp (by omega)
  have c2 : (nI (6 * t + (d - 2))).toNatClampNeg = 6 * t + (d - 2) := nI_clamp (by omega)
  rw [wpY_two, my_below1 ht hd hk hdp, and_iff_right i2, c2, forall_eq, my_below1 ht hd hk hdp, and_iff_right i2, c2, forall_eq, my_below0 ht hd (by omega) hdp, and_iff_right i1, c1, forall_eq, my_below0 ht hd (by omega) hdp, and_iff_right i1, c1, forall_eq, my_drop2 ht hd hk hdp]
  try dsimp only
  rw [mr_bt (by decide), my_dp2 ht hd hk]
  try dsimp only
  rw [my_dp1 ht hd (by omega)]
theorem my_t12 {z : Int32} (ht : t < 10) (hd : d ≤ 6) (hk : 2 ≤ d) (hdp : yhp t = nI d) (hz : ((yss (6 * t + (d - 2)) = yss (6 * t + (d - 1)) ∧ (yss (6 * t + (d - 2)) = 0 ∨ ysn (6 * t + (d - 2)) = ysn (6 * t + (d - 1)))) ∧ z = 1) ∨ (¬ (yss (6 * t + (d - 2)) = yss (6 * t + (d - 1)) ∧ (yss (6 * t + (d - 2)) = 0 ∨ ysn (6 * t + (d - 2)) = ysn (6 * t + (d - 1)))) ∧ z = 0)) : wpY_two post (nI (t + 1), yrs, yrn, ysc, ymc, ypc, yov, yen, yop, ynd, yab, yst, ygs, ygn, ykd, yfs, yfn, yls, yln, yss, ysn, yhp, ydu, yne, you) (nI 12) n ↔ post (nI (t + 1), yrs, yrn, ysc, ymc, ypc, yov, yen, yop, ynd, yab, yst, ygs, ygn, ykd, yfs, yfn, yls, yln, upd yss (6 * t + (d - 2)) 1, upd ysn (6 * t + (d - 2)) z, upd yhp t (nI (d - 1)), ydu, yne, you) := by
  have i1 : vp_in (nI (6 * t + (d - 1))) 60 := vp_in_nI (by omega) (by decide)
  have i2 : vp_in (nI (6 * t + (d - 2))) 60 := vp_in_nI (by omega) (by decide)
  have c1 : (nI (6 * t + (d - 1))).toNatClampNeg = 6 * t + (d - 1) := nI_clamp (by omega)
  have c2 : (nI (6 * t + (d - 2))).toNatClampNeg = 6 * t + (d - 2) := nI_clamp (by omega)
  rw [wpY_two, my_below1 ht hd hk hdp, and_iff_right i2, c2, forall_eq, my_below1 ht hd hk hdp, and_iff_right i2, c2, forall_eq, my_below0 ht hd (by omega) hdp, and_iff_right i1, c1, forall_eq, my_below0 ht hd (by omega) hdp, and_iff_right i1, c1, forall_eq, my_drop2 ht hd hk hdp]
  try dsimp only
  rw [mr_bf (by decide), mr_bt (by decide)]
  rcases hz with ⟨⟨h1, h2⟩, rfl⟩ | ⟨h, rfl⟩
  · by_cases h3 : yss (6 * t + (d - 2)) = 0
    · rw [mr_bt h1, mr_bt h3, wY_two_101, wY_two_106, my_dp2 ht hd hk]
    · rw [mr_bt h1, mr_bf h3, mr_bt (h2.elim (fun q => absurd q h3) id), wY_two_101, wY_two_106, my_dp2 ht hd hk]
  · by_cases h1 : yss (6 * t + (d - 2)) = yss (6 * t + (d - 1))
    · rw [mr_bt h1, mr_bf (fun q => h ⟨h1, Or.inl q⟩), mr_bf (fun q => h ⟨h1, Or.inr q⟩), wY_two_105, wY_two_106, my_dp2 ht hd hk]
    · rw [mr_bf h1, wY_two_105, wY_two_106, my_dp2 ht hd hk]
theorem my_t17 {b j : Nat} (ht : t < 10) (hd : d ≤ 6) (hk : 2 ≤ d) (hdp : yhp t = nI d) (hn : ysn (6 * t + (d - 2)) = nI b) (hb : b < 16) (hj : j < 3) : wpY_two post (nI (t + 1), yrs, yrn, ysc, ymc, ypc, yov, yen, yop, ynd, yab, yst, ygs, ygn, ykd, yfs, yfn, yls, yln, yss, ysn, yhp, ydu, yne, you) (nI 17) (nI j) ↔ post (nI (t + 1), yrs, yrn, ysc, ymc, ypc, yov, yen, yop, ynd, yab, yst, ygs, ygn, ykd, upd yfs (3 * b + j) (yss (6 * t + (d - 1))), upd yfn (3 * b + j) (ysn (6 * t + (d - 1))), yls, yln, yss, ysn, upd yhp t (nI (d - 2)), ydu, yne, you) := by
  have i1 : vp_in (nI (6 * t + (d - 1))) 60 := vp_in_nI (by omega) (by decide)
  have i2 : vp_in (nI (6 * t + (d - 2))) 60 := vp_in_nI (by omega) (by decide)
  have i3 : vp_in (nI (3 * b + j)) 48 := vp_in_nI (by omega) (by decide)
  have c1 : (nI (6 * t + (d - 1))).toNatClampNeg = 6 * t + (d - 1) := nI_clamp (by omega)
  have c2 : (nI (6 * t + (d - 2))).toNatClampNeg = 6 * t + (d - 2) := nI_clamp (by omega)
  rw [wpY_two, my_below1 ht hd hk hdp, and_iff_right i2, c2, forall_eq, my_below1 ht hd hk hdp, and_iff_right i2, c2, forall_eq, my_below0 ht hd (by omega) hdp, and_iff_right i1, c1, forall_eq, my_below0 ht hd (by omega) hdp, and_iff_right i1, c1, forall_eq, my_drop2 ht hd hk hdp]
  try dsimp only
  rw [mr_bf (by decide), mr_bf (by decide), mr_bt (by decide), hn, mr_i3, nI_add, and_iff_right i3, nI_clamp (n := 3 * b + j) (by omega), forall_eq, and_iff_right i3, forall_eq]
theorem my_t8 {o : Nat} {z : Int32} (ht : t < 10) (hd : d ≤ 6) (hk : 2 ≤ d) (hdp : yhp t = nI d)
    (hz : (o = 8 ∧ z = ysn (6 * t + (d - 2)) + ysn (6 * t + (d - 1))) ∨ (o = 9 ∧ z = ysn (6 * t + (d - 2)) - ysn (6 * t + (d - 1))) ∨ (o = 10 ∧ z = ysn (6 * t + (d - 2)) * ysn (6 * t + (d - 1))) ∨ (o = 11 ∧ ((ysn (6 * t + (d - 1)) ≤ ysn (6 * t + (d - 2)) ∧ z = 0) ∨ (¬ ysn (6 * t + (d - 1)) ≤ ysn (6 * t + (d - 2)) ∧ z = 1)))) :
    wpY_two post (nI (t + 1), yrs, yrn, ysc, ymc, ypc, yov, yen, yop, ynd, yab, yst, ygs, ygn, ykd, yfs, yfn, yls, yln, yss, ysn, yhp, ydu, yne, you) (nI o) n ↔ post (nI (t + 1), yrs, yrn, ysc, ymc, ypc, yov, yen, yop, ynd, yab, yst, ygs, ygn, ykd, yfs, yfn, yls, yln, upd yss (6 * t + (d - 2)) 1, upd ysn (6 * t + (d - 2)) z, upd yhp t (nI (d - 1)), ydu, yne, you) := by
  have i1 : vp_in (nI (6 * t + (d - 1))) 60 := vp_in_nI (by omega) (by decide)
  have i2 : vp_in (nI (6 * t + (d - 2))) 60 := vp_in_nI (by omega) (by decide)
  have c1 : (nI (6 * t + (d - 1))).toNatClampNeg = 6 * t + (d - 1) := nI_clamp (by omega)
  have c2 : (nI (6 * t + (d - 2))).toNatClampNeg = 6 * t + (d - 2) := nI_clamp (by omega)
  have ho : o = 8 ∨ o = 9 ∨ o = 10 ∨ o = 11 := by
    rcases hz with h | h | h | h
    · exact Or.inl h.1
    · exact Or.inr (Or.inl h.1)
    · exact Or.inr (Or.inr (Or.inl h.1))
    · exact Or.inr (Or.inr (Or.inr h.1))
  have g7 : ¬ nI o = 7 := fun e => by have := mr_inj (b := 7) (by omega) (by omega) e; omega
  have g12 : ¬ nI o = 12 := fun e => by have := mr_inj (b := 12) (by omega) (by omega) e; omega
  have g17 : ¬ nI o = 17 := fun e => by have := mr_inj (b := 17) (by omega) (by omega) e; omega
  rw [wpY_two, my_below1 ht hd hk hdp, and_iff_right i2, c2, forall_eq, my_below1 ht hd hk hdp, and_iff_right i2, c2, forall_eq, my_below0 ht hd (by omega) hdp, and_iff_right i1, c1, forall_eq, my_below0 ht hd (by omega) hdp, and_iff_right i1, c1, forall_eq, my_drop2 ht hd hk hdp]
  try dsimp only
  rw [mr_bf g7, mr_bf g12, mr_bf g17, wpY_joined]
  rcases hz with ⟨rfl, rfl⟩ | ⟨rfl, rfl⟩ | ⟨rfl, rfl⟩ | ⟨rfl, ⟨e, rfl⟩ | ⟨e, rfl⟩⟩
  · rw [mr_bt (by decide), my_dp2 ht hd hk]
  · rw [mr_bf (by decide), mr_bt (by decide), my_dp2 ht hd hk]
  · rw [mr_bf (by decide), mr_bf (by decide), mr_bt (by decide), my_dp2 ht hd hk]
  · rw [mr_bf (by decide), mr_bf (by decide), mr_bf (by decide), mr_bt e, my_dp2 ht hd hk]
  · rw [mr_bf (by decide), mr_bf (by decide), mr_bf (by decide), mr_bf e, my_dp2 ht hd hk]
theorem my_call {b c m : Nat} {rv : Nat → Int32} (ht : t + 1 < 10) (hd : d ≤ 6) (hk : 2 ≤ d) (hdp : yhp t = nI d) (hn : ysn (6 * t + (d - 2)) = nI b) (hb : b < 16) (hc : c < 4) (hcl : ykd b = nI c) (hm : m < 4) (hp : mr_PG yop ynd yab yst) (hr : mr_RV yab yst rv) :
    ∃ yls' : Nat → Int32, (∀ k, k < 4 * (t + 1) → yls' k = yls k) ∧ (∀ i, i < 4 → yls' (4 * (t + 1) + i) = 0) ∧ ∀ post : SY → Prop, post (nI (t + 1 + 1), yrs, yrn, ysc, ymc, ypc, yov, yen, yop, ynd, yab, yst, ygs, ygn, ykd, yfs, yfn, upd (upd yls' (4 * (t + 1) + 1) (yss (6 * t + (d - 1)))) (4 * (t + 1)) 2, upd (upd yln (4 * (t + 1) + 1) (ysn (6 * t + (d - 1)))) (4 * (t + 1)) (nI b), yss, ysn, upd (upd yhp t (nI (d - 2))) (t + 1) 0, upd ydu (t + 1) (rv (4 * c + m)), yne, you) → wpY_call post (nI (t + 1), yrs, yrn, ysc, ymc, ypc, yov, yen, yop, ynd, yab, yst, ygs, ygn, ykd, yfs, yfn, yls, yln, yss, ysn, yhp, ydu, yne, you) (nI m) := by
  have i1 : vp_in (nI (6 * t + (d - 1))) 60 := vp_in_nI (by omega) (by decide)
  have i2 : vp_in (nI (6 * t + (d - 2))) 60 := vp_in_nI (by omega) (by decide)
  have i3 : vp_in (nI (4 * (t + 1))) 40 := vp_in_nI (by omega) (by decide)
  have c1 : (nI (6 * t + (d - 1))).toNatClampNeg = 6 * t + (d - 1) := nI_clamp (by omega)
  have c2 : (nI (6 * t + (d - 2))).toNatClampNeg = 6 * t + (d - 2) := nI_clamp (by omega)
  have e4 : nI (4 * (t + 1 + 1)) - 4 = nI (4 * (t + 1)) := by
    rw [mr_s4 (by omega)]; exact congrArg nI (by omega)
  obtain ⟨yls', h1, h2, h3⟩ := my_enter (F := t + 1) (i := rv (4 * c + m)) (s := yss (6 * t + (d - 1))) (v := ysn (6 * t + (d - 1))) (yrs := yrs) (yrn := yrn) (ysc := ysc) (ymc := ymc) (ypc := ypc) (yov := yov) (yen := yen) (yop := yop) (ynd := ynd) (yab := yab) (yst := yst) (ygs := ygs) (ygn := ygn) (ykd := ykd) (yfs := yfs) (yfn := yfn) (yls := yls) (yln := yln) (yss := yss) (ysn := ysn) (ydu := ydu) (yne := yne) (you := you) (yhp := upd yhp t (nI (d - 2))) (by omega)
  refine ⟨yls', h1, h2, fun post p => ?_⟩
  rw [wpY_call, my_below1 (by omega) hd hk hdp, and_iff_right i2, c2, forall_eq, my_below0 (by omega) hd (by omega) hdp, and_iff_right i1, c1, forall_eq, my_below0 (by omega) hd (by omega) hdp, and_iff_right i1, c1, forall_eq, hn]
  refine my_find hb hc hm hcl hp hr ?_
  rw [my_drop2 (by omega) hd hk hdp]
  refine h3 _ ?_
  dsimp only
  rw [mr_i4, e4, nI_clamp (n := 4 * (t + 1)) (by omega)]
  exact ⟨i3, nm_e ⟨i3, nm_e p⟩⟩
theorem my_leave {d' : Nat} (ht : t + 1 < 10) (hd : d ≤ 6) (hk : 1 ≤ d) (hdp : yhp (t + 1) = nI d) (hd' : d' < 6) (hdp' : yhp t = nI d') : wpY_leave post (nI (t + 1 + 1), yrs, yrn, ysc, ymc, ypc, yov, yen, yop, ynd, yab, yst, ygs, ygn, ykd, yfs, yfn, yls, yln, yss, ysn, yhp, ydu, yne, you) ↔ post (nI (t + 1), yrs, yrn, ysc, ymc, ypc, yov, yen, yop, ynd, yab, yst, ygs, ygn, ykd, yfs, yfn, yls, yln, upd yss (6 * t + d') (yss (6 * (t + 1) + (d - 1))), upd ysn (6 * t + d') (ysn (6 * (t + 1) + (d - 1))), upd yhp t (nI (d' + 1)), ydu, yne, you) := by
  have i1 : vp_in (nI (6 * (t + 1) + (d - 1))) 60 := vp_in_nI (by omega) (by decide)
  have c1 : (nI (6 * (t + 1) + (d - 1))).toNatClampNeg = 6 * (t + 1) + (d - 1) := nI_clamp (by omega)
  have g : ¬ nI (t + 1) ≤ 0 := nI_nle (by omega) (by omega)
  rw [wpY_leave, my_below0 ht hd hk hdp, and_iff_right i1, c1, forall_eq, my_below0 ht hd hk hdp, and_iff_right i1, c1, forall_eq, nI_pred, forall_eq, mr_bf g, my_push (by omega) hd' hdp']
theorem my_leave0 {z : Int32} (hd : d ≤ 6) (hk : 1 ≤ d) (hdp : yhp 0 = nI d) (hz : (yss (d - 1) = 2 ∧ ∃ b, b < 16 ∧ ysn (d - 1) = nI b ∧ z = ykd b) ∨ (yss (d - 1) = 1 ∧ z = ysn (d - 1)) ∨ (yss (d - 1) = 0 ∧ z = 0)) : wpY_leave post (nI (0 + 1), yrs, yrn, ysc, ymc, ypc, yov, yen, yop, ynd, yab, yst, ygs, ygn, ykd, yfs, yfn, yls, yln, yss, ysn, yhp, ydu, yne, you) ↔ post (0, yss (d - 1), z, ysc, ymc, ypc, 1, 0, yop, ynd, yab, yst, ygs, ygn, ykd, yfs, yfn, yls, yln, yss, ysn, yhp, ydu, yne, you) := by
  have e0 : 6 * 0 + (d - 1) = d - 1 := by omega
  have i1 : vp_in (nI (6 * 0 + (d - 1))) 60 := vp_in_nI (by omega) (by decide)
  have c1 : (nI (6 * 0 + (d - 1))).toNatClampNeg = 6 * 0 + (d - 1) := nI_clamp (by omega)
  rw [wpY_leave, my_below0 (by omega) hd hk hdp, and_iff_right i1, c1, forall_eq, my_below0 (by omega) hd hk hdp, and_iff_right i1, c1, forall_eq, nI_pred, forall_eq, nI_0, mr_bt (by decide), e0]
  rcases hz with ⟨h, b, hb, e, rfl⟩ | ⟨h, rfl⟩ | ⟨h, rfl⟩
  · rw [mr_bt h, e, mr_and15 b hb, nI_clamp (n := b) (by omega), and_iff_right (vp_in_nI hb (by decide)), wY_leave_81, my_stop]
  · rw [mr_bf (by rw [h]; decide), mr_bt h, wY_leave_81, my_stop]
  · rw [mr_bf (by rw [h]; decide), mr_bf (by rw [h]; decide), wY_leave_81, my_stop]
theorem my_make_38 {b : Nat} (hb : b < 16) (ht : t < 10) (hd : d < 6) (hdp : yhp t = nI d) {fs0 : Nat → Int32} : ∀ m j yfs, j ≤ 3 → 3 - j < m → (∀ k, ¬ (3 * b ≤ k ∧ k < 3 * b + 3) → yfs k = fs0 k) → (∀ i, i < j → yfs (3 * b + i) = 0) →
    ∃ yfs' : Nat → Int32, (∀ k, ¬ (3 * b ≤ k ∧ k < 3 * b + 3) → yfs' k = fs0 k) ∧ (∀ j, j < 3 → yfs' (3 * b + j) = 0) ∧ ∀ post : SY → Prop, post (nI (t + 1), yrs, yrn, ysc, ymc + 1, ypc, yov, yen, yop, ynd, yab, yst, ygs, ygn, ykd, yfs', yfn, yls, yln, upd yss (6 * t + d) 2, upd ysn (6 * t + d) (nI b), upd yhp t (nI (d + 1)), ydu, yne, you) → wY_make_38 post (nI b) (nI (t + 1)) yrs yrn ysc ymc ypc yov yen m (nI (3 * b + j)) yop ynd yab yst ygs ygn ykd yfs yfn yls yln yss ysn yhp ydu yne you := by
  intro m
  induction m with
  | zero => intro j yfs _ h; omega
  | succ m ih =>
    intro j yfs hj hlt h1 h2
    by_cases z : j = 3
    · subst z
      refine ⟨yfs, h1, h2, fun post p => ?_⟩
      rw [wY_make_38]
      dsimp only
      rw [mr_i3, mr_p3]
      refine br_t (nI_le (by omega) (by omega)) (nm_e ?_)
      rw [my_push ht hd hdp]
      exact p
    · obtain ⟨yfs', g1, g2, g3⟩ := ih (j + 1) (upd yfs (3 * b + j) 0) (by omega) (by omega) (fun k hk => by rw [pk_un (by omega)]; exact h1 k hk) (fun i hi => by
        by_cases e : i = j
        · subst e; exact pk_us
        · rw [pk_un (by omega)]; exact h2 i (by omega))
      refine ⟨yfs', g1, g2, fun post p => ?_⟩
      rw [wY_make_38]
      dsimp only
      rw [mr_i3, mr_p3]
      refine br_f (nI_ge (by omega) (by omega)) ⟨vp_in_nI (by omega) (by decide), nm_e (nm_r (nI_1 _) ?_)⟩
      rw [nI_clamp (n := 3 * b + j) (by omega)]
      exact g3 post p
theorem my_make_6 {x1 : Int32} (ht : t < 10) (hd : d < 6) (hdp : yhp t = nI d) : ∀ m j b, j ≤ 16 → j < m → b < 16 → (yne b = 0 ∨ ∃ c, c < j ∧ yne c = 0) →
    ∃ b' yfs', b' < 16 ∧ yne b' = 0 ∧ (∀ k, ¬ (3 * b' ≤ k ∧ k < 3 * b' + 3) → yfs' k = yfs k) ∧ (∀ j, j < 3 → yfs' (3 * b' + j) = 0) ∧ ∀ post : SY → Prop, post (nI (t + 1), yrs, yrn, ysc, ymc + 1, ypc, yov, yen, yop, ynd, yab, yst, ygs, ygn, upd ykd b' x1, yfs', yfn, yls, yln, upd yss (6 * t + d) 2, upd ysn (6 * t + d) (nI b'), upd yhp t (nI (d + 1)), ydu, yne, you) → wY_make_6 post x1 (nI (t + 1)) yrs yrn ysc ymc ypc yov yen yop ynd yab yst ygs ygn ykd yfs yfn yls yln yss ysn yhp ydu yne you m (nI b) (nI j + (-1)) := by
  intro m
  induction m with
  | zero => intro j b _ h; omega
  | succ m ih =>
    intro j b hj hlt hb h
    cases j with
    | zero =>
      have e : yne b = 0 := h.elim id fun ⟨c, hc, _⟩ => by omega
      obtain ⟨yfs', g1, g2, g3⟩ := my_make_38 (b := b) (yrs := yrs) (yrn := yrn) (ysc := ysc) (ymc := ymc) (ypc := ypc) (yov := yov) (yen := yen) (yop := yop) (ynd := ynd) (yab := yab) (yst := yst) (ygs := ygs) (ygn := ygn) (yfn := yfn) (yls := yls) (yln := yln) (yss := yss) (ysn := ysn) (yhp := yhp) (ydu := ydu) (yne := yne) (you := you) (ykd := upd ykd b x1) hb ht hd hdp 4 0 yfs (by omega) (by omega) (fun k _ => rfl) fun i hi => by omega
      refine ⟨b, yfs', hb, e, g1, g2, fun post p => ?_⟩
      rw [wY_make_6]
      refine br_t (by decide) ⟨vp_in_nI hb (by decide), nm_e (nm_r (mr_i3 b) ⟨4, ?_⟩)⟩
      rw [nI_clamp (n := b) (by omega)]
      exact g3 post p
    | succ j =>
      by_cases e : yne j = 0
      · obtain ⟨b', yfs', g1, g2, g3, g4, g5⟩ := ih j j (by omega) (by omega) (by omega) (Or.inl e)
        refine ⟨b', yfs', g1, g2, g3, g4, fun post p => ?_⟩
        rw [wY_make_6, pk_m1]
        refine br_f (nI_pos (by omega)) ⟨vp_in_nI (by omega) (by decide), ?_⟩
        rw [nI_clamp (n := j) (by omega)]
        exact br_t e (nm_e (g5 post p))
      · obtain ⟨b', yfs', g1, g2, g3, g4, g5⟩ := ih j b (by omega) (by omega) hb (h.elim Or.inl fun ⟨c, hc, ec⟩ => Or.inr ⟨c, by
          rcases Nat.lt_or_ge c j with w | w
          · exact w
          · have : c = j := by omega
            subst this
            exact absurd ec e, ec⟩)
        refine ⟨b', yfs', g1, g2, g3, g4, fun post p => ?_⟩
        rw [wY_make_6, pk_m1]
        refine br_f (nI_pos (by omega)) ⟨vp_in_nI (by omega) (by decide), ?_⟩
        rw [nI_clamp (n := j) (by omega)]
        exact br_f e (nm_e (g5 post p))
theorem my_make {x1 : Int32} (ht : t < 10) (hd : d < 6) (hdp : yhp t = nI d) (hex : ∃ c, c < 16 ∧ yne c = 0) :
    ∃ b' yfs', b' < 16 ∧ yne b' = 0 ∧ (∀ k, ¬ (3 * b' ≤ k ∧ k < 3 * b' + 3) → yfs' k = yfs k) ∧ (∀ j, j < 3 → yfs' (3 * b' + j) = 0) ∧ ∀ post : SY → Prop, post (nI (t + 1), yrs, yrn, ysc, ymc + 1, ypc, yov, yen, yop, ynd, yab, yst, ygs, ygn, upd ykd b' x1, yfs', yfn, yls, yln, upd yss (6 * t + d) 2, upd ysn (6 * t + d) (nI b'), upd yhp t (nI (d + 1)), ydu, yne, you) → wpY_make post (nI (t + 1), yrs, yrn, ysc, ymc, ypc, yov, yen, yop, ynd, yab, yst, ygs, ygn, ykd, yfs, yfn, yls, yln, yss, ysn, yhp, ydu, yne, you) x1 := by
  obtain ⟨b', yfs', g1, g2, g3, g4, g5⟩ := my_make_6 (x1 := x1) (yrs := yrs) (yrn := yrn) (ysc := ysc) (ymc := ymc) (ypc := ypc) (yov := yov) (yen := yen) (yop := yop) (ynd := ynd) (yab := yab) (yst := yst) (ygs := ygs) (ygn := ygn) (ykd := ykd) (yfs := yfs) (yfn := yfn) (yls := yls) (yln := yln) (yss := yss) (ysn := ysn) (yhp := yhp) (ydu := ydu) (yne := yne) (you := you) ht hd hdp 17 16 15 (by omega) (by omega) (by omega) (Or.inr hex)
  exact ⟨b', yfs', g1, g2, g3, g4, fun post p => ⟨17, g5 post p⟩⟩
end
end
section
/-! the relation during a run -/
def mr_FC (R : Nat → Nat → Prop) (F : Nat) (hh : Nat → Nat) (o y k p : Nat) (pr rm : Int32) (op nd ab st rv cp cc cs gs gn du ls ln dp ss sn cl fs fn ygs ygn ykd yfs yfn yls yln yss ysn ydu : Nat → Int32) : Prop :=
  (p ≤ k ∧ k ≤ 300) ∧ mr_PG op nd ab st ∧ (¬ pr = 0 → mr_RV ab st rv ∧ mr_CP op cp ∧ mr_CC nd rv cc cs) ∧ mr_FR F hh dp du ydu ∧ mr_RT R F hh gs gn ls ln ss sn ygs ygn yls yln yss ysn ∧ mr_HP R o y rm cl fs fn ykd yfs yfn
def mr_RUN (k : Nat) (u : SX) (v : SY) : Prop := ∃ (R : Nat → Nat → Prop) (F : Nat) (hh : Nat → Nat) (o y p : Nat) (pr lv rm mk mc rs rn wc : Int32) (op nd ab st rv cp cc cs gs gn du ls ln dp ss sn cl fs fn wt mt pl : Nat → Int32) (yen : Int32) (ygs ygn ykd yfs yfn yls yln yss ysn ydu yne : Nat → Int32), u = (pr, lv, nI F, nI o, nI y, rm, mk, nI k, mc, rs, rn, nI p, wc, op, nd, ab, st, rv, cp, cc, cs, gs, gn, du, ls, ln, dp, ss, sn, cl, fs, fn, wt, mt, pl) ∧ v = (nI F, rs, rn, nI k, mc, nI p, 0, yen, op, nd, ab, st, ygs, ygn, ykd, yfs, yfn, yls, yln, yss, ysn, dp, ydu, yne, pl) ∧ (1 ≤ F ∧ ¬ pr = 0) ∧ mr_FC R F hh o y k p pr rm op nd ab st rv cp cc cs gs gn du ls ln dp ss sn cl fs fn ygs ygn ykd yfs yfn yls yln yss ysn ydu
def mr_END (r : Int32) (u : SX) (v : SY) : Prop := ∃ k fx fy, ∃ (R : Nat → Nat → Prop) (F : Nat) (hh : Nat → Nat) (o y p : Nat) (pr lv rm mk mc rs rn wc : Int32) (op nd ab st rv cp cc cs gs gn du ls ln dp ss sn cl fs fn wt mt pl : Nat → Int32) (yen : Int32) (ygs ygn ykd yfs yfn yls yln yss ysn ydu yne : Nat → Int32), u = (pr, lv, fx, nI o, nI y, rm, mk, nI k, mc, rs, rn, nI p, wc, op, nd, ab, st, rv, cp, cc, cs, gs, gn, du, ls, ln, dp, ss, sn, cl, fs, fn, wt, mt, pl) ∧ v = (fy, rs, rn, nI k, mc, nI p, 1, r, op, nd, ab, st, ygs, ygn, ykd, yfs, yfn, yls, yln, yss, ysn, dp, ydu, yne, pl) ∧ mr_FC R 0 hh o y k p pr rm op nd ab st rv cp cc cs gs gn du ls ln dp ss sn cl fs fn ygs ygn ykd yfs yfn yls yln yss ysn ydu
def mr_YI (post : SY → Prop) (v : SY) : Prop := wpY_can (fun r u => (r = 0 → post u) ∧ (¬ r = 0 → wpY_work post u)) v
def mr_ov (v : SY) : Int32 := v.2.2.2.2.2.2.1
def mr_NX (k : Nat) (r : Int32) (u' : SX) (v : SY) : Prop :=
  (r = -1 ∧ ∃ v', mr_RUN (k + 1) u' v' ∧ ∀ post : SY → Prop, post v' → mr_YI post v) ∨
  (r = -1 ∧ ∃ v1 v', mr_RUN (k + 2) u' v' ∧ mr_ov v1 = 0 ∧ (∀ post : SY → Prop, post v1 → mr_YI post v) ∧ (∀ post : SY → Prop, post v' → mr_YI post v1)) ∨
  (¬ r = -1 ∧ ∃ v', mr_END r u' v' ∧ ∀ post : SY → Prop, post v' → mr_YI post v)
theorem mr_YI_ok {v v1 v' : SY} (h : ∀ post : Int32 → SY → Prop, post 1 v1 → wpY_can post v) (hw : ∀ post : SY → Prop, post v' → wpY_work post v1) : ∀ post : SY → Prop, post v' → mr_YI post v := fun post p => h _ (br_f (by decide) (hw post p))
theorem mr_YI_stop {v v' : SY} (h : ∀ post : Int32 → SY → Prop, post 0 v' → wpY_can post v) : ∀ post : SY → Prop, post v' → mr_YI post v := fun post p => h _ (br_t rfl p)
section
variable {R : Nat → Nat → Prop} {F o y k p : Nat} {hh : Nat → Nat} {pr lv rm mk mc rs rn wc yen : Int32} {op nd ab st rv cp cc cs gs gn du ls ln dp ss sn cl fs fn wt mt pl ygs ygn ykd yfs yfn yls yln yss ysn ydu yne : Nat → Int32} {r fx fy : Int32}
theorem mr_RUN_mk (h1 : 1 ≤ F) (h2 : ¬ pr = 0) (h : mr_FC R F hh o y k p pr rm op nd ab st rv cp cc cs gs gn du ls ln dp ss sn cl fs fn ygs ygn ykd yfs yfn yls yln yss ysn ydu) : mr_RUN k (pr, lv, nI F, nI o, nI y, rm, mk, nI k, mc, rs, rn, nI p, wc, op, nd, ab, st, rv, cp, cc, cs, gs, gn, du, ls, ln, dp, ss, sn, cl, fs, fn, wt, mt, pl) (nI F, rs, rn, nI k, mc, nI p, 0, yen, op, nd, ab, st, ygs, ygn, ykd, yfs, yfn, yls, yln, yss, ysn, dp, ydu, yne, pl) :=
  ⟨R, F, hh, o, y, p, pr, lv, rm, mk, mc, rs, rn, wc, op, nd, ab, st, rv, cp, cc, cs, gs, gn, du, ls, ln, dp, ss, sn, cl, fs, fn, wt, mt, pl, yen, ygs, ygn, ykd, yfs, yfn, yls, yln, yss, ysn, ydu, yne, rfl, rfl, ⟨h1, h2⟩, h⟩
theorem mr_END_mk (h : mr_FC R 0 hh o y k p pr rm op nd ab st rv cp cc cs gs gn du ls ln dp ss sn cl fs fn ygs ygn ykd yfs yfn yls yln yss ysn ydu) : mr_END r (pr, lv, fx, nI o, nI y, rm, mk, nI k, mc, rs, rn, nI p, wc, op, nd, ab, st, rv, cp, cc, cs, gs, gn, du, ls, ln, dp, ss, sn, cl, fs, fn, wt, mt, pl) (fy, rs, rn, nI k, mc, nI p, 1, r, op, nd, ab, st, ygs, ygn, ykd, yfs, yfn, yls, yln, yss, ysn, dp, ydu, yne, pl) :=
  ⟨k, fx, fy, R, 0, hh, o, y, p, pr, lv, rm, mk, mc, rs, rn, wc, op, nd, ab, st, rv, cp, cc, cs, gs, gn, du, ls, ln, dp, ss, sn, cl, fs, fn, wt, mt, pl, 0, ygs, ygn, ykd, yfs, yfn, yls, yln, yss, ysn, ydu, yne, rfl, rfl, h⟩
theorem mr_FC_0 (h : mr_FC R F hh o y k p pr rm op nd ab st rv cp cc cs gs gn du ls ln dp ss sn cl fs fn ygs ygn ykd yfs yfn yls yln yss ysn ydu) : mr_FC R 0 hh o y k p pr rm op nd ab st rv cp cc cs gs gn du ls ln dp ss sn cl fs fn ygs ygn ykd yfs yfn yls yln yss ysn ydu :=
  ⟨h.1, h.2.1, h.2.2.1, ⟨Nat.zero_le _, fun f hf => absurd hf (Nat.not_lt_zero f), fun f hf => absurd hf (Nat.not_lt_zero _)⟩, mr_RT_F h.2.2.2.2.1 (Nat.zero_le _), h.2.2.2.2.2⟩
end
theorem mr_RUN_el {P : SX → SY → Prop} {k : Nat} {u : SX} {v : SY} (h : ∀ (R : Nat → Nat → Prop) (F : Nat) (hh : Nat → Nat) (o y p : Nat) (pr lv rm mk mc rs rn wc : Int32) (op nd ab st rv cp cc cs gs gn du ls ln dp ss sn cl fs fn wt mt pl : Nat → Int32) (yen : Int32) (ygs ygn ykd yfs yfn yls yln yss ysn ydu yne : Nat → Int32), 1 ≤ F → ¬ pr = 0 → mr_FC R F hh o y k p pr rm op nd ab st rv cp cc cs gs gn du ls ln dp ss sn cl fs fn ygs ygn ykd yfs yfn yls yln yss ysn ydu → P (pr, lv, nI F, nI o, nI y, rm, mk, nI k, mc, rs, rn, nI p, wc, op, nd, ab, st, rv, cp, cc, cs, gs, gn, du, ls, ln, dp, ss, sn, cl, fs, fn, wt, mt, pl) (nI F, rs, rn, nI k, mc, nI p, 0, yen, op, nd, ab, st, ygs, ygn, ykd, yfs, yfn, yls, yln, yss, ysn, dp, ydu, yne, pl)) (I : mr_RUN k u v) : P u v :=
  I.elim fun R I => I.elim fun F I => I.elim fun hh I => I.elim fun o I => I.elim fun y I => I.elim fun p I => I.elim fun pr I => I.elim fun lv I => I.elim fun rm I => I.elim fun mk I => I.elim fun mc I => I.elim fun rs I => I.elim fun rn I => I.elim fun wc I => I.elim fun op I => I.elim fun nd I => I.elim fun ab I => I.elim fun st I => I.elim fun rv I => I.elim fun cp I => I.elim fun cc I => I.elim fun cs I => I.elim fun gs I => I.elim fun gn I => I.elim fun du I => I.elim fun ls I => I.elim fun ln I => I.elim fun dp I => I.elim fun ss I => I.elim fun sn I => I.elim fun cl I => I.elim fun fs I => I.elim fun fn I => I.elim fun wt I => I.elim fun mt I => I.elim fun pl I => I.elim fun yen I => I.elim fun ygs I => I.elim fun ygn I => I.elim fun ykd I => I.elim fun yfs I => I.elim fun yfn I => I.elim fun yls I => I.elim fun yln I => I.elim fun yss I => I.elim fun ysn I => I.elim fun ydu I => I.elim fun yne I => by obtain ⟨e1, e2, ⟨e3, e4⟩, e5⟩ := I; subst e1 e2; exact h R F hh o y p pr lv rm mk mc rs rn wc op nd ab st rv cp cc cs gs gn du ls ln dp ss sn cl fs fn wt mt pl yen ygs ygn ykd yfs yfn yls yln yss ysn ydu yne e3 e4 e5
theorem mr_END_el {P : SX → SY → Prop} {r : Int32} {u : SX} {v : SY} (h : ∀ (k : Nat) (fx fy : Int32) (R : Nat → Nat → Prop) (F : Nat) (hh : Nat → Nat) (o y p : Nat) (pr lv rm mk mc rs rn wc : Int32) (op nd ab st rv cp cc cs gs gn du ls ln dp ss sn cl fs fn wt mt pl : Nat → Int32) (yen : Int32) (ygs ygn ykd yfs yfn yls yln yss ysn ydu yne : Nat → Int32), mr_FC R 0 hh o y k p pr rm op nd ab st rv cp cc cs gs gn du ls ln dp ss sn cl fs fn ygs ygn ykd yfs yfn yls yln yss ysn ydu → P (pr, lv, fx, nI o, nI y, rm, mk, nI k, mc, rs, rn, nI p, wc, op, nd, ab, st, rv, cp, cc, cs, gs, gn, du, ls, ln, dp, ss, sn, cl, fs, fn, wt, mt, pl) (fy, rs, rn, nI k, mc, nI p, 1, r, op, nd, ab, st, ygs, ygn, ykd, yfs, yfn, yls, yln, yss, ysn, dp, ydu, yne, pl)) (I : mr_END r u v) : P u v :=
  I.elim fun k I => I.elim fun fx I => I.elim fun fy I => I.elim fun R I => I.elim fun F I => I.elim fun hh I => I.elim fun o I => I.elim fun y I => I.elim fun p I => I.elim fun pr I => I.elim fun lv I => I.elim fun rm I => I.elim fun mk I => I.elim fun mc I => I.elim fun rs I => I.elim fun rn I => I.elim fun wc I => I.elim fun op I => I.elim fun nd I => I.elim fun ab I => I.elim fun st I => I.elim fun rv I => I.elim fun cp I => I.elim fun cc I => I.elim fun cs I => I.elim fun gs I => I.elim fun gn I => I.elim fun du I => I.elim fun ls I => I.elim fun ln I => I.elim fun dp I => I.elim fun ss I => I.elim fun sn I => I.elim fun cl I => I.elim fun fs I => I.elim fun fn I => I.elim fun wt I => I.elim fun mt I => I.elim fun pl I => I.elim fun yen I => I.elim fun ygs I => I.elim fun ygn I => I.elim fun ykd I => I.elim fun yfs I => I.elim fun yfn I => I.elim fun yls I => I.elim fun yln I => I.elim fun yss I => I.elim fun ysn I => I.elim fun ydu I => I.elim fun yne I => by obtain ⟨e1, e2, e5⟩ := I; subst e1 e2; exact h k fx fy R F hh o y p pr lv rm mk mc rs rn wc op nd ab st rv cp cc cs gs gn du ls ln dp ss sn cl fs fn wt mt pl yen ygs ygn ykd yfs yfn yls yln yss ysn ydu yne e5
end
section
/-! one instruction in lockstep -/
section
variable {R : Nat → Nat → Prop} {o y t d : Nat} {hh : Nat → Nat} {rm : Int32} {cl fs fn dp du ydu ykd yfs yfn : Nat → Int32}
theorem mr_FR_same {i : Int32} (h : mr_FR (t + 1) hh dp du ydu) : mr_FR (t + 1) hh (upd dp t (nI (hh t))) (upd du t i) (upd ydu t i) := by
  rw [mr_u0 (h.2.1 t (by omega)).1]
  exact mr_FR_i h
theorem mr_V_YV {s n s' n' : Int32} (h : mr_HP R o y rm cl fs fn ykd yfs yfn) (v : mr_V R s n s' n') : mr_YV ykd s' n' := by
  intro e
  obtain ⟨a, b, h1, h2, r⟩ := mr_V_obj v (v.1.symm.trans e)
  obtain ⟨c, hc, _, e2⟩ := (h.2.2.2.2.1 a b r).1
  exact ⟨b, c, (h.2.1 a b r).2, hc, h2, e2⟩
theorem mr_opn {op nd ab st : Nat → Int32} {i O : Nat} (h : mr_PG op nd ab st) (hi : i < 60) (hO : O ≤ 23) (e : op i = nI O) : ((O = 3 ∨ O = 4 ∨ O = 15 ∨ O = 18 ∨ O = 19 ∨ O = 21 ∨ O = 22) → ∃ k, k < 4 ∧ nd i = nI k) ∧ ((O = 16 ∨ O = 17) → ∃ k, k < 3 ∧ nd i = nI k) := by
  obtain ⟨o, ho, e1, e2, e3⟩ := h.1 i hi
  have := mr_inj (by omega) (by omega) (e1.symm.trans e)
  subst this
  exact ⟨e2, e3⟩
end
section
variable {R : Nat → Nat → Prop} {o y : Nat} {rm : Int32} {cl fs fn ykd yfs yfn : Nat → Int32}
theorem mr_same {s n s' n' z m z' m' : Int32} (h : mr_HP R o y rm cl fs fn ykd yfs yfn) (v : mr_V R s n s' n') (w : mr_V R z m z' m') : (s = z ∧ n = m) ↔ (z' = s' ∧ (z' = 0 ∨ m' = n')) := by
  have hR := mr_HP_R h
  rw [v.1, w.1]
  constructor
  · rintro ⟨rfl, rfl⟩
    refine ⟨rfl, ?_⟩
    rcases v.2 with q | q | ⟨e, a, b, e1, e2, r⟩
    · exact Or.inl q.1
    · exact Or.inr ((mr_V_int w q.1).trans q.2.symm)
    · obtain ⟨a', b', e3, e4, r'⟩ := mr_V_obj w e
      have := mr_inj (by have := (hR _ _ r).1; omega) (by have := (hR _ _ r').1; omega) (e1.symm.trans e3)
      subst this
      have := h.2.2.1 _ _ _ r r'
      subst this
      exact Or.inr (e4.trans e2.symm)
  · rintro ⟨rfl, q⟩
    refine ⟨rfl, ?_⟩
    rcases v.2 with u | u | ⟨e, a, b, e1, e2, r⟩
    · exact u.2.trans (mr_V_nil w u.1).symm
    · have e3 := mr_V_int w u.1
      rcases q with q | q
      · exact absurd (u.1.symm.trans q) (by decide)
      · rw [← e3, ← u.2]; exact q.symm
    · obtain ⟨a', b', e3, e4, r'⟩ := mr_V_obj w e
      rcases q with q | q
      · exact absurd (e.symm.trans q) (by decide)
      · have := mr_inj (by have := (hR _ _ r).2; omega) (by have := (hR _ _ r').2; omega) (e2.symm.trans (q.symm.trans e4))
        subst this
        have := h.2.2.2.1 _ _ _ r r'
        subst this
        exact e1.trans e3.symm
end
section
variable {R : Nat → Nat → Prop} {o y k p t i : Nat} {hh : Nat → Nat} {pr lv rm mk mc rs rn wc yen : Int32} {op nd ab st rv cp cc cs gs gn du ls ln dp ss sn cl fs fn wt mt pl ygs ygn ykd yfs yfn yls yln yss ysn ydu yne : Nat → Int32} {post : Int32 → SX → Prop}
theorem mr_o0 (hF : mr_FC R (t + 1) hh o y k p pr rm op nd ab st rv cp cc cs gs gn du ls ln dp ss sn cl fs fn ygs ygn ykd yfs yfn yls yln yss ysn ydu) (hpr : ¬ pr = 0) (ht : t < 10) (hi : i < 60) (hdu : du t = nI i) (hk : k < 300) (e : op i = nI 0) (h1 : mr_tk 0 ≤ hh t) (h2 : hh t - mr_tk 0 + mr_lv 0 ≤ 6) (kont : ∀ r u', mr_NX k r u' (nI (t + 1), rs, rn, nI k, mc, nI p, 0, yen, op, nd, ab, st, ygs, ygn, ykd, yfs, yfn, yls, yln, yss, ysn, dp, ydu, yne, pl) → post r u') : wpX_workOne (mr_KX post) (pr, lv, nI (t + 1), nI o, nI y, rm, mk, nI k, mc, rs, rn, nI p, wc, op, nd, ab, st, rv, cp, cc, cs, gs, gn, du, ls, ln, dp, ss, sn, cl, fs, fn, wt, mt, pl) (nI i) (nI 0) (nd i) := by
  have hF0 := hF
  obtain ⟨⟨hp, _⟩, hPG, hPR', hFR, hRT, hHP⟩ := hF
  have hPR := hPR' hpr
  have hd := hFR.2.1 t (by omega)
  have hydu : ydu t = nI i := hd.2.2.trans hdu
  have hdp := hd.1
  have hd6 := hd.2.1
  have hb : ∀ f, f < t + 1 → hh f ≤ 6 := fun f hf => (hFR.2.1 f hf).2.1
  have hR := mr_HP_R hHP
  refine mx_w0.mpr (mr_KX0 (kont _ _ (Or.inr (Or.inr ⟨by decide, _, mr_END_mk (k := k + 1) (r := 0) (fx := nI (t + 1)) (fy := nI (t + 1)) (yne := yne) (ydu := upd ydu t (nI (i + 1))) ⟨⟨by omega, by omega⟩, hPG, hPR', ⟨Nat.zero_le _, fun f hf => absurd hf (Nat.not_lt_zero f), fun f hf => absurd hf (Nat.not_lt_zero _)⟩, mr_RT_F hRT (Nat.zero_le _), hHP⟩, mr_YI_ok (fun post q => my_can_1 (by omega) ht hd6 hdp hi hydu hk e h1 h2 (fun p => my_fit (by omega)) (by omega) (by omega) q) (fun post q => (my_w0 ht hi hydu e).mpr q)⟩))))
theorem mr_o1 (hF : mr_FC R (t + 1) hh o y k p pr rm op nd ab st rv cp cc cs gs gn du ls ln dp ss sn cl fs fn ygs ygn ykd yfs yfn yls yln yss ysn ydu) (hpr : ¬ pr = 0) (ht : t < 10) (hi : i < 60) (hdu : du t = nI i) (hk : k < 300) (e : op i = nI 1) (h1 : mr_tk 1 ≤ hh t) (h2 : hh t - mr_tk 1 + mr_lv 1 ≤ 6) (kont : ∀ r u', mr_NX k r u' (nI (t + 1), rs, rn, nI k, mc, nI p, 0, yen, op, nd, ab, st, ygs, ygn, ykd, yfs, yfn, yls, yln, yss, ysn, dp, ydu, yne, pl) → post r u') : wpX_workOne (mr_KX post) (pr, lv, nI (t + 1), nI o, nI y, rm, mk, nI k, mc, rs, rn, nI p, wc, op, nd, ab, st, rv, cp, cc, cs, gs, gn, du, ls, ln, dp, ss, sn, cl, fs, fn, wt, mt, pl) (nI i) (nI 1) (nd i) := by
  have hF0 := hF
  obtain ⟨⟨hp, _⟩, hPG, hPR', hFR, hRT, hHP⟩ := hF
  have hPR := hPR' hpr
  have hd := hFR.2.1 t (by omega)
  have hydu : ydu t = nI i := hd.2.2.trans hdu
  have hdp := hd.1
  have hd6 := hd.2.1
  have hb : ∀ f, f < t + 1 → hh f ≤ 6 := fun f hf => (hFR.2.1 f hf).2.1
  have hR := mr_HP_R hHP
  have g6 : hh t - 0 + 1 ≤ 6 := h2
  have g : hh t < 6 := by omega
  exact (mx_w1 ht g hdp).mpr (mr_KXm (kont _ _ (Or.inl ⟨rfl, (nI (t + 1), rs, rn, nI (k + 1), mc, nI p, 0, yen, op, nd, ab, st, ygs, ygn, ykd, yfs, yfn, yls, yln, upd yss (6 * t + hh t) 1, upd ysn (6 * t + hh t) (nd i), upd dp t (nI (hh t + 1)), upd ydu t (nI (i + 1)), yne, pl), mr_RUN_mk (by omega) hpr ⟨⟨by omega, by omega⟩, hPG, fun _ => hPR, mr_FR_at hFR g, mr_RT_push hRT hb g mr_V_1, hHP⟩, mr_YI_ok (fun post q => my_can_1 (by omega) ht hd6 hdp hi hydu hk e h1 h2 (fun p => my_fit (by omega)) (by omega) (by omega) q) (fun post q => (my_ws (by omega) (by omega) (by omega) (by omega) (by omega) (by omega) (by decide) ht hi hydu e).mpr ((my_s1 ht g hdp).mpr q))⟩)))
theorem mr_o2 (hF : mr_FC R (t + 1) hh o y k p pr rm op nd ab st rv cp cc cs gs gn du ls ln dp ss sn cl fs fn ygs ygn ykd yfs yfn yls yln yss ysn ydu) (hpr : ¬ pr = 0) (ht : t < 10) (hi : i < 60) (hdu : du t = nI i) (hk : k < 300) (e : op i = nI 2) (h1 : mr_tk 2 ≤ hh t) (h2 : hh t - mr_tk 2 + mr_lv 2 ≤ 6) (kont : ∀ r u', mr_NX k r u' (nI (t + 1), rs, rn, nI k, mc, nI p, 0, yen, op, nd, ab, st, ygs, ygn, ykd, yfs, yfn, yls, yln, yss, ysn, dp, ydu, yne, pl) → post r u') : wpX_workOne (mr_KX post) (pr, lv, nI (t + 1), nI o, nI y, rm, mk, nI k, mc, rs, rn, nI p, wc, op, nd, ab, st, rv, cp, cc, cs, gs, gn, du, ls, ln, dp, ss, sn, cl, fs, fn, wt, mt, pl) (nI i) (nI 2) (nd i) := by
  have hF0 := hF
  obtain ⟨⟨hp, _⟩, hPG, hPR', hFR, hRT, hHP⟩ := hF
  have hPR := hPR' hpr
  have hd := hFR.2.1 t (by omega)
  have hydu : ydu t = nI i := hd.2.2.trans hdu
  have hdp := hd.1
  have hd6 := hd.2.1
  have hb : ∀ f, f < t + 1 → hh f ≤ 6 := fun f hf => (hFR.2.1 f hf).2.1
  have hR := mr_HP_R hHP
  have g6 : hh t - 0 + 1 ≤ 6 := h2
  have g : hh t < 6 := by omega
  exact (mx_w2 ht g hdp).mpr (mr_KXm (kont _ _ (Or.inl ⟨rfl, (nI (t + 1), rs, rn, nI (k + 1), mc, nI p, 0, yen, op, nd, ab, st, ygs, ygn, ykd, yfs, yfn, yls, yln, upd yss (6 * t + hh t) 0, upd ysn (6 * t + hh t) 0, upd dp t (nI (hh t + 1)), upd ydu t (nI (i + 1)), yne, pl), mr_RUN_mk (by omega) hpr ⟨⟨by omega, by omega⟩, hPG, fun _ => hPR, mr_FR_at hFR g, mr_RT_push hRT hb g mr_V_0, hHP⟩, mr_YI_ok (fun post q => my_can_1 (by omega) ht hd6 hdp hi hydu hk e h1 h2 (fun p => my_fit (by omega)) (by omega) (by omega) q) (fun post q => (my_ws (by omega) (by omega) (by omega) (by omega) (by omega) (by omega) (by decide) ht hi hydu e).mpr ((my_s2 ht g hdp).mpr q))⟩)))
theorem mr_o3 (hF : mr_FC R (t + 1) hh o y k p pr rm op nd ab st rv cp cc cs gs gn du ls ln dp ss sn cl fs fn ygs ygn ykd yfs yfn yls yln yss ysn ydu) (hpr : ¬ pr = 0) (ht : t < 10) (hi : i < 60) (hdu : du t = nI i) (hk : k < 300) (e : op i = nI 3) (h1 : mr_tk 3 ≤ hh t) (h2 : hh t - mr_tk 3 + mr_lv 3 ≤ 6) (kont : ∀ r u', mr_NX k r u' (nI (t + 1), rs, rn, nI k, mc, nI p, 0, yen, op, nd, ab, st, ygs, ygn, ykd, yfs, yfn, yls, yln, yss, ysn, dp, ydu, yne, pl) → post r u') : wpX_workOne (mr_KX post) (pr, lv, nI (t + 1), nI o, nI y, rm, mk, nI k, mc, rs, rn, nI p, wc, op, nd, ab, st, rv, cp, cc, cs, gs, gn, du, ls, ln, dp, ss, sn, cl, fs, fn, wt, mt, pl) (nI i) (nI 3) (nd i) := by
  have hF0 := hF
  obtain ⟨⟨hp, _⟩, hPG, hPR', hFR, hRT, hHP⟩ := hF
  have hPR := hPR' hpr
  have hd := hFR.2.1 t (by omega)
  have hydu : ydu t = nI i := hd.2.2.trans hdu
  have hdp := hd.1
  have hd6 := hd.2.1
  have hb : ∀ f, f < t + 1 → hh f ≤ 6 := fun f hf => (hFR.2.1 f hf).2.1
  have hR := mr_HP_R hHP
  have g6 : hh t - 0 + 1 ≤ 6 := h2
  have g : hh t < 6 := by omega
  obtain ⟨m, hm, em⟩ := (mr_opn hPG hi (by omega) e).1 (by omega)
  have v := hRT.2.1 (4 * t + m) (by omega)
  rw [em]
  exact (mx_w3 ht g hdp hm (mr_V_S v)).mpr (mr_KXm (kont _ _ (Or.inl ⟨rfl, (nI (t + 1), rs, rn, nI (k + 1), mc, nI p, 0, yen, op, nd, ab, st, ygs, ygn, ykd, yfs, yfn, yls, yln, upd yss (6 * t + hh t) (yls (4 * t + m)), upd ysn (6 * t + hh t) (yln (4 * t + m)), upd dp t (nI (hh t + 1)), upd ydu t (nI (i + 1)), yne, pl), mr_RUN_mk (by omega) hpr ⟨⟨by omega, by omega⟩, hPG, fun _ => hPR, mr_FR_at hFR g, mr_RT_push hRT hb g v, hHP⟩, mr_YI_ok (fun post q => my_can_1 (by omega) ht hd6 hdp hi hydu hk e h1 h2 (fun p => my_fit (by omega)) (by omega) (by omega) q) (fun post q => (my_ws (by omega) (by omega) (by omega) (by omega) (by omega) (by omega) (by decide) ht hi hydu e).mpr (by rw [em]; exact (my_s3 hm ht g hdp).mpr q))⟩)))
theorem mr_o21 (hF : mr_FC R (t + 1) hh o y k p pr rm op nd ab st rv cp cc cs gs gn du ls ln dp ss sn cl fs fn ygs ygn ykd yfs yfn yls yln yss ysn ydu) (hpr : ¬ pr = 0) (ht : t < 10) (hi : i < 60) (hdu : du t = nI i) (hk : k < 300) (e : op i = nI 21) (h1 : mr_tk 21 ≤ hh t) (h2 : hh t - mr_tk 21 + mr_lv 21 ≤ 6) (kont : ∀ r u', mr_NX k r u' (nI (t + 1), rs, rn, nI k, mc, nI p, 0, yen, op, nd, ab, st, ygs, ygn, ykd, yfs, yfn, yls, yln, yss, ysn, dp, ydu, yne, pl) → post r u') : wpX_workOne (mr_KX post) (pr, lv, nI (t + 1), nI o, nI y, rm, mk, nI k, mc, rs, rn, nI p, wc, op, nd, ab, st, rv, cp, cc, cs, gs, gn, du, ls, ln, dp, ss, sn, cl, fs, fn, wt, mt, pl) (nI i) (nI 21) (nd i) := by
  have hF0 := hF
  obtain ⟨⟨hp, _⟩, hPG, hPR', hFR, hRT, hHP⟩ := hF
  have hPR := hPR' hpr
  have hd := hFR.2.1 t (by omega)
  have hydu : ydu t = nI i := hd.2.2.trans hdu
  have hdp := hd.1
  have hd6 := hd.2.1
  have hb : ∀ f, f < t + 1 → hh f ≤ 6 := fun f hf => (hFR.2.1 f hf).2.1
  have hR := mr_HP_R hHP
  have g6 : hh t - 0 + 1 ≤ 6 := h2
  have g : hh t < 6 := by omega
  obtain ⟨m, hm, em⟩ := (mr_opn hPG hi (by omega) e).1 (by omega)
  have v := hRT.1 m hm
  rw [em]
  exact (mx_w21 ht g hdp hm (mr_V_S v)).mpr (mr_KXm (kont _ _ (Or.inl ⟨rfl, (nI (t + 1), rs, rn, nI (k + 1), mc, nI p, 0, yen, op, nd, ab, st, ygs, ygn, ykd, yfs, yfn, yls, yln, upd yss (6 * t + hh t) (ygs m), upd ysn (6 * t + hh t) (ygn m), upd dp t (nI (hh t + 1)), upd ydu t (nI (i + 1)), yne, pl), mr_RUN_mk (by omega) hpr ⟨⟨by omega, by omega⟩, hPG, fun _ => hPR, mr_FR_at hFR g, mr_RT_push hRT hb g v, hHP⟩, mr_YI_ok (fun post q => my_can_1 (by omega) ht hd6 hdp hi hydu hk e h1 h2 (fun p => my_fit (by omega)) (by omega) (by omega) q) (fun post q => (my_ws (by omega) (by omega) (by omega) (by omega) (by omega) (by omega) (by decide) ht hi hydu e).mpr (by rw [em]; exact (my_s21 hm ht g hdp).mpr q))⟩)))
theorem mr_o6 (hF : mr_FC R (t + 1) hh o y k p pr rm op nd ab st rv cp cc cs gs gn du ls ln dp ss sn cl fs fn ygs ygn ykd yfs yfn yls yln yss ysn ydu) (hpr : ¬ pr = 0) (ht : t < 10) (hi : i < 60) (hdu : du t = nI i) (hk : k < 300) (e : op i = nI 6) (h1 : mr_tk 6 ≤ hh t) (h2 : hh t - mr_tk 6 + mr_lv 6 ≤ 6) (kont : ∀ r u', mr_NX k r u' (nI (t + 1), rs, rn, nI k, mc, nI p, 0, yen, op, nd, ab, st, ygs, ygn, ykd, yfs, yfn, yls, yln, yss, ysn, dp, ydu, yne, pl) → post r u') : wpX_workOne (mr_KX post) (pr, lv, nI (t + 1), nI o, nI y, rm, mk, nI k, mc, rs, rn, nI p, wc, op, nd, ab, st, rv, cp, cc, cs, gs, gn, du, ls, ln, dp, ss, sn, cl, fs, fn, wt, mt, pl) (nI i) (nI 6) (nd i) := by
  have hF0 := hF
  obtain ⟨⟨hp, _⟩, hPG, hPR', hFR, hRT, hHP⟩ := hF
  have hPR := hPR' hpr
  have hd := hFR.2.1 t (by omega)
  have hydu : ydu t = nI i := hd.2.2.trans hdu
  have hdp := hd.1
  have hd6 := hd.2.1
  have hb : ∀ f, f < t + 1 → hh f ≤ 6 := fun f hf => (hFR.2.1 f hf).2.1
  have hR := mr_HP_R hHP
  have g1 : 1 ≤ hh t := h1
  have v0 := hRT.2.2 t (hh t - 1) (by omega) (by omega)
  have g6 : hh t - 1 + 2 ≤ 6 := h2
  have g : hh t < 6 := by omega
  exact (mx_w6 ht g g1 hdp (mr_V_S v0)).mpr (mr_KXm (kont _ _ (Or.inl ⟨rfl, (nI (t + 1), rs, rn, nI (k + 1), mc, nI p, 0, yen, op, nd, ab, st, ygs, ygn, ykd, yfs, yfn, yls, yln, upd yss (6 * t + hh t) (yss (6 * t + (hh t - 1))), upd ysn (6 * t + hh t) (ysn (6 * t + (hh t - 1))), upd dp t (nI (hh t + 1)), upd ydu t (nI (i + 1)), yne, pl), mr_RUN_mk (by omega) hpr ⟨⟨by omega, by omega⟩, hPG, fun _ => hPR, mr_FR_at hFR g, mr_RT_push hRT hb g v0, hHP⟩, mr_YI_ok (fun post q => my_can_1 (by omega) ht hd6 hdp hi hydu hk e h1 h2 (fun p => my_fit (by omega)) (by omega) (by omega) q) (fun post q => (my_ws (by omega) (by omega) (by omega) (by omega) (by omega) (by omega) (by decide) ht hi hydu e).mpr ((my_s6 ht g g1 hdp).mpr q))⟩)))
theorem mr_o5 (hF : mr_FC R (t + 1) hh o y k p pr rm op nd ab st rv cp cc cs gs gn du ls ln dp ss sn cl fs fn ygs ygn ykd yfs yfn yls yln yss ysn ydu) (hpr : ¬ pr = 0) (ht : t < 10) (hi : i < 60) (hdu : du t = nI i) (hk : k < 300) (e : op i = nI 5) (h1 : mr_tk 5 ≤ hh t) (h2 : hh t - mr_tk 5 + mr_lv 5 ≤ 6) (kont : ∀ r u', mr_NX k r u' (nI (t + 1), rs, rn, nI k, mc, nI p, 0, yen, op, nd, ab, st, ygs, ygn, ykd, yfs, yfn, yls, yln, yss, ysn, dp, ydu, yne, pl) → post r u') : wpX_workOne (mr_KX post) (pr, lv, nI (t + 1), nI o, nI y, rm, mk, nI k, mc, rs, rn, nI p, wc, op, nd, ab, st, rv, cp, cc, cs, gs, gn, du, ls, ln, dp, ss, sn, cl, fs, fn, wt, mt, pl) (nI i) (nI 5) (nd i) := by
  have hF0 := hF
  obtain ⟨⟨hp, _⟩, hPG, hPR', hFR, hRT, hHP⟩ := hF
  have hPR := hPR' hpr
  have hd := hFR.2.1 t (by omega)
  have hydu : ydu t = nI i := hd.2.2.trans hdu
  have hdp := hd.1
  have hd6 := hd.2.1
  have hb : ∀ f, f < t + 1 → hh f ≤ 6 := fun f hf => (hFR.2.1 f hf).2.1
  have hR := mr_HP_R hHP
  have g1 : 1 ≤ hh t := h1
  have v0 := hRT.2.2 t (hh t - 1) (by omega) (by omega)
  exact (mx_w5 ht hd6 g1 hdp).mpr (mr_KXm (kont _ _ (Or.inl ⟨rfl, (nI (t + 1), rs, rn, nI (k + 1), mc, nI p, 0, yen, op, nd, ab, st, ygs, ygn, ykd, yfs, yfn, yls, yln, yss, ysn, upd dp t (nI (hh t - 1)), upd ydu t (nI (i + 1)), yne, pl), mr_RUN_mk (by omega) hpr ⟨⟨by omega, by omega⟩, hPG, fun _ => hPR, mr_FR_at hFR (by omega), mr_RT_drop hRT (by omega), hHP⟩, mr_YI_ok (fun post q => my_can_1 (by omega) ht hd6 hdp hi hydu hk e h1 h2 (fun p => my_fit (by omega)) (by omega) (by omega) q) (fun post q => (my_ws (by omega) (by omega) (by omega) (by omega) (by omega) (by omega) (by decide) ht hi hydu e).mpr (my_s5 ht hd6 g1 hdp hPG (mr_V_YV hHP v0) q))⟩)))
theorem mr_o4 (hF : mr_FC R (t + 1) hh o y k p pr rm op nd ab st rv cp cc cs gs gn du ls ln dp ss sn cl fs fn ygs ygn ykd yfs yfn yls yln yss ysn ydu) (hpr : ¬ pr = 0) (ht : t < 10) (hi : i < 60) (hdu : du t = nI i) (hk : k < 300) (e : op i = nI 4) (h1 : mr_tk 4 ≤ hh t) (h2 : hh t - mr_tk 4 + mr_lv 4 ≤ 6) (kont : ∀ r u', mr_NX k r u' (nI (t + 1), rs, rn, nI k, mc, nI p, 0, yen, op, nd, ab, st, ygs, ygn, ykd, yfs, yfn, yls, yln, yss, ysn, dp, ydu, yne, pl) → post r u') : wpX_workOne (mr_KX post) (pr, lv, nI (t + 1), nI o, nI y, rm, mk, nI k, mc, rs, rn, nI p, wc, op, nd, ab, st, rv, cp, cc, cs, gs, gn, du, ls, ln, dp, ss, sn, cl, fs, fn, wt, mt, pl) (nI i) (nI 4) (nd i) := by
  have hF0 := hF
  obtain ⟨⟨hp, _⟩, hPG, hPR', hFR, hRT, hHP⟩ := hF
  have hPR := hPR' hpr
  have hd := hFR.2.1 t (by omega)
  have hydu : ydu t = nI i := hd.2.2.trans hdu
  have hdp := hd.1
  have hd6 := hd.2.1
  have hb : ∀ f, f < t + 1 → hh f ≤ 6 := fun f hf => (hFR.2.1 f hf).2.1
  have hR := mr_HP_R hHP
  have g1 : 1 ≤ hh t := h1
  have v0 := hRT.2.2 t (hh t - 1) (by omega) (by omega)
  obtain ⟨m, hm, em⟩ := (mr_opn hPG hi (by omega) e).1 (by omega)
  rw [em]
  exact (mx_w4 ht hd6 g1 hdp hm (mr_V_S v0)).mpr (mr_KXm (kont _ _ (Or.inl ⟨rfl, (nI (t + 1), rs, rn, nI (k + 1), mc, nI p, 0, yen, op, nd, ab, st, ygs, ygn, ykd, yfs, yfn, upd yls (4 * t + m) (yss (6 * t + (hh t - 1))), upd yln (4 * t + m) (ysn (6 * t + (hh t - 1))), yss, ysn, upd dp t (nI (hh t - 1)), upd ydu t (nI (i + 1)), yne, pl), mr_RUN_mk (by omega) hpr ⟨⟨by omega, by omega⟩, hPG, fun _ => hPR, mr_FR_at hFR (by omega), mr_RT_drop (mr_RT_loc hRT v0) (by omega), hHP⟩, mr_YI_ok (fun post q => my_can_1 (by omega) ht hd6 hdp hi hydu hk e h1 h2 (fun p => my_fit (by omega)) (by omega) (by omega) q) (fun post q => (my_ws (by omega) (by omega) (by omega) (by omega) (by omega) (by omega) (by decide) ht hi hydu e).mpr (by rw [em]; exact my_s4 hm ht hd6 g1 hdp hPG (mr_V_YV hHP v0) q))⟩)))
theorem mr_o22 (hF : mr_FC R (t + 1) hh o y k p pr rm op nd ab st rv cp cc cs gs gn du ls ln dp ss sn cl fs fn ygs ygn ykd yfs yfn yls yln yss ysn ydu) (hpr : ¬ pr = 0) (ht : t < 10) (hi : i < 60) (hdu : du t = nI i) (hk : k < 300) (e : op i = nI 22) (h1 : mr_tk 22 ≤ hh t) (h2 : hh t - mr_tk 22 + mr_lv 22 ≤ 6) (kont : ∀ r u', mr_NX k r u' (nI (t + 1), rs, rn, nI k, mc, nI p, 0, yen, op, nd, ab, st, ygs, ygn, ykd, yfs, yfn, yls, yln, yss, ysn, dp, ydu, yne, pl) → post r u') : wpX_workOne (mr_KX post) (pr, lv, nI (t + 1), nI o, nI y, rm, mk, nI k, mc, rs, rn, nI p, wc, op, nd, ab, st, rv, cp, cc, cs, gs, gn, du, ls, ln, dp, ss, sn, cl, fs, fn, wt, mt, pl) (nI i) (nI 22) (nd i) := by
  have hF0 := hF
  obtain ⟨⟨hp, _⟩, hPG, hPR', hFR, hRT, hHP⟩ := hF
  have hPR := hPR' hpr
  have hd := hFR.2.1 t (by omega)
  have hydu : ydu t = nI i := hd.2.2.trans hdu
  have hdp := hd.1
  have hd6 := hd.2.1
  have hb : ∀ f, f < t + 1 → hh f ≤ 6 := fun f hf => (hFR.2.1 f hf).2.1
  have hR := mr_HP_R hHP
  have g1 : 1 ≤ hh t := h1
  have v0 := hRT.2.2 t (hh t - 1) (by omega) (by omega)
  obtain ⟨m, hm, em⟩ := (mr_opn hPG hi (by omega) e).1 (by omega)
  rw [em]
  exact (mx_w22 ht hd6 g1 hdp hm (mr_V_S v0)).mpr (mr_KXm (kont _ _ (Or.inl ⟨rfl, (nI (t + 1), rs, rn, nI (k + 1), mc, nI p, 0, yen, op, nd, ab, st, upd ygs m (yss (6 * t + (hh t - 1))), upd ygn m (ysn (6 * t + (hh t - 1))), ykd, yfs, yfn, yls, yln, yss, ysn, upd dp t (nI (hh t - 1)), upd ydu t (nI (i + 1)), yne, pl), mr_RUN_mk (by omega) hpr ⟨⟨by omega, by omega⟩, hPG, fun _ => hPR, mr_FR_at hFR (by omega), mr_RT_drop (mr_RT_glob hRT v0) (by omega), hHP⟩, mr_YI_ok (fun post q => my_can_1 (by omega) ht hd6 hdp hi hydu hk e h1 h2 (fun p => my_fit (by omega)) (by omega) (by omega) q) (fun post q => (my_ws (by omega) (by omega) (by omega) (by omega) (by omega) (by omega) (by decide) ht hi hydu e).mpr (by rw [em]; exact my_s22 hm ht hd6 g1 hdp hPG (mr_V_YV hHP v0) q))⟩)))
theorem mr_o13 (hF : mr_FC R (t + 1) hh o y k p pr rm op nd ab st rv cp cc cs gs gn du ls ln dp ss sn cl fs fn ygs ygn ykd yfs yfn yls yln yss ysn ydu) (hpr : ¬ pr = 0) (ht : t < 10) (hi : i < 60) (hdu : du t = nI i) (hk : k < 300) (e : op i = nI 13) (h1 : mr_tk 13 ≤ hh t) (h2 : hh t - mr_tk 13 + mr_lv 13 ≤ 6) (kont : ∀ r u', mr_NX k r u' (nI (t + 1), rs, rn, nI k, mc, nI p, 0, yen, op, nd, ab, st, ygs, ygn, ykd, yfs, yfn, yls, yln, yss, ysn, dp, ydu, yne, pl) → post r u') : wpX_workOne (mr_KX post) (pr, lv, nI (t + 1), nI o, nI y, rm, mk, nI k, mc, rs, rn, nI p, wc, op, nd, ab, st, rv, cp, cc, cs, gs, gn, du, ls, ln, dp, ss, sn, cl, fs, fn, wt, mt, pl) (nI i) (nI 13) (nd i) := by
  have hF0 := hF
  obtain ⟨⟨hp, _⟩, hPG, hPR', hFR, hRT, hHP⟩ := hF
  have hPR := hPR' hpr
  have hd := hFR.2.1 t (by omega)
  have hydu : ydu t = nI i := hd.2.2.trans hdu
  have hdp := hd.1
  have hd6 := hd.2.1
  have hb : ∀ f, f < t + 1 → hh f ≤ 6 := fun f hf => (hFR.2.1 f hf).2.1
  have hR := mr_HP_R hHP
  exact (mx_w13 ht).mpr (mr_KXm (kont _ _ (Or.inl ⟨rfl, (nI (t + 1), rs, rn, nI (k + 1), mc, nI p, 0, yen, op, nd, ab, st, ygs, ygn, ykd, yfs, yfn, yls, yln, yss, ysn, dp, upd ydu t (nd i), yne, pl), mr_RUN_mk (by omega) hpr ⟨⟨by omega, by omega⟩, hPG, fun _ => hPR, mr_FR_i hFR, hRT, hHP⟩, mr_YI_ok (fun post q => my_can_1 (by omega) ht hd6 hdp hi hydu hk e h1 h2 (fun p => my_fit (by omega)) (by omega) (by omega) q) (fun post q => (my_w13 ht hi hydu e).mpr q)⟩)))
theorem mr_o7 (hF : mr_FC R (t + 1) hh o y k p pr rm op nd ab st rv cp cc cs gs gn du ls ln dp ss sn cl fs fn ygs ygn ykd yfs yfn yls yln yss ysn ydu) (hpr : ¬ pr = 0) (ht : t < 10) (hi : i < 60) (hdu : du t = nI i) (hk : k < 300) (e : op i = nI 7) (h1 : mr_tk 7 ≤ hh t) (h2 : hh t - mr_tk 7 + mr_lv 7 ≤ 6) (kont : ∀ r u', mr_NX k r u' (nI (t + 1), rs, rn, nI k, mc, nI p, 0, yen, op, nd, ab, st, ygs, ygn, ykd, yfs, yfn, yls, yln, yss, ysn, dp, ydu, yne, pl) → post r u') : wpX_workOne (mr_KX post) (pr, lv, nI (t + 1), nI o, nI y, rm, mk, nI k, mc, rs, rn, nI p, wc, op, nd, ab, st, rv, cp, cc, cs, gs, gn, du, ls, ln, dp, ss, sn, cl, fs, fn, wt, mt, pl) (nI i) (nI 7) (nd i) := by
  have hF0 := hF
  obtain ⟨⟨hp, _⟩, hPG, hPR', hFR, hRT, hHP⟩ := hF
  have hPR := hPR' hpr
  have hd := hFR.2.1 t (by omega)
  have hydu : ydu t = nI i := hd.2.2.trans hdu
  have hdp := hd.1
  have hd6 := hd.2.1
  have hb : ∀ f, f < t + 1 → hh f ≤ 6 := fun f hf => (hFR.2.1 f hf).2.1
  have hR := mr_HP_R hHP
  have g2 : 2 ≤ hh t := h1
  have v0 := hRT.2.2 t (hh t - 1) (by omega) (by omega)
  have v1 := hRT.2.2 t (hh t - 2) (by omega) (by omega)
  have nlo : 6 * t + (hh t - 2) ≠ 6 * t + (hh t - 1) := by omega
  have rt := mr_RT_stk (k0 := 6 * t + (hh t - 2)) (mr_RT_stk (k0 := 6 * t + (hh t - 1)) hRT v1) v0
  rw [mr_uc (f := yss) nlo.symm, mr_uc (f := ysn) nlo.symm] at rt
  exact (mx_w7 ht hd6 g2 hdp (mr_V_S v0) (mr_V_S v1)).mpr (mr_KXm (kont _ _ (Or.inl ⟨rfl, (nI (t + 1), rs, rn, nI (k + 1), mc, nI p, 0, yen, op, nd, ab, st, ygs, ygn, ykd, yfs, yfn, yls, yln, upd (upd yss (6 * t + (hh t - 2)) (yss (6 * t + (hh t - 1)))) (6 * t + (hh t - 1)) (yss (6 * t + (hh t - 2))), upd (upd ysn (6 * t + (hh t - 2)) (ysn (6 * t + (hh t - 1)))) (6 * t + (hh t - 1)) (ysn (6 * t + (hh t - 2))), dp, upd ydu t (nI (i + 1)), yne, pl), mr_RUN_mk (by omega) hpr ⟨⟨by omega, by omega⟩, hPG, fun _ => hPR, mr_FR_i hFR, rt, hHP⟩, mr_YI_ok (fun post q => my_can_1 (by omega) ht hd6 hdp hi hydu hk e h1 h2 (fun p => my_fit (by omega)) (by omega) (by omega) q) (fun post q => (my_wt (by omega) (by omega) (by decide) ht hi hydu e).mpr ((my_t7 ht hd6 g2 hdp).mpr (by rw [mr_u0 hdp]; exact q)))⟩)))
theorem mr_o8 (hF : mr_FC R (t + 1) hh o y k p pr rm op nd ab st rv cp cc cs gs gn du ls ln dp ss sn cl fs fn ygs ygn ykd yfs yfn yls yln yss ysn ydu) (hpr : ¬ pr = 0) (ht : t < 10) (hi : i < 60) (hdu : du t = nI i) (hk : k < 300) (e : op i = nI 8) (h1 : mr_tk 8 ≤ hh t) (h2 : hh t - mr_tk 8 + mr_lv 8 ≤ 6) (kont : ∀ r u', mr_NX k r u' (nI (t + 1), rs, rn, nI k, mc, nI p, 0, yen, op, nd, ab, st, ygs, ygn, ykd, yfs, yfn, yls, yln, yss, ysn, dp, ydu, yne, pl) → post r u') : wpX_workOne (mr_KX post) (pr, lv, nI (t + 1), nI o, nI y, rm, mk, nI k, mc, rs, rn, nI p, wc, op, nd, ab, st, rv, cp, cc, cs, gs, gn, du, ls, ln, dp, ss, sn, cl, fs, fn, wt, mt, pl) (nI i) (nI 8) (nd i) := by
  have hF0 := hF
  obtain ⟨⟨hp, _⟩, hPG, hPR', hFR, hRT, hHP⟩ := hF
  have hPR := hPR' hpr
  have hd := hFR.2.1 t (by omega)
  have hydu : ydu t = nI i := hd.2.2.trans hdu
  have hdp := hd.1
  have hd6 := hd.2.1
  have hb : ∀ f, f < t + 1 → hh f ≤ 6 := fun f hf => (hFR.2.1 f hf).2.1
  have hR := mr_HP_R hHP
  have g2 : 2 ≤ hh t := h1
  have v0 := hRT.2.2 t (hh t - 1) (by omega) (by omega)
  have v1 := hRT.2.2 t (hh t - 2) (by omega) (by omega)
  rw [mx_w8 (by omega) (by omega)]
  by_cases hs : ss (6 * t + (hh t - 1)) = 1 ∧ ss (6 * t + (hh t - 2)) = 1
  · have y0 := mr_V_int v0 hs.1
    have y1 := mr_V_int v1 hs.2
    exact (mx_combine ht hd6 g2 hdp hdu hs.1 hs.2 (Or.inl ⟨rfl, rfl⟩)).mpr (mr_KXm (kont _ _ (Or.inl ⟨rfl, (nI (t + 1), rs, rn, nI (k + 1), mc, nI p, 0, yen, op, nd, ab, st, ygs, ygn, ykd, yfs, yfn, yls, yln, upd yss (6 * t + (hh t - 2)) 1, upd ysn (6 * t + (hh t - 2)) (sn (6 * t + (hh t - 2)) + sn (6 * t + (hh t - 1))), upd dp t (nI (hh t - 1)), upd ydu t (nI (i + 1)), yne, pl), mr_RUN_mk (by omega) hpr ⟨⟨by omega, by omega⟩, hPG, fun _ => hPR, mr_FR_at hFR (by omega), mr_RT_drop (mr_RT_stk hRT mr_V_1) (by omega), hHP⟩, mr_YI_ok (fun post q => my_can_1 (by omega) ht hd6 hdp hi hydu hk e h1 h2 (fun p => my_fit8 (by omega) (by omega) ht hd6 g2 hdp ⟨v0.1.trans hs.1, v1.1.trans hs.2⟩) (by omega) (by omega) q) (fun post q => (my_wt (by omega) (by omega) (by decide) ht hi hydu e).mpr ((my_t8 ht hd6 g2 hdp (Or.inl ⟨rfl, by rw [y0, y1]⟩)).mpr q))⟩)))
  · exact (mx_combine_s ht hd6 g2 hdp hs).mpr (mr_KXr (by decide) (by decide) (kont _ _ (Or.inr (Or.inr ⟨by decide, _, mr_END_mk (r := 4) (fx := nI (t + 1)) (fy := nI (t + 1)) (yne := yne) (mr_FC_0 hF0), mr_YI_stop (fun post q => my_can_0 (by omega) ht hd6 hdp hi hydu hk e h1 h2 (fun p => my_fit8f (by omega) (by omega) ht hd6 g2 hdp (by rw [v0.1, v1.1]; exact hs)) q)⟩))))
theorem mr_o9 (hF : mr_FC R (t + 1) hh o y k p pr rm op nd ab st rv cp cc cs gs gn du ls ln dp ss sn cl fs fn ygs ygn ykd yfs yfn yls yln yss ysn ydu) (hpr : ¬ pr = 0) (ht : t < 10) (hi : i < 60) (hdu : du t = nI i) (hk : k < 300) (e : op i = nI 9) (h1 : mr_tk 9 ≤ hh t) (h2 : hh t - mr_tk 9 + mr_lv 9 ≤ 6) (kont : ∀ r u', mr_NX k r u' (nI (t + 1), rs, rn, nI k, mc, nI p, 0, yen, op, nd, ab, st, ygs, ygn, ykd, yfs, yfn, yls, yln, yss, ysn, dp, ydu, yne, pl) → post r u') : wpX_workOne (mr_KX post) (pr, lv, nI (t + 1), nI o, nI y, rm, mk, nI k, mc, rs, rn, nI p, wc, op, nd, ab, st, rv, cp, cc, cs, gs, gn, du, ls, ln, dp, ss, sn, cl, fs, fn, wt, mt, pl) (nI i) (nI 9) (nd i) := by
  have hF0 := hF
  obtain ⟨⟨hp, _⟩, hPG, hPR', hFR, hRT, hHP⟩ := hF
  have hPR := hPR' hpr
  have hd := hFR.2.1 t (by omega)
  have hydu : ydu t = nI i := hd.2.2.trans hdu
  have hdp := hd.1
  have hd6 := hd.2.1
  have hb : ∀ f, f < t + 1 → hh f ≤ 6 := fun f hf => (hFR.2.1 f hf).2.1
  have hR := mr_HP_R hHP
  have g2 : 2 ≤ hh t := h1
  have v0 := hRT.2.2 t (hh t - 1) (by omega) (by omega)
  have v1 := hRT.2.2 t (hh t - 2) (by omega) (by omega)
  rw [mx_w8 (by omega) (by omega)]
  by_cases hs : ss (6 * t + (hh t - 1)) = 1 ∧ ss (6 * t + (hh t - 2)) = 1
  · have y0 := mr_V_int v0 hs.1
    have y1 := mr_V_int v1 hs.2
    exact (mx_combine ht hd6 g2 hdp hdu hs.1 hs.2 (Or.inr (Or.inl ⟨rfl, rfl⟩))).mpr (mr_KXm (kont _ _ (Or.inl ⟨rfl, (nI (t + 1), rs, rn, nI (k + 1), mc, nI p, 0, yen, op, nd, ab, st, ygs, ygn, ykd, yfs, yfn, yls, yln, upd yss (6 * t + (hh t - 2)) 1, upd ysn (6 * t + (hh t - 2)) (sn (6 * t + (hh t - 2)) - sn (6 * t + (hh t - 1))), upd dp t (nI (hh t - 1)), upd ydu t (nI (i + 1)), yne, pl), mr_RUN_mk (by omega) hpr ⟨⟨by omega, by omega⟩, hPG, fun _ => hPR, mr_FR_at hFR (by omega), mr_RT_drop (mr_RT_stk hRT mr_V_1) (by omega), hHP⟩, mr_YI_ok (fun post q => my_can_1 (by omega) ht hd6 hdp hi hydu hk e h1 h2 (fun p => my_fit8 (by omega) (by omega) ht hd6 g2 hdp ⟨v0.1.trans hs.1, v1.1.trans hs.2⟩) (by omega) (by omega) q) (fun post q => (my_wt (by omega) (by omega) (by decide) ht hi hydu e).mpr ((my_t8 ht hd6 g2 hdp (Or.inr (Or.inl ⟨rfl, by rw [y0, y1]⟩))).mpr q))⟩)))
  · exact (mx_combine_s ht hd6 g2 hdp hs).mpr (mr_KXr (by decide) (by decide) (kont _ _ (Or.inr (Or.inr ⟨by decide, _, mr_END_mk (r := 4) (fx := nI (t + 1)) (fy := nI (t + 1)) (yne := yne) (mr_FC_0 hF0), mr_YI_stop (fun post q => my_can_0 (by omega) ht hd6 hdp hi hydu hk e h1 h2 (fun p => my_fit8f (by omega) (by omega) ht hd6 g2 hdp (by rw [v0.1, v1.1]; exact hs)) q)⟩))))
theorem mr_o10 (hF : mr_FC R (t + 1) hh o y k p pr rm op nd ab st rv cp cc cs gs gn du ls ln dp ss sn cl fs fn ygs ygn ykd yfs yfn yls yln yss ysn ydu) (hpr : ¬ pr = 0) (ht : t < 10) (hi : i < 60) (hdu : du t = nI i) (hk : k < 300) (e : op i = nI 10) (h1 : mr_tk 10 ≤ hh t) (h2 : hh t - mr_tk 10 + mr_lv 10 ≤ 6) (kont : ∀ r u', mr_NX k r u' (nI (t + 1), rs, rn, nI k, mc, nI p, 0, yen, op, nd, ab, st, ygs, ygn, ykd, yfs, yfn, yls, yln, yss, ysn, dp, ydu, yne, pl) → post r u') : wpX_workOne (mr_KX post) (pr, lv, nI (t + 1), nI o, nI y, rm, mk, nI k, mc, rs, rn, nI p, wc, op, nd, ab, st, rv, cp, cc, cs, gs, gn, du, ls, ln, dp, ss, sn, cl, fs, fn, wt, mt, pl) (nI i) (nI 10) (nd i) := by
  have hF0 := hF
  obtain ⟨⟨hp, _⟩, hPG, hPR', hFR, hRT, hHP⟩ := hF
  have hPR := hPR' hpr
  have hd := hFR.2.1 t (by omega)
  have hydu : ydu t = nI i := hd.2.2.trans hdu
  have hdp := hd.1
  have hd6 := hd.2.1
  have hb : ∀ f, f < t + 1 → hh f ≤ 6 := fun f hf => (hFR.2.1 f hf).2.1
  have hR := mr_HP_R hHP
  have g2 : 2 ≤ hh t := h1
  have v0 := hRT.2.2 t (hh t - 1) (by omega) (by omega)
  have v1 := hRT.2.2 t (hh t - 2) (by omega) (by omega)
  rw [mx_w8 (by omega) (by omega)]
  by_cases hs : ss (6 * t + (hh t - 1)) = 1 ∧ ss (6 * t + (hh t - 2)) = 1
  · have y0 := mr_V_int v0 hs.1
    have y1 := mr_V_int v1 hs.2
    exact (mx_combine ht hd6 g2 hdp hdu hs.1 hs.2 (Or.inr (Or.inr (Or.inl ⟨rfl, rfl⟩)))).mpr (mr_KXm (kont _ _ (Or.inl ⟨rfl, (nI (t + 1), rs, rn, nI (k + 1), mc, nI p, 0, yen, op, nd, ab, st, ygs, ygn, ykd, yfs, yfn, yls, yln, upd yss (6 * t + (hh t - 2)) 1, upd ysn (6 * t + (hh t - 2)) (sn (6 * t + (hh t - 2)) * sn (6 * t + (hh t - 1))), upd dp t (nI (hh t - 1)), upd ydu t (nI (i + 1)), yne, pl), mr_RUN_mk (by omega) hpr ⟨⟨by omega, by omega⟩, hPG, fun _ => hPR, mr_FR_at hFR (by omega), mr_RT_drop (mr_RT_stk hRT mr_V_1) (by omega), hHP⟩, mr_YI_ok (fun post q => my_can_1 (by omega) ht hd6 hdp hi hydu hk e h1 h2 (fun p => my_fit8 (by omega) (by omega) ht hd6 g2 hdp ⟨v0.1.trans hs.1, v1.1.trans hs.2⟩) (by omega) (by omega) q) (fun post q => (my_wt (by omega) (by omega) (by decide) ht hi hydu e).mpr ((my_t8 ht hd6 g2 hdp (Or.inr (Or.inr (Or.inl ⟨rfl, by rw [y0, y1]⟩)))).mpr q))⟩)))
  · exact (mx_combine_s ht hd6 g2 hdp hs).mpr (mr_KXr (by decide) (by decide) (kont _ _ (Or.inr (Or.inr ⟨by decide, _, mr_END_mk (r := 4) (fx := nI (t + 1)) (fy := nI (t + 1)) (yne := yne) (mr_FC_0 hF0), mr_YI_stop (fun post q => my_can_0 (by omega) ht hd6 hdp hi hydu hk e h1 h2 (fun p => my_fit8f (by omega) (by omega) ht hd6 g2 hdp (by rw [v0.1, v1.1]; exact hs)) q)⟩))))
theorem mr_o11 (hF : mr_FC R (t + 1) hh o y k p pr rm op nd ab st rv cp cc cs gs gn du ls ln dp ss sn cl fs fn ygs ygn ykd yfs yfn yls yln yss ysn ydu) (hpr : ¬ pr = 0) (ht : t < 10) (hi : i < 60) (hdu : du t = nI i) (hk : k < 300) (e : op i = nI 11) (h1 : mr_tk 11 ≤ hh t) (h2 : hh t - mr_tk 11 + mr_lv 11 ≤ 6) (kont : ∀ r u', mr_NX k r u' (nI (t + 1), rs, rn, nI k, mc, nI p, 0, yen, op, nd, ab, st, ygs, ygn, ykd, yfs, yfn, yls, yln, yss, ysn, dp, ydu, yne, pl) → post r u') : wpX_workOne (mr_KX post) (pr, lv, nI (t + 1), nI o, nI y, rm, mk, nI k, mc, rs, rn, nI p, wc, op, nd, ab, st, rv, cp, cc, cs, gs, gn, du, ls, ln, dp, ss, sn, cl, fs, fn, wt, mt, pl) (nI i) (nI 11) (nd i) := by
  have hF0 := hF
  obtain ⟨⟨hp, _⟩, hPG, hPR', hFR, hRT, hHP⟩ := hF
  have hPR := hPR' hpr
  have hd := hFR.2.1 t (by omega)
  have hydu : ydu t = nI i := hd.2.2.trans hdu
  have hdp := hd.1
  have hd6 := hd.2.1
  have hb : ∀ f, f < t + 1 → hh f ≤ 6 := fun f hf => (hFR.2.1 f hf).2.1
  have hR := mr_HP_R hHP
  have g2 : 2 ≤ hh t := h1
  have v0 := hRT.2.2 t (hh t - 1) (by omega) (by omega)
  have v1 := hRT.2.2 t (hh t - 2) (by omega) (by omega)
  rw [mx_w8 (by omega) (by omega)]
  by_cases hs : ss (6 * t + (hh t - 1)) = 1 ∧ ss (6 * t + (hh t - 2)) = 1
  · have y0 := mr_V_int v0 hs.1
    have y1 := mr_V_int v1 hs.2
    by_cases c : sn (6 * t + (hh t - 1)) ≤ sn (6 * t + (hh t - 2))
    · exact (mx_combine ht hd6 g2 hdp hdu hs.1 hs.2 (Or.inr (Or.inr (Or.inr ⟨rfl, Or.inl ⟨c, rfl⟩⟩)))).mpr (mr_KXm (kont _ _ (Or.inl ⟨rfl, (nI (t + 1), rs, rn, nI (k + 1), mc, nI p, 0, yen, op, nd, ab, st, ygs, ygn, ykd, yfs, yfn, yls, yln, upd yss (6 * t + (hh t - 2)) 1, upd ysn (6 * t + (hh t - 2)) 0, upd dp t (nI (hh t - 1)), upd ydu t (nI (i + 1)), yne, pl), mr_RUN_mk (by omega) hpr ⟨⟨by omega, by omega⟩, hPG, fun _ => hPR, mr_FR_at hFR (by omega), mr_RT_drop (mr_RT_stk hRT mr_V_1) (by omega), hHP⟩, mr_YI_ok (fun post q => my_can_1 (by omega) ht hd6 hdp hi hydu hk e h1 h2 (fun p => my_fit8 (by omega) (by omega) ht hd6 g2 hdp ⟨v0.1.trans hs.1, v1.1.trans hs.2⟩) (by omega) (by omega) q) (fun post q => (my_wt (by omega) (by omega) (by decide) ht hi hydu e).mpr ((my_t8 ht hd6 g2 hdp (Or.inr (Or.inr (Or.inr ⟨rfl, Or.inl ⟨by rw [y0, y1]; exact c, rfl⟩⟩)))).mpr q))⟩)))
    · exact (mx_combine ht hd6 g2 hdp hdu hs.1 hs.2 (Or.inr (Or.inr (Or.inr ⟨rfl, Or.inr ⟨c, rfl⟩⟩)))).mpr (mr_KXm (kont _ _ (Or.inl ⟨rfl, (nI (t + 1), rs, rn, nI (k + 1), mc, nI p, 0, yen, op, nd, ab, st, ygs, ygn, ykd, yfs, yfn, yls, yln, upd yss (6 * t + (hh t - 2)) 1, upd ysn (6 * t + (hh t - 2)) 1, upd dp t (nI (hh t - 1)), upd ydu t (nI (i + 1)), yne, pl), mr_RUN_mk (by omega) hpr ⟨⟨by omega, by omega⟩, hPG, fun _ => hPR, mr_FR_at hFR (by omega), mr_RT_drop (mr_RT_stk hRT mr_V_1) (by omega), hHP⟩, mr_YI_ok (fun post q => my_can_1 (by omega) ht hd6 hdp hi hydu hk e h1 h2 (fun p => my_fit8 (by omega) (by omega) ht hd6 g2 hdp ⟨v0.1.trans hs.1, v1.1.trans hs.2⟩) (by omega) (by omega) q) (fun post q => (my_wt (by omega) (by omega) (by decide) ht hi hydu e).mpr ((my_t8 ht hd6 g2 hdp (Or.inr (Or.inr (Or.inr ⟨rfl, Or.inr ⟨by rw [y0, y1]; exact c, rfl⟩⟩)))).mpr q))⟩)))
  · exact (mx_combine_s ht hd6 g2 hdp hs).mpr (mr_KXr (by decide) (by decide) (kont _ _ (Or.inr (Or.inr ⟨by decide, _, mr_END_mk (r := 4) (fx := nI (t + 1)) (fy := nI (t + 1)) (yne := yne) (mr_FC_0 hF0), mr_YI_stop (fun post q => my_can_0 (by omega) ht hd6 hdp hi hydu hk e h1 h2 (fun p => my_fit8f (by omega) (by omega) ht hd6 g2 hdp (by rw [v0.1, v1.1]; exact hs)) q)⟩))))
theorem mr_o12 (hF : mr_FC R (t + 1) hh o y k p pr rm op nd ab st rv cp cc cs gs gn du ls ln dp ss sn cl fs fn ygs ygn ykd yfs yfn yls yln yss ysn ydu) (hpr : ¬ pr = 0) (ht : t < 10) (hi : i < 60) (hdu : du t = nI i) (hk : k < 300) (e : op i = nI 12) (h1 : mr_tk 12 ≤ hh t) (h2 : hh t - mr_tk 12 + mr_lv 12 ≤ 6) (kont : ∀ r u', mr_NX k r u' (nI (t + 1), rs, rn, nI k, mc, nI p, 0, yen, op, nd, ab, st, ygs, ygn, ykd, yfs, yfn, yls, yln, yss, ysn, dp, ydu, yne, pl) → post r u') : wpX_workOne (mr_KX post) (pr, lv, nI (t + 1), nI o, nI y, rm, mk, nI k, mc, rs, rn, nI p, wc, op, nd, ab, st, rv, cp, cc, cs, gs, gn, du, ls, ln, dp, ss, sn, cl, fs, fn, wt, mt, pl) (nI i) (nI 12) (nd i) := by
  have hF0 := hF
  obtain ⟨⟨hp, _⟩, hPG, hPR', hFR, hRT, hHP⟩ := hF
  have hPR := hPR' hpr
  have hd := hFR.2.1 t (by omega)
  have hydu : ydu t = nI i := hd.2.2.trans hdu
  have hdp := hd.1
  have hd6 := hd.2.1
  have hb : ∀ f, f < t + 1 → hh f ≤ 6 := fun f hf => (hFR.2.1 f hf).2.1
  have hR := mr_HP_R hHP
  have g2 : 2 ≤ hh t := h1
  have v0 := hRT.2.2 t (hh t - 1) (by omega) (by omega)
  have v1 := hRT.2.2 t (hh t - 2) (by omega) (by omega)
  have iff := mr_same hHP v0 v1
  by_cases c : ss (6 * t + (hh t - 1)) = ss (6 * t + (hh t - 2)) ∧ sn (6 * t + (hh t - 1)) = sn (6 * t + (hh t - 2))
  · exact (mx_w12t ht hd6 g2 hdp c.1 c.2).mpr (mr_KXm (kont _ _ (Or.inl ⟨rfl, (nI (t + 1), rs, rn, nI (k + 1), mc, nI p, 0, yen, op, nd, ab, st, ygs, ygn, ykd, yfs, yfn, yls, yln, upd yss (6 * t + (hh t - 2)) 1, upd ysn (6 * t + (hh t - 2)) 1, upd dp t (nI (hh t - 1)), upd ydu t (nI (i + 1)), yne, pl), mr_RUN_mk (by omega) hpr ⟨⟨by omega, by omega⟩, hPG, fun _ => hPR, mr_FR_at hFR (by omega), mr_RT_drop (mr_RT_stk hRT mr_V_1) (by omega), hHP⟩, mr_YI_ok (fun post q => my_can_1 (by omega) ht hd6 hdp hi hydu hk e h1 h2 (fun p => my_fit (by omega)) (by omega) (by omega) q) (fun post q => (my_wt (by omega) (by omega) (by decide) ht hi hydu e).mpr ((my_t12 ht hd6 g2 hdp (Or.inl ⟨iff.mp c, rfl⟩)).mpr q))⟩)))
  · exact (mx_w12f ht hd6 g2 hdp c).mpr (mr_KXm (kont _ _ (Or.inl ⟨rfl, (nI (t + 1), rs, rn, nI (k + 1), mc, nI p, 0, yen, op, nd, ab, st, ygs, ygn, ykd, yfs, yfn, yls, yln, upd yss (6 * t + (hh t - 2)) 1, upd ysn (6 * t + (hh t - 2)) 0, upd dp t (nI (hh t - 1)), upd ydu t (nI (i + 1)), yne, pl), mr_RUN_mk (by omega) hpr ⟨⟨by omega, by omega⟩, hPG, fun _ => hPR, mr_FR_at hFR (by omega), mr_RT_drop (mr_RT_stk hRT mr_V_1) (by omega), hHP⟩, mr_YI_ok (fun post q => my_can_1 (by omega) ht hd6 hdp hi hydu hk e h1 h2 (fun p => my_fit (by omega)) (by omega) (by omega) q) (fun post q => (my_wt (by omega) (by omega) (by decide) ht hi hydu e).mpr ((my_t12 ht hd6 g2 hdp (Or.inr ⟨fun q => c (iff.mpr q), rfl⟩)).mpr q))⟩)))
theorem mr_o14 (hF : mr_FC R (t + 1) hh o y k p pr rm op nd ab st rv cp cc cs gs gn du ls ln dp ss sn cl fs fn ygs ygn ykd yfs yfn yls yln yss ysn ydu) (hpr : ¬ pr = 0) (ht : t < 10) (hi : i < 60) (hdu : du t = nI i) (hk : k < 300) (e : op i = nI 14) (h1 : mr_tk 14 ≤ hh t) (h2 : hh t - mr_tk 14 + mr_lv 14 ≤ 6) (kont : ∀ r u', mr_NX k r u' (nI (t + 1), rs, rn, nI k, mc, nI p, 0, yen, op, nd, ab, st, ygs, ygn, ykd, yfs, yfn, yls, yln, yss, ysn, dp, ydu, yne, pl) → post r u') : wpX_workOne (mr_KX post) (pr, lv, nI (t + 1), nI o, nI y, rm, mk, nI k, mc, rs, rn, nI p, wc, op, nd, ab, st, rv, cp, cc, cs, gs, gn, du, ls, ln, dp, ss, sn, cl, fs, fn, wt, mt, pl) (nI i) (nI 14) (nd i) := by
  have hF0 := hF
  obtain ⟨⟨hp, _⟩, hPG, hPR', hFR, hRT, hHP⟩ := hF
  have hPR := hPR' hpr
  have hd := hFR.2.1 t (by omega)
  have hydu : ydu t = nI i := hd.2.2.trans hdu
  have hdp := hd.1
  have hd6 := hd.2.1
  have hb : ∀ f, f < t + 1 → hh f ≤ 6 := fun f hf => (hFR.2.1 f hf).2.1
  have hR := mr_HP_R hHP
  have g1 : 1 ≤ hh t := h1
  have v0 := hRT.2.2 t (hh t - 1) (by omega) (by omega)
  by_cases hs : ss (6 * t + (hh t - 1)) = 1
  · have y0 := mr_V_int v0 hs
    by_cases c : sn (6 * t + (hh t - 1)) = 0
    · exact (mx_w14 ht hd6 g1 hdp hs (Or.inl ⟨c, rfl⟩)).mpr (mr_KXm (kont _ _ (Or.inl ⟨rfl, (nI (t + 1), rs, rn, nI (k + 1), mc, nI p, 0, yen, op, nd, ab, st, ygs, ygn, ykd, yfs, yfn, yls, yln, yss, ysn, upd dp t (nI (hh t - 1)), upd ydu t (nd i), yne, pl), mr_RUN_mk (by omega) hpr ⟨⟨by omega, by omega⟩, hPG, fun _ => hPR, mr_FR_at hFR (by omega), mr_RT_drop hRT (by omega), hHP⟩, mr_YI_ok (fun post q => my_can_1 (by omega) ht hd6 hdp hi hydu hk e h1 h2 (fun p => my_fit1 (Or.inl rfl) ht hd6 g1 hdp (v0.1.trans hs)) (by omega) (by omega) q) (fun post q => (my_ws (by omega) (by omega) (by omega) (by omega) (by omega) (by omega) (by decide) ht hi hydu e).mpr (my_s14 ht hd6 g1 hdp hPG (v0.1.trans hs) (Or.inl ⟨y0.trans c, rfl⟩) q))⟩)))
    · exact (mx_w14 ht hd6 g1 hdp hs (Or.inr ⟨c, rfl⟩)).mpr (mr_KXm (kont _ _ (Or.inl ⟨rfl, (nI (t + 1), rs, rn, nI (k + 1), mc, nI p, 0, yen, op, nd, ab, st, ygs, ygn, ykd, yfs, yfn, yls, yln, yss, ysn, upd dp t (nI (hh t - 1)), upd ydu t (nI (i + 1)), yne, pl), mr_RUN_mk (by omega) hpr ⟨⟨by omega, by omega⟩, hPG, fun _ => hPR, mr_FR_at hFR (by omega), mr_RT_drop hRT (by omega), hHP⟩, mr_YI_ok (fun post q => my_can_1 (by omega) ht hd6 hdp hi hydu hk e h1 h2 (fun p => my_fit1 (Or.inl rfl) ht hd6 g1 hdp (v0.1.trans hs)) (by omega) (by omega) q) (fun post q => (my_ws (by omega) (by omega) (by omega) (by omega) (by omega) (by omega) (by decide) ht hi hydu e).mpr (my_s14 ht hd6 g1 hdp hPG (v0.1.trans hs) (Or.inr ⟨fun q => c (y0.symm.trans q), rfl⟩) q))⟩)))
  · exact mx_w14a.mpr ((mx_91s ht hd6 g1 hdp hs).mpr (mr_KXr (by decide) (by decide) (kont _ _ (Or.inr (Or.inr ⟨by decide, _, mr_END_mk (r := 4) (fx := nI (t + 1)) (fy := nI (t + 1)) (yne := yne) (mr_FC_0 hF0), mr_YI_stop (fun post q => my_can_0 (by omega) ht hd6 hdp hi hydu hk e h1 h2 (fun p => my_fit1f (Or.inl rfl) ht hd6 g1 hdp (by rw [v0.1]; exact hs)) q)⟩)))))
theorem mr_o23 (hF : mr_FC R (t + 1) hh o y k p pr rm op nd ab st rv cp cc cs gs gn du ls ln dp ss sn cl fs fn ygs ygn ykd yfs yfn yls yln yss ysn ydu) (hpr : ¬ pr = 0) (ht : t < 10) (hi : i < 60) (hdu : du t = nI i) (hk : k < 300) (e : op i = nI 23) (h1 : mr_tk 23 ≤ hh t) (h2 : hh t - mr_tk 23 + mr_lv 23 ≤ 6) (kont : ∀ r u', mr_NX k r u' (nI (t + 1), rs, rn, nI k, mc, nI p, 0, yen, op, nd, ab, st, ygs, ygn, ykd, yfs, yfn, yls, yln, yss, ysn, dp, ydu, yne, pl) → post r u') : wpX_workOne (mr_KX post) (pr, lv, nI (t + 1), nI o, nI y, rm, mk, nI k, mc, rs, rn, nI p, wc, op, nd, ab, st, rv, cp, cc, cs, gs, gn, du, ls, ln, dp, ss, sn, cl, fs, fn, wt, mt, pl) (nI i) (nI 23) (nd i) := by
  have hF0 := hF
  obtain ⟨⟨hp, _⟩, hPG, hPR', hFR, hRT, hHP⟩ := hF
  have hPR := hPR' hpr
  have hd := hFR.2.1 t (by omega)
  have hydu : ydu t = nI i := hd.2.2.trans hdu
  have hdp := hd.1
  have hd6 := hd.2.1
  have hb : ∀ f, f < t + 1 → hh f ≤ 6 := fun f hf => (hFR.2.1 f hf).2.1
  have hR := mr_HP_R hHP
  have g1 : 1 ≤ hh t := h1
  have v0 := hRT.2.2 t (hh t - 1) (by omega) (by omega)
  by_cases hs : ss (6 * t + (hh t - 1)) = 1
  · have y0 := mr_V_int v0 hs
    by_cases c : p < 20
    · exact (mx_w23 ht hd6 g1 hdp hs (by omega) (Or.inl ⟨c, rfl⟩)).mpr (mr_KXm (kont _ _ (Or.inl ⟨rfl, (nI (t + 1), rs, rn, nI (k + 1), mc, nI (p + 1), 0, yen, op, nd, ab, st, ygs, ygn, ykd, yfs, yfn, yls, yln, yss, ysn, upd dp t (nI (hh t - 1)), upd ydu t (nI (i + 1)), yne, upd pl p (sn (6 * t + (hh t - 1)))), mr_RUN_mk (by omega) hpr ⟨⟨by omega, by omega⟩, hPG, fun _ => hPR, mr_FR_at hFR (by omega), mr_RT_drop hRT (by omega), hHP⟩, mr_YI_ok (fun post q => my_can_1 (by omega) ht hd6 hdp hi hydu hk e h1 h2 (fun p => my_fit1 (Or.inr rfl) ht hd6 g1 hdp (v0.1.trans hs)) (by omega) (by omega) q) (fun post q => (my_ws (by omega) (by omega) (by omega) (by omega) (by omega) (by omega) (by decide) ht hi hydu e).mpr (my_s23 ht hd6 g1 hdp (v0.1.trans hs) (by omega) (Or.inl ⟨c, by rw [y0]⟩) q))⟩)))
    · exact (mx_w23 ht hd6 g1 hdp hs (by omega) (Or.inr ⟨by omega, rfl⟩)).mpr (mr_KXm (kont _ _ (Or.inl ⟨rfl, (nI (t + 1), rs, rn, nI (k + 1), mc, nI (p + 1), 0, yen, op, nd, ab, st, ygs, ygn, ykd, yfs, yfn, yls, yln, yss, ysn, upd dp t (nI (hh t - 1)), upd ydu t (nI (i + 1)), yne, pl), mr_RUN_mk (by omega) hpr ⟨⟨by omega, by omega⟩, hPG, fun _ => hPR, mr_FR_at hFR (by omega), mr_RT_drop hRT (by omega), hHP⟩, mr_YI_ok (fun post q => my_can_1 (by omega) ht hd6 hdp hi hydu hk e h1 h2 (fun p => my_fit1 (Or.inr rfl) ht hd6 g1 hdp (v0.1.trans hs)) (by omega) (by omega) q) (fun post q => (my_ws (by omega) (by omega) (by omega) (by omega) (by omega) (by omega) (by decide) ht hi hydu e).mpr (my_s23 ht hd6 g1 hdp (v0.1.trans hs) (by omega) (Or.inr ⟨by omega, rfl⟩) q))⟩)))
  · exact mx_w23a.mpr ((mx_91s ht hd6 g1 hdp hs).mpr (mr_KXr (by decide) (by decide) (kont _ _ (Or.inr (Or.inr ⟨by decide, _, mr_END_mk (r := 4) (fx := nI (t + 1)) (fy := nI (t + 1)) (yne := yne) (mr_FC_0 hF0), mr_YI_stop (fun post q => my_can_0 (by omega) ht hd6 hdp hi hydu hk e h1 h2 (fun p => my_fit1f (Or.inr rfl) ht hd6 g1 hdp (by rw [v0.1]; exact hs)) q)⟩)))))
theorem mr_o16 (hF : mr_FC R (t + 1) hh o y k p pr rm op nd ab st rv cp cc cs gs gn du ls ln dp ss sn cl fs fn ygs ygn ykd yfs yfn yls yln yss ysn ydu) (hpr : ¬ pr = 0) (ht : t < 10) (hi : i < 60) (hdu : du t = nI i) (hk : k < 300) (e : op i = nI 16) (h1 : mr_tk 16 ≤ hh t) (h2 : hh t - mr_tk 16 + mr_lv 16 ≤ 6) (kont : ∀ r u', mr_NX k r u' (nI (t + 1), rs, rn, nI k, mc, nI p, 0, yen, op, nd, ab, st, ygs, ygn, ykd, yfs, yfn, yls, yln, yss, ysn, dp, ydu, yne, pl) → post r u') : wpX_workOne (mr_KX post) (pr, lv, nI (t + 1), nI o, nI y, rm, mk, nI k, mc, rs, rn, nI p, wc, op, nd, ab, st, rv, cp, cc, cs, gs, gn, du, ls, ln, dp, ss, sn, cl, fs, fn, wt, mt, pl) (nI i) (nI 16) (nd i) := by
  have hF0 := hF
  obtain ⟨⟨hp, _⟩, hPG, hPR', hFR, hRT, hHP⟩ := hF
  have hPR := hPR' hpr
  have hd := hFR.2.1 t (by omega)
  have hydu : ydu t = nI i := hd.2.2.trans hdu
  have hdp := hd.1
  have hd6 := hd.2.1
  have hb : ∀ f, f < t + 1 → hh f ≤ 6 := fun f hf => (hFR.2.1 f hf).2.1
  have hR := mr_HP_R hHP
  have g1 : 1 ≤ hh t := h1
  have v0 := hRT.2.2 t (hh t - 1) (by omega) (by omega)
  obtain ⟨m, hm, em⟩ := (mr_opn hPG hi (by omega) e).2 (by omega)
  by_cases hs : ss (6 * t + (hh t - 1)) = 2
  · obtain ⟨a, b, ea, eb, r⟩ := mr_V_obj v0 hs
    have v := (hHP.2.2.2.2.1 a b r).2 m hm
    rw [em]
    exact (mx_w16 ht hd6 g1 hdp hdu hs ea (hR a b r).1 hm (mr_V_S v)).mpr (mr_KXm (kont _ _ (Or.inl ⟨rfl, (nI (t + 1), rs, rn, nI (k + 1), mc, nI p, 0, yen, op, nd, ab, st, ygs, ygn, ykd, yfs, yfn, yls, yln, upd yss (6 * t + (hh t - 1)) (yfs (3 * b + m)), upd ysn (6 * t + (hh t - 1)) (yfn (3 * b + m)), upd dp t (nI (hh t)), upd ydu t (nI (i + 1)), yne, pl), mr_RUN_mk (by omega) hpr ⟨⟨by omega, by omega⟩, hPG, fun _ => hPR, mr_FR_same hFR, mr_RT_stk hRT v, hHP⟩, mr_YI_ok (fun post q => my_can_1 (by omega) ht hd6 hdp hi hydu hk e h1 h2 (fun p => my_fit16 ht hd6 g1 hdp (v0.1.trans hs)) (by omega) (by omega) q) (fun post q => (my_ws (by omega) (by omega) (by omega) (by omega) (by omega) (by omega) (by decide) ht hi hydu e).mpr (by rw [em]; exact my_s16 ht hd6 g1 hdp hPG hm (hR a b r).2 eb (mr_V_YV hHP v0) q))⟩)))
  · exact (mx_w16s ht hd6 g1 hdp hs).mpr (mr_KXr (by decide) (by decide) (kont _ _ (Or.inr (Or.inr ⟨by decide, _, mr_END_mk (r := 4) (fx := nI (t + 1)) (fy := nI (t + 1)) (yne := yne) (mr_FC_0 hF0), mr_YI_stop (fun post q => my_can_0 (by omega) ht hd6 hdp hi hydu hk e h1 h2 (fun p => my_fit16f ht hd6 g1 hdp (by rw [v0.1]; exact hs)) q)⟩))))
theorem mr_o18 (hF : mr_FC R (t + 1) hh o y k p pr rm op nd ab st rv cp cc cs gs gn du ls ln dp ss sn cl fs fn ygs ygn ykd yfs yfn yls yln yss ysn ydu) (hpr : ¬ pr = 0) (ht : t < 10) (hi : i < 60) (hdu : du t = nI i) (hk : k < 300) (e : op i = nI 18) (h1 : mr_tk 18 ≤ hh t) (h2 : hh t - mr_tk 18 + mr_lv 18 ≤ 6) (kont : ∀ r u', mr_NX k r u' (nI (t + 1), rs, rn, nI k, mc, nI p, 0, yen, op, nd, ab, st, ygs, ygn, ykd, yfs, yfn, yls, yln, yss, ysn, dp, ydu, yne, pl) → post r u') : wpX_workOne (mr_KX post) (pr, lv, nI (t + 1), nI o, nI y, rm, mk, nI k, mc, rs, rn, nI p, wc, op, nd, ab, st, rv, cp, cc, cs, gs, gn, du, ls, ln, dp, ss, sn, cl, fs, fn, wt, mt, pl) (nI i) (nI 18) (nd i) := by
  have hF0 := hF
  obtain ⟨⟨hp, _⟩, hPG, hPR', hFR, hRT, hHP⟩ := hF
  have hPR := hPR' hpr
  have hd := hFR.2.1 t (by omega)
  have hydu : ydu t = nI i := hd.2.2.trans hdu
  have hdp := hd.1
  have hd6 := hd.2.1
  have hb : ∀ f, f < t + 1 → hh f ≤ 6 := fun f hf => (hFR.2.1 f hf).2.1
  have hR := mr_HP_R hHP
  have g1 : 1 ≤ hh t := h1
  have v0 := hRT.2.2 t (hh t - 1) (by omega) (by omega)
  obtain ⟨m, hm, em⟩ := (mr_opn hPG hi (by omega) e).1 (by omega)
  rw [em]
  refine (mx_w18a ht).mpr ?_
  by_cases hs : ss (6 * t + (hh t - 1)) = 2
  · obtain ⟨a, b, ea, eb, r⟩ := mr_V_obj v0 hs
    obtain ⟨c, hc, e1, e2⟩ := (hHP.2.2.2.2.1 a b r).1
    obtain ⟨z, hz, hX, hY⟩ := mr_isa (pr := pr) (lv := lv) (fc := nI (t + 1)) (ou := nI o) (yu := nI y) (rm := rm) (mk := mk) (sc := nI k) (mc := mc) (rs := rs) (rn := rn) (pc := nI p) (wc := wc) (op := op) (nd := nd) (ab := ab) (st := st) (rv := rv) (cp := cp) (cc := cc) (cs := cs) (gs := gs) (gn := gn) (du := upd du t (nI (i + 1))) (ls := ls) (ln := ln) (dp := dp) (ss := ss) (sn := sn) (cl := cl) (fs := fs) (fn := fn) (wt := wt) (mt := mt) (pl := pl) (yfc := nI (t + 1)) (yrs := rs) (yrn := rn) (ysc := nI (k + 1)) (ymc := mc) (ypc := nI p) (yov := 0) (yen := yen) (ygs := ygs) (ygn := ygn) (ykd := ykd) (yfs := yfs) (yfn := yfn) (yls := yls) (yln := yln) (yss := yss) (ysn := ysn) (yhp := upd dp t (nI (hh t - 1))) (ydu := upd ydu t (nI (i + 1))) (yne := yne) (you := pl) hm hPG c hc
    exact mx_ask1 ht hd6 g1 hdp hs ea (hR a b r).1 hc e1 hz hX (mr_KXm (kont _ _ (Or.inl ⟨rfl, (nI (t + 1), rs, rn, nI (k + 1), mc, nI p, 0, yen, op, nd, ab, st, ygs, ygn, ykd, yfs, yfn, yls, yln, upd yss (6 * t + (hh t - 1)) 1, upd ysn (6 * t + (hh t - 1)) z, upd dp t (nI (hh t)), upd ydu t (nI (i + 1)), yne, pl), mr_RUN_mk (by omega) hpr ⟨⟨by omega, by omega⟩, hPG, fun _ => hPR, mr_FR_same hFR, mr_RT_stk hRT mr_V_1, hHP⟩, mr_YI_ok (fun post q => my_can_1 (by omega) ht hd6 hdp hi hydu hk e h1 h2 (fun p => my_fit (by omega)) (by omega) (by omega) q) (fun post q => (my_ws (by omega) (by omega) (by omega) (by omega) (by omega) (by omega) (by decide) ht hi hydu e).mpr (by rw [em]; exact my_s18 hz ht hd6 g1 hdp (v0.1.trans hs) (hR a b r).2 hc eb e2 hY q))⟩)))
  · exact (mx_ask0 ht hd6 g1 hdp hs).mpr (mr_KXm (kont _ _ (Or.inl ⟨rfl, (nI (t + 1), rs, rn, nI (k + 1), mc, nI p, 0, yen, op, nd, ab, st, ygs, ygn, ykd, yfs, yfn, yls, yln, upd yss (6 * t + (hh t - 1)) 1, upd ysn (6 * t + (hh t - 1)) 0, upd dp t (nI (hh t)), upd ydu t (nI (i + 1)), yne, pl), mr_RUN_mk (by omega) hpr ⟨⟨by omega, by omega⟩, hPG, fun _ => hPR, mr_FR_same hFR, mr_RT_stk hRT mr_V_1, hHP⟩, mr_YI_ok (fun post q => my_can_1 (by omega) ht hd6 hdp hi hydu hk e h1 h2 (fun p => my_fit (by omega)) (by omega) (by omega) q) (fun post q => (my_ws (by omega) (by omega) (by omega) (by omega) (by omega) (by omega) (by decide) ht hi hydu e).mpr (my_s18n ht hd6 g1 hdp (by rw [v0.1]; exact hs) q))⟩)))
theorem mr_o17 (hF : mr_FC R (t + 1) hh o y k p pr rm op nd ab st rv cp cc cs gs gn du ls ln dp ss sn cl fs fn ygs ygn ykd yfs yfn yls yln yss ysn ydu) (hpr : ¬ pr = 0) (ht : t < 10) (hi : i < 60) (hdu : du t = nI i) (hk : k < 300) (e : op i = nI 17) (h1 : mr_tk 17 ≤ hh t) (h2 : hh t - mr_tk 17 + mr_lv 17 ≤ 6) (kont : ∀ r u', mr_NX k r u' (nI (t + 1), rs, rn, nI k, mc, nI p, 0, yen, op, nd, ab, st, ygs, ygn, ykd, yfs, yfn, yls, yln, yss, ysn, dp, ydu, yne, pl) → post r u') : wpX_workOne (mr_KX post) (pr, lv, nI (t + 1), nI o, nI y, rm, mk, nI k, mc, rs, rn, nI p, wc, op, nd, ab, st, rv, cp, cc, cs, gs, gn, du, ls, ln, dp, ss, sn, cl, fs, fn, wt, mt, pl) (nI i) (nI 17) (nd i) := by
  have hF0 := hF
  obtain ⟨⟨hp, _⟩, hPG, hPR', hFR, hRT, hHP⟩ := hF
  have hPR := hPR' hpr
  have hd := hFR.2.1 t (by omega)
  have hydu : ydu t = nI i := hd.2.2.trans hdu
  have hdp := hd.1
  have hd6 := hd.2.1
  have hb : ∀ f, f < t + 1 → hh f ≤ 6 := fun f hf => (hFR.2.1 f hf).2.1
  have hR := mr_HP_R hHP
  have g2 : 2 ≤ hh t := h1
  have v0 := hRT.2.2 t (hh t - 1) (by omega) (by omega)
  have v1 := hRT.2.2 t (hh t - 2) (by omega) (by omega)
  obtain ⟨m, hm, em⟩ := (mr_opn hPG hi (by omega) e).2 (by omega)
  by_cases hs : ss (6 * t + (hh t - 2)) = 2
  · obtain ⟨a, b, ea, eb, r⟩ := mr_V_obj v1 hs
    have ha := (hR a b r).1
    rw [em]
    by_cases c : a < 24 ∧ ss (6 * t + (hh t - 1)) = 2 ∧ ¬ sn (6 * t + (hh t - 1)) < 24
    · exact (mx_w17 ht hd6 g2 hdp hdu hs ea ha hm (mr_V_S v0) (Or.inr ⟨rfl, c.1, c.2.1, c.2.2⟩)).mpr (mr_KXm (kont _ _ (Or.inl ⟨rfl, (nI (t + 1), rs, rn, nI (k + 1), mc, nI p, 0, yen, op, nd, ab, st, ygs, ygn, ykd, upd yfs (3 * b + m) (yss (6 * t + (hh t - 1))), upd yfn (3 * b + m) (ysn (6 * t + (hh t - 1))), yls, yln, yss, ysn, upd dp t (nI (hh t - 2)), upd ydu t (nI (i + 1)), yne, pl), mr_RUN_mk (by omega) hpr ⟨⟨by omega, by omega⟩, hPG, fun _ => hPR, mr_FR_at hFR (by omega), mr_RT_drop hRT (by omega), mr_HP_put hHP r hm v0 (fun i hi z => (mr_set ha hi).mpr (Or.inl z)) (fun _ _ _ _ _ _ => (mr_set ha ha).mpr (Or.inr rfl))⟩, mr_YI_ok (fun post q => my_can_1 (by omega) ht hd6 hdp hi hydu hk e h1 h2 (fun p => my_fit17 (Or.inl rfl) ht hd6 g2 hdp (v1.1.trans hs)) (by omega) (by omega) q) (fun post q => (my_wt (by omega) (by omega) (by decide) ht hi hydu e).mpr (by rw [em]; exact (my_t17 ht hd6 g2 hdp eb (hR a b r).2 hm).mpr q))⟩)))
    · have c' : 24 ≤ a ∨ ¬ ss (6 * t + (hh t - 1)) = 2 ∨ sn (6 * t + (hh t - 1)) < 24 := by
        by_cases c1 : a < 24
        · by_cases c2 : ss (6 * t + (hh t - 1)) = 2
          · exact Or.inr (Or.inr (Classical.byContradiction fun c3 => c ⟨c1, c2, c3⟩))
          · exact Or.inr (Or.inl c2)
        · exact Or.inl (by omega)
      have hm2 : a < o → ss (6 * t + (hh t - 1)) = 2 → ∀ q, 24 ≤ q → q < 32 → sn (6 * t + (hh t - 1)) = nI q → bt rm a = true := by
        intro z1 z2 q z3 z4 z5
        have := hHP.1
        rcases c' with w | w | w
        · omega
        · exact absurd z2 w
        · rw [z5] at w
          exact absurd w (nI_nlt (b := 24) z3 (by omega))
      exact (mx_w17 ht hd6 g2 hdp hdu hs ea ha hm (mr_V_S v0) (Or.inl ⟨rfl, c'⟩)).mpr (mr_KXm (kont _ _ (Or.inl ⟨rfl, (nI (t + 1), rs, rn, nI (k + 1), mc, nI p, 0, yen, op, nd, ab, st, ygs, ygn, ykd, upd yfs (3 * b + m) (yss (6 * t + (hh t - 1))), upd yfn (3 * b + m) (ysn (6 * t + (hh t - 1))), yls, yln, yss, ysn, upd dp t (nI (hh t - 2)), upd ydu t (nI (i + 1)), yne, pl), mr_RUN_mk (by omega) hpr ⟨⟨by omega, by omega⟩, hPG, fun _ => hPR, mr_FR_at hFR (by omega), mr_RT_drop hRT (by omega), mr_HP_put hHP r hm v0 (fun i hi z => z) hm2⟩, mr_YI_ok (fun post q => my_can_1 (by omega) ht hd6 hdp hi hydu hk e h1 h2 (fun p => my_fit17 (Or.inl rfl) ht hd6 g2 hdp (v1.1.trans hs)) (by omega) (by omega) q) (fun post q => (my_wt (by omega) (by omega) (by decide) ht hi hydu e).mpr (by rw [em]; exact (my_t17 ht hd6 g2 hdp eb (hR a b r).2 hm).mpr q))⟩)))
  · exact (mx_w17s ht hd6 g2 hdp hs).mpr (mr_KXr (by decide) (by decide) (kont _ _ (Or.inr (Or.inr ⟨by decide, _, mr_END_mk (r := 4) (fx := nI (t + 1)) (fy := nI (t + 1)) (yne := yne) (mr_FC_0 hF0), mr_YI_stop (fun post q => my_can_0 (by omega) ht hd6 hdp hi hydu hk e h1 h2 (fun p => my_fit17f (Or.inl rfl) ht hd6 g2 hdp (by rw [v1.1]; exact hs)) q)⟩))))
end
end
section
/-! NEW, CALL, RETURN -/
theorem mr_u2a {f : Nat → Int32} {k l : Nat} {x y : Int32} (h : k ≠ l) : upd (upd f k x) l y k = x := (pk_un h).trans pk_us
theorem mr_cn_ex {P : Nat → Prop} {n : Nat} (h : cn P n < n) : ∃ b, b < n ∧ ¬ P b := by
  apply Classical.byContradiction
  intro no
  have : cn P n = cn (fun _ => True) n := cn_eq fun k hk => ⟨fun _ => trivial, fun _ => Classical.byContradiction fun z => no ⟨k, hk, z⟩⟩
  rw [mr_cn_all] at this
  omega
section
variable {pr lv rm mk sc mc rs rn pc wc : Int32} {op nd ab st rv cp cc cs gs gn du ls ln dp ss sn cl fs fn wt mt pl : Nat → Int32} {R : Nat → Nat → Prop} {F o y : Nat} {hh : Nat → Nat} {ygs ygn yls yln yss ysn ykd yfs yfn : Nat → Int32} {post : Int32 → SX → Prop} {x1 : Int32}
theorem mx_make29 (hy : ¬ y = 8) (hy8 : y ≤ 8) (k : wX_makeObject_56 post x1 pr lv (nI F) (nI o) (nI y) rm mk sc mc rs rn pc wc op nd ab st rv cp cc cs gs gn du ls ln dp ss sn cl fs fn wt mt pl) : wX_makeObject_29 post x1 pr lv (nI F) (nI o) (nI y) rm mk sc mc rs rn pc wc op nd ab st rv cp cc cs gs gn du ls ln dp ss sn cl fs fn wt mt pl := by
  rw [wX_makeObject_29]
  exact br_f (fun q => hy (mr_inj (b := 8) (by omega) (by omega) q)) k
theorem mx_makeOK (h : mr_HP R o y rm cl fs fn ykd yfs yfn) (hr : mr_RT R F hh gs gn ls ln ss sn ygs ygn yls yln yss ysn) (hF : F ≤ 10) (hd : ∀ f, f < F → dp f = nI (hh f) ∧ hh f ≤ 6) (hc : cn (mr_L F hh ygs ygn yls yln yss ysn yfs yfn) 16 < 16)
    (k : ∀ R' o' y' rm' mk' wc' wt' mt' gn' ln' sn' cl' fs' fn', mr_HP R' o' y' rm' cl' fs' fn' ykd yfs yfn → mr_RT R' F hh gs gn' ls ln' ss sn' ygs ygn yls yln yss ysn → o' + y' < 16 → y' < 8 → wX_makeObject_56 post x1 pr lv (nI F) (nI o') (nI y') rm' mk' sc mc rs rn pc wc' op nd ab st rv cp cc cs gs gn' du ls ln' dp ss sn' cl' fs' fn' wt' mt' pl) : wpX_makeObject post (pr, lv, nI F, nI o, nI y, rm, mk, sc, mc, rs, rn, pc, wc, op, nd, ab, st, rv, cp, cc, cs, gs, gn, du, ls, ln, dp, ss, sn, cl, fs, fn, wt, mt, pl) x1 := by
  have b := h.1
  rw [wpX_makeObject, nI_add]
  by_cases z : o + y < 16
  · refine br_t (nI_lt (b := 16) z (by decide)) ?_
    by_cases w : y = 8
    · subst w
      rw [wX_makeObject_29]
      refine br_t rfl (br_c (fun _ => ?_) fun _ => ?_)
      · exact mx_collectAll h hr hF hd fun R' mk' wt' mt' gn' ln' sn' cl' fs' fn' g1 g2 => k R' _ 0 0 mk' 0 wt' mt' gn' ln' sn' cl' fs' fn' g1 g2 (by omega) (by omega)
      · exact mx_collectYoung h hr hF hd fun R' o' gn' ln' sn' cl' fs' fn' mt' g1 g2 g3 => k R' o' 0 0 mk wc wt mt' gn' ln' sn' cl' fs' fn' g1 g2 (by omega) (by omega)
    · exact mx_make29 w b.2 (k R o y rm mk wc wt mt gn ln sn cl fs fn h hr z (by omega))
  · refine br_f (nI_nlt (b := 16) (by omega) (by omega)) (mx_collectAll h hr hF hd fun R' mk' wt' mt' gn' ln' sn' cl' fs' fn' g1 g2 => br_t (nI_lt (b := 16) hc (by decide)) ?_)
    exact mx_make29 (y := 0) (by omega) (by omega) (k R' _ 0 0 mk' 0 wt' mt' gn' ln' sn' cl' fs' fn' g1 g2 (by omega) (by omega))
theorem mx_makeNO (h : mr_HP R o y rm cl fs fn ykd yfs yfn) (hr : mr_RT R F hh gs gn ls ln ss sn ygs ygn yls yln yss ysn) (hF : F ≤ 10) (hd : ∀ f, f < F → dp f = nI (hh f) ∧ hh f ≤ 6) (hc : cn (mr_L F hh ygs ygn yls yln yss ysn yfs yfn) 16 = 16)
    (k : ∀ R' rm' mk' wc' wt' mt' gn' ln' sn' cl' fs' fn', mr_HP R' 16 0 rm' cl' fs' fn' ykd yfs yfn → mr_RT R' F hh gs gn' ls ln' ss sn' ygs ygn yls yln yss ysn → post 5 (pr, lv, nI F, nI 16, nI 0, rm', mk', sc, mc, rs, rn, pc, wc', op, nd, ab, st, rv, cp, cc, cs, gs, gn', du, ls, ln', dp, ss, sn', cl', fs', fn', wt', mt', pl)) : wpX_makeObject post (pr, lv, nI F, nI o, nI y, rm, mk, sc, mc, rs, rn, pc, wc, op, nd, ab, st, rv, cp, cc, cs, gs, gn, du, ls, ln, dp, ss, sn, cl, fs, fn, wt, mt, pl) x1 := by
  have b := h.1
  have c := mr_cnt_le h hr
  rw [wpX_makeObject, nI_add]
  refine br_f (nI_nlt (b := 16) (by omega) (by omega)) (mx_collectAll h hr hF hd fun R' mk' wt' mt' gn' ln' sn' cl' fs' fn' g1 g2 => ?_)
  rw [hc] at g1 ⊢
  exact br_f (by decide) (k R' 0 mk' 0 wt' mt' gn' ln' sn' cl' fs' fn' g1 g2)
end
section
variable {R : Nat → Nat → Prop} {o y k p t i : Nat} {hh : Nat → Nat} {pr lv rm mk mc rs rn wc yen : Int32} {op nd ab st rv cp cc cs gs gn du ls ln dp ss sn cl fs fn wt mt pl ygs ygn ykd yfs yfn yls yln yss ysn ydu yne : Nat → Int32} {post : Int32 → SX → Prop}
theorem mr_o15 (hF : mr_FC R (t + 1) hh o y k p pr rm op nd ab st rv cp cc cs gs gn du ls ln dp ss sn cl fs fn ygs ygn ykd yfs yfn yls yln yss ysn ydu) (hpr : ¬ pr = 0) (ht : t < 10) (hi : i < 60) (hdu : du t = nI i) (hk : k < 300) (e : op i = nI 15) (h1 : mr_tk 15 ≤ hh t) (h2 : hh t - mr_tk 15 + mr_lv 15 ≤ 6) (kont : ∀ r u', mr_NX k r u' (nI (t + 1), rs, rn, nI k, mc, nI p, 0, yen, op, nd, ab, st, ygs, ygn, ykd, yfs, yfn, yls, yln, yss, ysn, dp, ydu, yne, pl) → post r u') : wpX_workOne (mr_KX post) (pr, lv, nI (t + 1), nI o, nI y, rm, mk, nI k, mc, rs, rn, nI p, wc, op, nd, ab, st, rv, cp, cc, cs, gs, gn, du, ls, ln, dp, ss, sn, cl, fs, fn, wt, mt, pl) (nI i) (nI 15) (nd i) := by
  have hF0 := hF
  obtain ⟨⟨hp, _⟩, hPG, hPR', hFR, hRT, hHP⟩ := hF
  have hPR := hPR' hpr
  have hd := hFR.2.1 t (by omega)
  have hydu : ydu t = nI i := hd.2.2.trans hdu
  have hdp := hd.1
  have hd6 := hd.2.1
  have hb : ∀ f, f < t + 1 → hh f ≤ 6 := fun f hf => (hFR.2.1 f hf).2.1
  have hR := mr_HP_R hHP
  obtain ⟨m, hm, em⟩ := (mr_opn hPG hi (by omega) e).1 (by omega)
  have g6 : hh t - 0 + 1 ≤ 6 := h2
  have g : hh t < 6 := by omega
  have hd' : ∀ f, f < t + 1 → dp f = nI (hh f) ∧ hh f ≤ 6 := fun f hf => ⟨(hFR.2.1 f hf).1, (hFR.2.1 f hf).2.1⟩
  obtain ⟨ne', hne, can5, can1⟩ := my_can_15 (yrs := rs) (yrn := rn) (ymc := mc) (ypc := nI p) (yen := yen) (ynd := nd) (yab := ab) (yst := st) (ykd := ykd) (yne := yne) (you := pl) ht g hdp hi hydu hk e (mr_YH_of hHP hRT hFR.1 hd')
  rw [em, wpX_workOne]
  refine br_t rfl ?_
  have cl16 := cn_le (mr_L (t + 1) hh ygs ygn yls yln yss ysn yfs yfn) 16
  by_cases hc : cn (mr_L (t + 1) hh ygs ygn yls yln yss ysn yfs yfn) 16 = 16
  · refine mx_makeNO hHP hRT hFR.1 hd' hc fun R' rm' mk' wc' wt' mt' gn' ln' sn' cl' fs' fn' g1 g2 => mr_KXr (by decide) (by decide) (kont _ _ (Or.inr (Or.inr ⟨by decide, _, mr_END_mk (r := 5) (fx := nI (t + 1)) (fy := nI (t + 1)) (yne := ne') (mr_FC_0 (F := t + 1) ⟨⟨hp, by omega⟩, hPG, hPR', hFR, g2, g1⟩), mr_YI_stop (can5 hc)⟩)))
  · have hlt : cn (mr_L (t + 1) hh ygs ygn yls yln yss ysn yfs yfn) 16 < 16 := by omega
    obtain ⟨b0, hb0, nb0⟩ := mr_cn_ex hlt
    have eb0 : ne' b0 = 0 := Classical.byContradiction fun q => nb0 ((hne b0 hb0).mp q)
    obtain ⟨bn, yfs', hbn, ebn, hf1, hf2, hmk⟩ := my_make (x1 := nI m) (yrs := rs) (yrn := rn) (ysc := nI (k + 1)) (ymc := mc) (ypc := nI p) (yov := 0) (yen := yen) (yop := op) (ynd := nd) (yab := ab) (yst := st) (ygs := ygs) (ygn := ygn) (ykd := ykd) (yfs := yfs) (yfn := yfn) (yls := yls) (yln := yln) (yss := yss) (ysn := ysn) (ydu := upd ydu t (nI (i + 1))) (yne := ne') (you := pl) ht g hdp ⟨b0, hb0, eb0⟩
    refine mx_makeOK hHP hRT hFR.1 hd' hlt fun R' o' y' rm' mk' wc' wt' mt' gn' ln' sn' cl' fs' fn' g1 g2 g3 g4 => mx_make_56 g4 hm ht g hdp hdu fun fs2 fn2 q1 q2 => ?_
    have hR' := mr_HP_R g1
    have nbn : ¬ mr_L (t + 1) hh ygs ygn yls yln yss ysn yfs yfn bn := fun q => (hne bn hbn).mpr q ebn
    refine mr_KXm (kont _ _ (Or.inl ⟨rfl, (nI (t + 1), rs, rn, nI (k + 1), mc + 1, nI p, 0, yen, op, nd, ab, st, ygs, ygn, upd ykd bn (nI m), yfs', yfn, yls, yln, upd yss (6 * t + hh t) 2, upd ysn (6 * t + hh t) (nI bn), upd dp t (nI (hh t + 1)), upd ydu t (nI (i + 1)), ne', pl), mr_RUN_mk (by omega) hpr ⟨⟨by omega, by omega⟩, hPG, fun _ => hPR, mr_FR_at hFR g, mr_RT_push (mr_RT_new (X := fun a b => a = 24 + y' ∧ b = bn) hR' g2 mr_L_ro) hb g (mr_V_2 (Or.inr ⟨rfl, rfl⟩)), mr_HP_new g1 mr_L_cd nbn hbn g4 g3 hm q1 q2 hf1 hf2 (fun a ha => pk_un ha) pk_us (fun b hb => pk_un hb) pk_us⟩, mr_YI_ok (can1 hlt) (fun post q => (my_w15 ht hi hydu e).mpr (by rw [em]; exact hmk _ q))⟩))
theorem mr_o20 (hF : mr_FC R (t + 1) hh o y k p pr rm op nd ab st rv cp cc cs gs gn du ls ln dp ss sn cl fs fn ygs ygn ykd yfs yfn yls yln yss ysn ydu) (hpr : ¬ pr = 0) (ht : t < 10) (hi : i < 60) (hdu : du t = nI i) (hk : k < 300) (e : op i = nI 20) (h1 : mr_tk 20 ≤ hh t) (h2 : hh t - mr_tk 20 + mr_lv 20 ≤ 6) (kont : ∀ r u', mr_NX k r u' (nI (t + 1), rs, rn, nI k, mc, nI p, 0, yen, op, nd, ab, st, ygs, ygn, ykd, yfs, yfn, yls, yln, yss, ysn, dp, ydu, yne, pl) → post r u') : wpX_workOne (mr_KX post) (pr, lv, nI (t + 1), nI o, nI y, rm, mk, nI k, mc, rs, rn, nI p, wc, op, nd, ab, st, rv, cp, cc, cs, gs, gn, du, ls, ln, dp, ss, sn, cl, fs, fn, wt, mt, pl) (nI i) (nI 20) (nd i) := by
  have hF0 := hF
  obtain ⟨⟨hp, _⟩, hPG, hPR', hFR, hRT, hHP⟩ := hF
  have hPR := hPR' hpr
  have hd := hFR.2.1 t (by omega)
  have hydu : ydu t = nI i := hd.2.2.trans hdu
  have hdp := hd.1
  have hd6 := hd.2.1
  have hb : ∀ f, f < t + 1 → hh f ≤ 6 := fun f hf => (hFR.2.1 f hf).2.1
  have hR := mr_HP_R hHP
  have g1 : 1 ≤ hh t := h1
  have v0 := hRT.2.2 t (hh t - 1) (by omega) (by omega)
  refine mx_w20a.mpr ?_
  cases t with
  | zero =>
    have e0 : 6 * 0 + (hh 0 - 1) = hh 0 - 1 := by omega
    rw [e0] at v0
    have hz : ∃ z : Int32, ((ss (hh 0 - 1) = 2 ∧ ∃ a, a < 32 ∧ sn (hh 0 - 1) = nI a ∧ z = cl a) ∨ (¬ ss (hh 0 - 1) = 2 ∧ z = sn (hh 0 - 1))) ∧ ((yss (hh 0 - 1) = 2 ∧ ∃ b, b < 16 ∧ ysn (hh 0 - 1) = nI b ∧ z = ykd b) ∨ (yss (hh 0 - 1) = 1 ∧ z = ysn (hh 0 - 1)) ∨ (yss (hh 0 - 1) = 0 ∧ z = 0)) := by
      rw [v0.1]
      rcases v0.2 with ⟨a1, a2⟩ | ⟨a1, a2⟩ | ⟨a1, a, b, e1, e2, r⟩
      · exact ⟨0, Or.inr ⟨by rw [a1]; decide, a2.symm⟩, Or.inr (Or.inr ⟨a1, rfl⟩)⟩
      · exact ⟨sn (hh 0 - 1), Or.inr ⟨by rw [a1]; decide, rfl⟩, Or.inr (Or.inl ⟨a1, a2.symm⟩)⟩
      · obtain ⟨c, hc, e3, e4⟩ := (hHP.2.2.2.2.1 a b r).1
        exact ⟨nI c, Or.inl ⟨a1, a, (hR a b r).1, e1, e3.symm⟩, Or.inl ⟨a1, b, (hR a b r).2, e2, e4.symm⟩⟩
    obtain ⟨z, z1, z2⟩ := hz
    refine (mx_leave0 hd6 g1 hdp z1).mpr (mr_KX0 (kont _ _ (Or.inr (Or.inr ⟨by decide, _, mr_END_mk (k := k + 1) (r := 0) (fx := 0) (fy := 0) (rs := ss (hh 0 - 1)) (rn := z) (yne := yne) (ydu := upd ydu 0 (nI (i + 1))) ⟨⟨by omega, by omega⟩, hPG, hPR', ⟨Nat.zero_le _, fun f hf => absurd hf (Nat.not_lt_zero f), fun f hf => absurd hf (Nat.not_lt_zero _)⟩, mr_RT_F hRT (Nat.zero_le _), hHP⟩, mr_YI_ok (fun post q => my_can_1 (by omega) ht hd6 hdp hi hydu hk e h1 h2 (fun p => my_fit (by omega)) (by omega) (by omega) q) (fun post q => (my_w20 ht hi hydu e).mpr ((my_leave0 hd6 g1 hdp z2).mpr (by rw [v0.1]; exact q)))⟩))))
  | succ t =>
    have h4 := hFR.2.2 t (by omega)
    have hdt := (hFR.2.1 t (by omega)).1
    exact (mx_leave ht hd6 g1 hdp (d' := hh t) (by omega) hdt (mr_V_S v0)).mpr (mr_KXm (kont _ _ (Or.inl ⟨rfl, (nI (t + 1), rs, rn, nI (k + 1), mc, nI p, 0, yen, op, nd, ab, st, ygs, ygn, ykd, yfs, yfn, yls, yln, upd yss (6 * t + hh t) (yss (6 * (t + 1) + (hh (t + 1) - 1))), upd ysn (6 * t + hh t) (ysn (6 * (t + 1) + (hh (t + 1) - 1))), upd dp t (nI (hh t + 1)), upd ydu (t + 1) (nI (i + 1)), yne, pl), mr_RUN_mk (by omega) hpr ⟨⟨by omega, by omega⟩, hPG, fun _ => hPR, mr_FR_back hFR, mr_RT_push (mr_RT_F hRT (by omega)) (fun f hf => hb f (by omega)) (by omega) v0, hHP⟩, mr_YI_ok (fun post q => my_can_1 (by omega) ht hd6 hdp hi hydu hk e h1 h2 (fun p => my_fit (by omega)) (by omega) (by omega) q) (fun post q => (my_w20 ht hi hydu e).mpr ((my_leave ht hd6 g1 hdp (d' := hh t) (by omega) hdt).mpr q))⟩)))
theorem mr_o19 (hF : mr_FC R (t + 1) hh o y k p pr rm op nd ab st rv cp cc cs gs gn du ls ln dp ss sn cl fs fn ygs ygn ykd yfs yfn yls yln yss ysn ydu) (hpr : ¬ pr = 0) (ht : t < 10) (hi : i < 60) (hdu : du t = nI i) (hk : k < 300) (e : op i = nI 19) (h1 : mr_tk 19 ≤ hh t) (h2 : hh t - mr_tk 19 + mr_lv 19 ≤ 6) (kont : ∀ r u', mr_NX k r u' (nI (t + 1), rs, rn, nI k, mc, nI p, 0, yen, op, nd, ab, st, ygs, ygn, ykd, yfs, yfn, yls, yln, yss, ysn, dp, ydu, yne, pl) → post r u') : wpX_workOne (mr_KX post) (pr, lv, nI (t + 1), nI o, nI y, rm, mk, nI k, mc, rs, rn, nI p, wc, op, nd, ab, st, rv, cp, cc, cs, gs, gn, du, ls, ln, dp, ss, sn, cl, fs, fn, wt, mt, pl) (nI i) (nI 19) (nd i) := by
  have hF0 := hF
  obtain ⟨⟨hp, _⟩, hPG, hPR', hFR, hRT, hHP⟩ := hF
  have hPR := hPR' hpr
  have hd := hFR.2.1 t (by omega)
  have hydu : ydu t = nI i := hd.2.2.trans hdu
  have hdp := hd.1
  have hd6 := hd.2.1
  have hb : ∀ f, f < t + 1 → hh f ≤ 6 := fun f hf => (hFR.2.1 f hf).2.1
  have hR := mr_HP_R hHP
  have g2 : 2 ≤ hh t := h1
  have v0 := hRT.2.2 t (hh t - 1) (by omega) (by omega)
  have v1 := hRT.2.2 t (hh t - 2) (by omega) (by omega)
  obtain ⟨m, hm, em⟩ := (mr_opn hPG hi (by omega) e).1 (by omega)
  refine mx_w19a.mpr ?_
  by_cases hs : ss (6 * t + (hh t - 2)) = 2
  · obtain ⟨a, b, ea, eb, r⟩ := mr_V_obj v1 hs
    obtain ⟨c, hc, e1, e2⟩ := (hHP.2.2.2.2.1 a b r).1
    have hrv := mr_RV_r hPG hPR.1 hm c hc
    rw [em]
    refine mx_call ht hd6 g2 hdp hs ea (hR a b r).1 hc e1 hi hm em hrv hPR.2.2 fun cc' cs' hcc => ?_
    rcases hrv with z | ⟨z, hz, ez⟩
    · rw [z]
      refine mx_call_97m.mpr (mr_KXr (by decide) (by decide) (kont _ _ (Or.inr (Or.inr ⟨by decide, _, mr_END_mk (r := 6) (fx := nI (t + 1)) (fy := nI (t + 1)) (yne := yne) (mr_FC_0 (F := t + 1) ⟨⟨hp, by omega⟩, hPG, fun _ => ⟨hPR.1, hPR.2.1, hcc⟩, hFR, hRT, hHP⟩), mr_YI_stop (fun post q => my_can_19 ht hd6 g2 hdp hi hydu hk e (v1.1.trans hs) eb (hR a b r).2 hc e2 hm em hPG hPR.1 (fun _ => q) (fun z' hz' ez' => absurd (ez'.symm.trans z) (mr_m1 (by omega))) (fun z' hz' ez' => absurd (ez'.symm.trans z) (mr_m1 (by omega))))⟩))))
    · by_cases t9 : t = 9
      · subst t9
        rw [ez]
        refine (mx_call_97d hz).mpr (mr_KXr (by decide) (by decide) (kont _ _ (Or.inr (Or.inr ⟨by decide, _, mr_END_mk (r := 7) (fx := nI (9 + 1)) (fy := nI (9 + 1)) (yne := yne) (mr_FC_0 (F := 9 + 1) ⟨⟨hp, by omega⟩, hPG, fun _ => ⟨hPR.1, hPR.2.1, hcc⟩, hFR, hRT, hHP⟩), mr_YI_stop (fun post q => my_can_19 ht hd6 g2 hdp hi hydu hk e (v1.1.trans hs) eb (hR a b r).2 hc e2 hm em hPG hPR.1 (fun z' => absurd (ez.symm.trans z') (mr_m1 (by omega))) (fun z' hz' ez' _ => q) (fun z' hz' ez' q' => absurd q' (by omega)))⟩))))
      · have ht1 : t + 1 < 10 := by omega
        obtain ⟨yls', l1, l2, l3⟩ := my_call (yrs := rs) (yrn := rn) (ysc := nI (k + 1)) (ymc := mc) (ypc := nI p) (yov := 0) (yen := yen) (yop := op) (ynd := nd) (yab := ab) (yst := st) (ygs := ygs) (ygn := ygn) (ykd := ykd) (yfs := yfs) (yfn := yfn) (yls := yls) (yln := yln) (yss := yss) (ysn := ysn) (ydu := upd ydu t (nI (i + 1))) (yne := yne) (you := pl) ht1 hd6 g2 hdp eb (hR a b r).2 hc e2 hm hPG hPR.1
        refine mx_call_97 ht1 hd6 g2 hdp hdu ez hz (mr_V_S v0) fun ls' ln' q1 q2 => mr_KXm (kont _ _ (Or.inl ⟨rfl, (nI (t + 1 + 1), rs, rn, nI (k + 1), mc, nI p, 0, yen, op, nd, ab, st, ygs, ygn, ykd, yfs, yfn, upd (upd yls' (4 * (t + 1) + 1) (yss (6 * t + (hh t - 1)))) (4 * (t + 1)) 2, upd (upd yln (4 * (t + 1) + 1) (ysn (6 * t + (hh t - 1)))) (4 * (t + 1)) (nI b), yss, ysn, upd (upd dp t (nI (hh t - 2))) (t + 1) 0, upd (upd ydu t (nI (i + 1))) (t + 1) (rv (4 * c + m)), yne, pl), mr_RUN_mk (by omega) hpr ⟨⟨by omega, by omega⟩, hPG, fun _ => ⟨hPR.1, hPR.2.1, hcc⟩, mr_FR_open (mr_FR_at hFR (by omega)) ht1 (fun f hf => ?_), mr_RT_open (mr_RT_drop hRT (by omega)) (fun g hg => ?_) (fun j hj => ?_), hHP⟩, mr_YI_ok (fun post q => my_can_19 ht hd6 g2 hdp hi hydu hk e (v1.1.trans hs) eb (hR a b r).2 hc e2 hm em hPG hPR.1 (fun z' => absurd (ez.symm.trans z') (mr_m1 (by omega))) (fun z' hz' ez' q' => absurd q' t9) (fun z' hz' ez' _ => q)) (fun post q => (my_w19 ht hi hydu e).mpr (by rw [em]; exact l3 _ q))⟩))
        · have : f = t := by omega
          subst this
          rw [mr_up_s]; omega
        · rw [pk_un (by omega), pk_un (by omega), pk_un (by omega), pk_un (by omega), pk_un (by omega), pk_un (by omega), pk_un (by omega), pk_un (by omega)]
          exact ⟨(q1 g hg).1, (q1 g hg).2, l1 g hg, rfl⟩
        · have hj' : j = 0 ∨ j = 1 ∨ j = 2 ∨ j = 3 := by omega
          rcases hj' with rfl | rfl | rfl | rfl
          · rw [mr_u2a (by omega), mr_u2a (by omega)]
            show mr_V R 2 (nI a) (upd (upd yls' (4 * (t + 1) + 1) (yss (6 * t + (hh t - 1)))) (4 * (t + 1)) 2 (4 * (t + 1))) (upd (upd yln (4 * (t + 1) + 1) (ysn (6 * t + (hh t - 1)))) (4 * (t + 1)) (nI b) (4 * (t + 1)))
            rw [pk_us, pk_us]
            exact mr_V_2 r
          · rw [pk_us, pk_us, mr_u2a (by omega), mr_u2a (by omega)]
            exact v0
          · rw [pk_un (by omega), pk_un (by omega), pk_un (by omega), pk_un (by omega), pk_un (by omega), pk_un (by omega), pk_un (by omega), pk_un (by omega), (q2 2 (by omega)).1, (q2 2 (by omega)).2, l2 2 (by omega)]
            exact mr_V_0
          · rw [pk_un (by omega), pk_un (by omega), pk_un (by omega), pk_un (by omega), pk_un (by omega), pk_un (by omega), pk_un (by omega), pk_un (by omega), (q2 3 (by omega)).1, (q2 3 (by omega)).2, l2 3 (by omega)]
            exact mr_V_0
  · exact (mx_call_s ht hd6 g2 hdp hs).mpr (mr_KXr (by decide) (by decide) (kont _ _ (Or.inr (Or.inr ⟨by decide, _, mr_END_mk (r := 4) (fx := nI (t + 1)) (fy := nI (t + 1)) (yne := yne) (mr_FC_0 hF0), mr_YI_stop (fun post q => my_can_0 (by omega) ht hd6 hdp hi hydu hk e h1 h2 (fun p => my_fit17f (Or.inr rfl) ht hd6 g2 hdp (by rw [v1.1]; exact hs)) q)⟩))))
end
end
section
/-! one step -/
section
variable {R : Nat → Nat → Prop} {o y k p t i : Nat} {hh : Nat → Nat} {pr lv rm mk mc rs rn wc yen : Int32} {op nd ab st rv cp cc cs gs gn du ls ln dp ss sn cl fs fn wt mt pl ygs ygn ykd yfs yfn yls yln yss ysn ydu yne : Nat → Int32} {post : Int32 → SX → Prop}
theorem mr_one {O : Nat} (hO : O ≤ 23) (hF : mr_FC R (t + 1) hh o y k p pr rm op nd ab st rv cp cc cs gs gn du ls ln dp ss sn cl fs fn ygs ygn ykd yfs yfn yls yln yss ysn ydu) (hpr : ¬ pr = 0) (ht : t < 10) (hi : i < 60) (hdu : du t = nI i) (hk : k < 300) (e : op i = nI O) (h1 : mr_tk O ≤ hh t) (h2 : hh t - mr_tk O + mr_lv O ≤ 6) (kont : ∀ r u', mr_NX k r u' (nI (t + 1), rs, rn, nI k, mc, nI p, 0, yen, op, nd, ab, st, ygs, ygn, ykd, yfs, yfn, yls, yln, yss, ysn, dp, ydu, yne, pl) → post r u') : wpX_workOne (mr_KX post) (pr, lv, nI (t + 1), nI o, nI y, rm, mk, nI k, mc, rs, rn, nI p, wc, op, nd, ab, st, rv, cp, cc, cs, gs, gn, du, ls, ln, dp, ss, sn, cl, fs, fn, wt, mt, pl) (nI i) (nI O) (nd i) := by
  revert e h1 h2
  refine mr_o24 (P := fun O => op i = nI O → mr_tk O ≤ hh t → hh t - mr_tk O + mr_lv O ≤ 6 → wpX_workOne (mr_KX post) (pr, lv, nI (t + 1), nI o, nI y, rm, mk, nI k, mc, rs, rn, nI p, wc, op, nd, ab, st, rv, cp, cc, cs, gs, gn, du, ls, ln, dp, ss, sn, cl, fs, fn, wt, mt, pl) (nI i) (nI O) (nd i)) hO ?_ ?_ ?_ ?_ ?_ ?_ ?_ ?_ ?_ ?_ ?_ ?_ ?_ ?_ ?_ ?_ ?_ ?_ ?_ ?_ ?_ ?_ ?_ ?_
  · exact fun e h1 h2 => mr_o0 hF hpr ht hi hdu hk e h1 h2 kont
  · exact fun e h1 h2 => mr_o1 hF hpr ht hi hdu hk e h1 h2 kont
  · exact fun e h1 h2 => mr_o2 hF hpr ht hi hdu hk e h1 h2 kont
  · exact fun e h1 h2 => mr_o3 hF hpr ht hi hdu hk e h1 h2 kont
  · exact fun e h1 h2 => mr_o4 hF hpr ht hi hdu hk e h1 h2 kont
  · exact fun e h1 h2 => mr_o5 hF hpr ht hi hdu hk e h1 h2 kont
  · exact fun e h1 h2 => mr_o6 hF hpr ht hi hdu hk e h1 h2 kont
  · exact fun e h1 h2 => mr_o7 hF hpr ht hi hdu hk e h1 h2 kont
  · exact fun e h1 h2 => mr_o8 hF hpr ht hi hdu hk e h1 h2 kont
  · exact fun e h1 h2 => mr_o9 hF hpr ht hi hdu hk e h1 h2 kont
  · exact fun e h1 h2 => mr_o10 hF hpr ht hi hdu hk e h1 h2 kont
  · exact fun e h1 h2 => mr_o11 hF hpr ht hi hdu hk e h1 h2 kont
  · exact fun e h1 h2 => mr_o12 hF hpr ht hi hdu hk e h1 h2 kont
  · exact fun e h1 h2 => mr_o13 hF hpr ht hi hdu hk e h1 h2 kont
  · exact fun e h1 h2 => mr_o14 hF hpr ht hi hdu hk e h1 h2 kont
  · exact fun e h1 h2 => mr_o15 hF hpr ht hi hdu hk e h1 h2 kont
  · exact fun e h1 h2 => mr_o16 hF hpr ht hi hdu hk e h1 h2 kont
  · exact fun e h1 h2 => mr_o17 hF hpr ht hi hdu hk e h1 h2 kont
  · exact fun e h1 h2 => mr_o18 hF hpr ht hi hdu hk e h1 h2 kont
  · exact fun e h1 h2 => mr_o19 hF hpr ht hi hdu hk e h1 h2 kont
  · exact fun e h1 h2 => mr_o20 hF hpr ht hi hdu hk e h1 h2 kont
  · exact fun e h1 h2 => mr_o21 hF hpr ht hi hdu hk e h1 h2 kont
  · exact fun e h1 h2 => mr_o22 hF hpr ht hi hdu hk e h1 h2 kont
  · exact fun e h1 h2 => mr_o23 hF hpr ht hi hdu hk e h1 h2 kont
theorem mr_69 (hF : mr_FC R (t + 1) hh o y k p pr rm op nd ab st rv cp cc cs gs gn du ls ln dp ss sn cl fs fn ygs ygn ykd yfs yfn yls yln yss ysn ydu) (hpr : ¬ pr = 0) (ht : t < 10) (hi : i < 60) (hdu : du t = nI i) (hk : k < 300) (kont : ∀ r u', mr_NX k r u' (nI (t + 1), rs, rn, nI k, mc, nI p, 0, yen, op, nd, ab, st, ygs, ygn, ykd, yfs, yfn, yls, yln, yss, ysn, dp, ydu, yne, pl) → post r u') : wX_work_69 post (nI t) (nI i) pr lv (nI (t + 1)) (nI o) (nI y) rm mk (nI k) mc rs rn (nI p) wc op nd ab st rv cp cc cs gs gn du ls ln dp ss sn cl fs fn wt mt pl := by
  have hF0 := hF
  obtain ⟨⟨hp, _⟩, hPG, hPR', hFR, hRT, hHP⟩ := hF
  have hPR := hPR' hpr
  have hd := hFR.2.1 t (by omega)
  have hydu : ydu t = nI i := hd.2.2.trans hdu
  have hdp := hd.1
  have hd6 := hd.2.1
  have hb : ∀ f, f < t + 1 → hh f ≤ 6 := fun f hf => (hFR.2.1 f hf).2.1
  have hR := mr_HP_R hHP
  obtain ⟨O, hO, e, _, _⟩ := hPG.1 i hi
  by_cases h : mr_tk O ≤ hh t ∧ hh t - mr_tk O + mr_lv O ≤ 6
  · exact mx_69 hO ht hd6 hdp hi e h.1 h.2 (mr_one hO hF0 hpr ht hi hdu hk e h.1 h.2 kont)
  · have h' : hh t < mr_tk O ∨ 6 < hh t - mr_tk O + mr_lv O := by
      rcases Nat.lt_or_ge (hh t) (mr_tk O) with w | w
      · exact Or.inl w
      · exact Or.inr (Nat.lt_of_not_le fun q => h ⟨w, q⟩)
    exact mx_69f hO ht hd6 hdp hi e h' (kont _ _ (Or.inr (Or.inr ⟨by decide, _, mr_END_mk (r := 3) (fx := nI (t + 1)) (fy := nI (t + 1)) (yne := yne) (mr_FC_0 hF0), mr_YI_stop (fun post q => my_can_s hO ht hd6 hdp hi hydu hk e h' q)⟩)))
theorem mr_c1 (hF : mr_FC R (t + 1) hh o y k p pr rm op nd ab st rv cp cc cs gs gn du ls ln dp ss sn cl fs fn ygs ygn ykd yfs yfn yls yln yss ysn ydu) (hpr : ¬ pr = 0) (ht : t < 10) (hi : i + 1 < 60) (hdu : du t = nI i) (hk : k ≤ 298) (e : op i = nI 3) (e' : op (i + 1) = nI 16) (kont : ∀ r u', mr_NX k r u' (nI (t + 1), rs, rn, nI k, mc, nI p, 0, yen, op, nd, ab, st, ygs, ygn, ykd, yfs, yfn, yls, yln, yss, ysn, dp, ydu, yne, pl) → post r u') : wpX_workCouple (mr_KC post t i) (pr, lv, nI (t + 1), nI o, nI y, rm, mk, nI k, mc, rs, rn, nI p, wc, op, nd, ab, st, rv, cp, cc, cs, gs, gn, du, ls, ln, dp, ss, sn, cl, fs, fn, wt, mt, pl) (nI i) 1 := by
  have hF0 := hF
  obtain ⟨⟨hp, _⟩, hPG, hPR', hFR, hRT, hHP⟩ := hF
  have hPR := hPR' hpr
  have hi0 : i < 60 := by omega
  have hd := hFR.2.1 t (by omega)
  have hydu : ydu t = nI i := hd.2.2.trans hdu
  have hdp := hd.1
  have hd6 := hd.2.1
  have hb : ∀ f, f < t + 1 → hh f ≤ 6 := fun f hf => (hFR.2.1 f hf).2.1
  have hR := mr_HP_R hHP
  obtain ⟨m, hm, em⟩ := (mr_opn hPG hi0 (by omega) e).1 (by omega)
  obtain ⟨j, hj, ej⟩ := (mr_opn hPG hi (by omega) e').2 (by omega)
  have v := hRT.2.1 (4 * t + m) (by omega)
  refine mx_couple1 hk ?_
  by_cases hs : hh t < 6 ∧ ls (4 * t + m) = 2
  · have g := hs.1
    obtain ⟨a, b, ea, eb, r⟩ := mr_V_obj v hs.2
    have w := (hHP.2.2.2.2.1 a b r).2 j hj
    refine (mx_loadGet ht g hdp hi hdu hm em hj ej hs.2 ea (hR a b r).1 (mr_V_S w)).mpr ?_
    have gA : hh t - 0 + 1 ≤ 6 := by omega
    have g2 : 0 ≤ hh t := Nat.zero_le _
    have q2 : mr_YV ykd (yls (4 * t + m)) (yln (4 * t + m)) := mr_V_YV hHP v
    have q3 : ∀ post : SY → Prop, post (nI (t + 1), rs, rn, nI (k + 2), mc, nI p, 0, yen, op, nd, ab, st, ygs, ygn, ykd, yfs, yfn, yls, yln, upd yss (6 * t + hh t) (yfs (3 * b + j)), upd ysn (6 * t + hh t) (yfn (3 * b + j)), upd dp t (nI (hh t + 1)), upd ydu t (nI (i + 2)), yne, pl) → mr_YI post (nI (t + 1), rs, rn, nI (k + 1), mc, nI p, 0, yen, op, nd, ab, st, ygs, ygn, ykd, yfs, yfn, yls, yln, upd yss (6 * t + hh t) (yls (4 * t + m)), upd ysn (6 * t + hh t) (yln (4 * t + m)), upd dp t (nI (hh t + 1)), upd ydu t (nI (i + 1)), yne, pl) := by
      refine mr_YI_ok (fun post q => my_can_1 (o := 16) (d := hh t + 1) (by omega) ht (by omega) pk_us hi pk_us (by omega) e' (show 1 ≤ hh t + 1 by omega) (show hh t + 1 - 1 + 1 ≤ 6 by omega) (fun p => my_fit16 ht (by omega) (by omega) pk_us (by show upd yss (6 * t + hh t) _ (6 * t + hh t) = 2; rw [pk_us]; exact v.1.trans hs.2)) (by omega) (by omega) q) (fun post q => (my_ws (by omega) (by omega) (by omega) (by omega) (by omega) (by omega) (by decide) ht hi pk_us e').mpr ?_)
      rw [ej]
      refine my_s16 (d := hh t + 1) (b := b) ht (by omega) (by omega) pk_us hPG hj (hR a b r).2 (by show upd ysn (6 * t + hh t) _ (6 * t + hh t) = nI b; rw [pk_us]; exact eb) (by show mr_YV ykd (upd yss (6 * t + hh t) _ (6 * t + hh t)) (upd ysn (6 * t + hh t) _ (6 * t + hh t)); rw [pk_us, pk_us]; exact q2) ?_
      simp only [Nat.add_sub_cancel, mr_uu]
      exact q
    exact mx_56t (br_f (by decide) (kont _ _ (Or.inr (Or.inl ⟨rfl, (nI (t + 1), rs, rn, nI (k + 1), mc, nI p, 0, yen, op, nd, ab, st, ygs, ygn, ykd, yfs, yfn, yls, yln, upd yss (6 * t + hh t) (yls (4 * t + m)), upd ysn (6 * t + hh t) (yln (4 * t + m)), upd dp t (nI (hh t + 1)), upd ydu t (nI (i + 1)), yne, pl), (nI (t + 1), rs, rn, nI (k + 2), mc, nI p, 0, yen, op, nd, ab, st, ygs, ygn, ykd, yfs, yfn, yls, yln, upd yss (6 * t + hh t) (yfs (3 * b + j)), upd ysn (6 * t + hh t) (yfn (3 * b + j)), upd dp t (nI (hh t + 1)), upd ydu t (nI (i + 2)), yne, pl), mr_RUN_mk (by omega) hpr ⟨⟨by omega, by omega⟩, hPG, fun _ => hPR, mr_FR_at hFR g, mr_RT_push hRT hb g w, hHP⟩, rfl, (mr_YI_ok (fun post q => my_can_1 (o := 3) (by omega) ht hd6 hdp hi0 hydu (by omega) e (show _ ≤ hh t by first | exact Nat.zero_le _ | exact g2) (show _ ≤ 6 by first | exact gA | omega) (fun p => my_fit (by omega)) (by omega) (by omega) q) (fun post q => (my_ws (by omega) (by omega) (by omega) (by omega) (by omega) (by omega) (by decide) ht hi0 hydu e).mpr (by rw [em]; exact (my_s3 hm ht g hdp).mpr q))), q3⟩))))
  · refine (mx_loadGetf ht hd6 hdp hi0 hm em ?_).mpr (mx_56f (br_t rfl (mr_69 hF0 hpr ht hi0 hdu (by omega) kont)))
    rcases Nat.lt_or_ge (hh t) 6 with w | w
    · exact Or.inr fun q => hs ⟨w, q⟩
    · exact Or.inl (by omega)
theorem mr_c2 (hF : mr_FC R (t + 1) hh o y k p pr rm op nd ab st rv cp cc cs gs gn du ls ln dp ss sn cl fs fn ygs ygn ykd yfs yfn yls yln yss ysn ydu) (hpr : ¬ pr = 0) (ht : t < 10) (hi : i + 1 < 60) (hdu : du t = nI i) (hk : k ≤ 298) (e : op i = nI 1) (e' : op (i + 1) = nI 8) (kont : ∀ r u', mr_NX k r u' (nI (t + 1), rs, rn, nI k, mc, nI p, 0, yen, op, nd, ab, st, ygs, ygn, ykd, yfs, yfn, yls, yln, yss, ysn, dp, ydu, yne, pl) → post r u') : wpX_workCouple (mr_KC post t i) (pr, lv, nI (t + 1), nI o, nI y, rm, mk, nI k, mc, rs, rn, nI p, wc, op, nd, ab, st, rv, cp, cc, cs, gs, gn, du, ls, ln, dp, ss, sn, cl, fs, fn, wt, mt, pl) (nI i) 2 := by
  have hF0 := hF
  obtain ⟨⟨hp, _⟩, hPG, hPR', hFR, hRT, hHP⟩ := hF
  have hPR := hPR' hpr
  have hi0 : i < 60 := by omega
  have hd := hFR.2.1 t (by omega)
  have hydu : ydu t = nI i := hd.2.2.trans hdu
  have hdp := hd.1
  have hd6 := hd.2.1
  have hb : ∀ f, f < t + 1 → hh f ≤ 6 := fun f hf => (hFR.2.1 f hf).2.1
  have hR := mr_HP_R hHP
  refine mx_couple2 hk ?_
  by_cases hs : (1 ≤ hh t ∧ hh t < 6) ∧ ss (6 * t + (hh t - 1)) = 1
  · have g1 := hs.1.1
    have g := hs.1.2
    have v0 := hRT.2.2 t (hh t - 1) (by omega) (by omega)
    have y0 := mr_V_int v0 hs.2
    refine (mx_pushAdd ht g g1 hdp hi0 hdu hs.2).mpr ?_
    have gA : hh t - 0 + 1 ≤ 6 := by omega
    have g2 : 0 ≤ hh t := Nat.zero_le _
    have n1 : 6 * t + (hh t - 1) ≠ 6 * t + hh t := by omega
    have rt := mr_RT_stk (k0 := 6 * t + (hh t - 1)) (s := ss (6 * t + (hh t - 1))) (n := sn (6 * t + (hh t - 1)) + nd i) (s' := 1) (n' := sn (6 * t + (hh t - 1)) + nd i) (mr_RT_dead (f0 := t) (d := hh t) (s := ss (6 * t + hh t)) (n := sn (6 * t + hh t)) (s' := 1) (n' := nd i) hRT hb (Nat.le_refl _) g) (by rw [hs.2]; exact mr_V_1)
    rw [mr_u0 (f := ss) rfl, mr_u0 (f := sn) rfl, mr_u0 (f := ss) rfl] at rt
    have q3 : ∀ post : SY → Prop, post (nI (t + 1), rs, rn, nI (k + 2), mc, nI p, 0, yen, op, nd, ab, st, ygs, ygn, ykd, yfs, yfn, yls, yln, upd (upd yss (6 * t + hh t) 1) (6 * t + (hh t - 1)) 1, upd (upd ysn (6 * t + hh t) (nd i)) (6 * t + (hh t - 1)) (sn (6 * t + (hh t - 1)) + nd i), dp, upd ydu t (nI (i + 2)), yne, pl) → mr_YI post (nI (t + 1), rs, rn, nI (k + 1), mc, nI p, 0, yen, op, nd, ab, st, ygs, ygn, ykd, yfs, yfn, yls, yln, upd yss (6 * t + hh t) 1, upd ysn (6 * t + hh t) (nd i), upd dp t (nI (hh t + 1)), upd ydu t (nI (i + 1)), yne, pl) := by
      refine mr_YI_ok (fun post q => my_can_1 (o := 8) (d := hh t + 1) (by omega) ht (by omega) pk_us hi pk_us (by omega) e' (show 2 ≤ hh t + 1 by omega) (show hh t + 1 - 2 + 1 ≤ 6 by omega) (fun p => my_fit8 (by omega) (by omega) ht (by omega) (by omega) pk_us ⟨by show upd yss (6 * t + hh t) _ (6 * t + hh t) = 1; exact pk_us, by show upd yss (6 * t + hh t) _ (6 * t + (hh t - 1)) = 1; rw [pk_un n1]; exact v0.1.trans hs.2⟩) (by omega) (by omega) q) (fun post q => (my_wt (by omega) (by omega) (by decide) ht hi pk_us e').mpr ?_)
      refine (my_t8 (o := 8) (d := hh t + 1) (z := sn (6 * t + (hh t - 1)) + nd i) ht (by omega) (by omega) pk_us (Or.inl ⟨rfl, ?_⟩)).mpr ?_
      · show _ = upd ysn (6 * t + hh t) _ (6 * t + (hh t - 1)) + upd ysn (6 * t + hh t) _ (6 * t + hh t)
        rw [pk_us, pk_un n1, y0]
      · have ed : hh t + 1 - 2 = hh t - 1 := by omega
        simp only [Nat.add_sub_cancel, mr_uu, ed, mr_u0 hdp]
        exact q
    exact mx_56t (br_f (by decide) (kont _ _ (Or.inr (Or.inl ⟨rfl, (nI (t + 1), rs, rn, nI (k + 1), mc, nI p, 0, yen, op, nd, ab, st, ygs, ygn, ykd, yfs, yfn, yls, yln, upd yss (6 * t + hh t) 1, upd ysn (6 * t + hh t) (nd i), upd dp t (nI (hh t + 1)), upd ydu t (nI (i + 1)), yne, pl), (nI (t + 1), rs, rn, nI (k + 2), mc, nI p, 0, yen, op, nd, ab, st, ygs, ygn, ykd, yfs, yfn, yls, yln, upd (upd yss (6 * t + hh t) 1) (6 * t + (hh t - 1)) 1, upd (upd ysn (6 * t + hh t) (nd i)) (6 * t + (hh t - 1)) (sn (6 * t + (hh t - 1)) + nd i), dp, upd ydu t (nI (i + 2)), yne, pl), mr_RUN_mk (by omega) hpr ⟨⟨by omega, by omega⟩, hPG, fun _ => hPR, mr_FR_i hFR, rt, hHP⟩, rfl, (mr_YI_ok (fun post q => my_can_1 (o := 1) (by omega) ht hd6 hdp hi0 hydu (by omega) e (show _ ≤ hh t by first | exact Nat.zero_le _ | exact g2) (show _ ≤ 6 by first | exact gA | omega) (fun p => my_fit (by omega)) (by omega) (by omega) q) (fun post q => (my_ws (by omega) (by omega) (by omega) (by omega) (by omega) (by omega) (by decide) ht hi0 hydu e).mpr ((my_s1 ht g hdp).mpr q))), q3⟩))))
  · refine (mx_pushAddf ht hd6 hdp ?_).mpr (mx_56f (br_t rfl (mr_69 hF0 hpr ht hi0 hdu (by omega) kont)))
    by_cases w : hh t = 0
    · exact Or.inl w
    · by_cases w' : hh t = 6
      · exact Or.inr (Or.inl w')
      · exact Or.inr (Or.inr fun q => hs ⟨⟨by omega, by omega⟩, q⟩)
theorem mr_c3 (hF : mr_FC R (t + 1) hh o y k p pr rm op nd ab st rv cp cc cs gs gn du ls ln dp ss sn cl fs fn ygs ygn ykd yfs yfn yls yln yss ysn ydu) (hpr : ¬ pr = 0) (ht : t < 10) (hi : i + 1 < 60) (hdu : du t = nI i) (hk : k ≤ 298) (e : op i = nI 11) (e' : op (i + 1) = nI 14) (kont : ∀ r u', mr_NX k r u' (nI (t + 1), rs, rn, nI k, mc, nI p, 0, yen, op, nd, ab, st, ygs, ygn, ykd, yfs, yfn, yls, yln, yss, ysn, dp, ydu, yne, pl) → post r u') : wpX_workCouple (mr_KC post t i) (pr, lv, nI (t + 1), nI o, nI y, rm, mk, nI k, mc, rs, rn, nI p, wc, op, nd, ab, st, rv, cp, cc, cs, gs, gn, du, ls, ln, dp, ss, sn, cl, fs, fn, wt, mt, pl) (nI i) 3 := by
  have hF0 := hF
  obtain ⟨⟨hp, _⟩, hPG, hPR', hFR, hRT, hHP⟩ := hF
  have hPR := hPR' hpr
  have hi0 : i < 60 := by omega
  have hd := hFR.2.1 t (by omega)
  have hydu : ydu t = nI i := hd.2.2.trans hdu
  have hdp := hd.1
  have hd6 := hd.2.1
  have hb : ∀ f, f < t + 1 → hh f ≤ 6 := fun f hf => (hFR.2.1 f hf).2.1
  have hR := mr_HP_R hHP
  refine mx_couple3 hk ?_
  by_cases hs : 2 ≤ hh t ∧ ss (6 * t + (hh t - 1)) = 1 ∧ ss (6 * t + (hh t - 2)) = 1
  · have g2 := hs.1
    have v0 := hRT.2.2 t (hh t - 1) (by omega) (by omega)
    have v1 := hRT.2.2 t (hh t - 2) (by omega) (by omega)
    have y0 := mr_V_int v0 hs.2.1
    have y1 := mr_V_int v1 hs.2.2
    have gA : hh t - 2 + 1 ≤ 6 := by omega
    have ed : hh t - 1 - 1 = hh t - 2 := by omega
    have hb' : ∀ f, f < t + 1 → mr_up hh t (hh t - 2) f ≤ 6 := fun f hf => by
      by_cases w : f = t
      · subst w; rw [mr_up_s]; omega
      · rw [mr_up_n w]; exact hb f hf
    by_cases c : sn (6 * t + (hh t - 1)) ≤ sn (6 * t + (hh t - 2))
    · refine (mx_lessZero ht hd6 g2 hdp hi hs.2.1 hs.2.2 (Or.inl ⟨c, rfl⟩)).mpr ?_
      have rt := mr_RT_dead (f0 := t) (d := hh t - 2) (s := ss (6 * t + (hh t - 2))) (n := sn (6 * t + (hh t - 2))) (s' := 1) (n' := 0) (mr_RT_drop (t := t) (d := hh t - 2) hRT (by omega)) hb' (by rw [mr_up_s]; exact Nat.le_refl _) (by omega)
      rw [mr_u0 (f := ss) rfl, mr_u0 (f := sn) rfl] at rt
      have q3 : ∀ post : SY → Prop, post (nI (t + 1), rs, rn, nI (k + 2), mc, nI p, 0, yen, op, nd, ab, st, ygs, ygn, ykd, yfs, yfn, yls, yln, upd yss (6 * t + (hh t - 2)) 1, upd ysn (6 * t + (hh t - 2)) 0, upd dp t (nI (hh t - 2)), upd ydu t (nd (i + 1)), yne, pl) → mr_YI post (nI (t + 1), rs, rn, nI (k + 1), mc, nI p, 0, yen, op, nd, ab, st, ygs, ygn, ykd, yfs, yfn, yls, yln, upd yss (6 * t + (hh t - 2)) 1, upd ysn (6 * t + (hh t - 2)) 0, upd dp t (nI (hh t - 1)), upd ydu t (nI (i + 1)), yne, pl) := by
        refine mr_YI_ok (fun post q => my_can_1 (o := 14) (d := hh t - 1) (by omega) ht (by omega) pk_us hi pk_us (by omega) e' (show 1 ≤ hh t - 1 by omega) (show hh t - 1 - 1 + 0 ≤ 6 by omega) (fun p => my_fit1 (Or.inl rfl) ht (by omega) (by omega) pk_us (by rw [ed]; exact pk_us)) (by omega) (by omega) q) (fun post q => (my_ws (by omega) (by omega) (by omega) (by omega) (by omega) (by omega) (by decide) ht hi pk_us e').mpr ?_)
        refine my_s14 (d := hh t - 1) (z := (nd (i + 1))) ht (by omega) (by omega) pk_us hPG (by rw [ed]; exact pk_us) (by rw [ed, pk_us]; exact Or.inl ⟨rfl, rfl⟩) ?_
        simp only [mr_uu, ed]
        exact q
      exact mx_56t (br_f (by decide) (kont _ _ (Or.inr (Or.inl ⟨rfl, (nI (t + 1), rs, rn, nI (k + 1), mc, nI p, 0, yen, op, nd, ab, st, ygs, ygn, ykd, yfs, yfn, yls, yln, upd yss (6 * t + (hh t - 2)) 1, upd ysn (6 * t + (hh t - 2)) 0, upd dp t (nI (hh t - 1)), upd ydu t (nI (i + 1)), yne, pl), (nI (t + 1), rs, rn, nI (k + 2), mc, nI p, 0, yen, op, nd, ab, st, ygs, ygn, ykd, yfs, yfn, yls, yln, upd yss (6 * t + (hh t - 2)) 1, upd ysn (6 * t + (hh t - 2)) 0, upd dp t (nI (hh t - 2)), upd ydu t (nd (i + 1)), yne, pl), mr_RUN_mk (by omega) hpr ⟨⟨by omega, by omega⟩, hPG, fun _ => hPR, mr_FR_at hFR (by omega), rt, hHP⟩, rfl, (mr_YI_ok (fun post q => my_can_1 (o := 11) (by omega) ht hd6 hdp hi0 hydu (by omega) e (show _ ≤ hh t by first | exact Nat.zero_le _ | exact g2) (show _ ≤ 6 by first | exact gA | omega) (fun p => my_fit8 (by omega) (by omega) ht hd6 g2 hdp ⟨v0.1.trans hs.2.1, v1.1.trans hs.2.2⟩) (by omega) (by omega) q) (fun post q => (my_wt (by omega) (by omega) (by decide) ht hi0 hydu e).mpr ((my_t8 (o := 11) ht hd6 g2 hdp (Or.inr (Or.inr (Or.inr ⟨rfl, Or.inl ⟨by rw [y0, y1]; exact c, rfl⟩⟩)))).mpr q))), q3⟩))))
    · refine (mx_lessZero ht hd6 g2 hdp hi hs.2.1 hs.2.2 (Or.inr ⟨c, rfl⟩)).mpr ?_
      have rt := mr_RT_dead (f0 := t) (d := hh t - 2) (s := ss (6 * t + (hh t - 2))) (n := sn (6 * t + (hh t - 2))) (s' := 1) (n' := 1) (mr_RT_drop (t := t) (d := hh t - 2) hRT (by omega)) hb' (by rw [mr_up_s]; exact Nat.le_refl _) (by omega)
      rw [mr_u0 (f := ss) rfl, mr_u0 (f := sn) rfl] at rt
      have q3 : ∀ post : SY → Prop, post (nI (t + 1), rs, rn, nI (k + 2), mc, nI p, 0, yen, op, nd, ab, st, ygs, ygn, ykd, yfs, yfn, yls, yln, upd yss (6 * t + (hh t - 2)) 1, upd ysn (6 * t + (hh t - 2)) 1, upd dp t (nI (hh t - 2)), upd ydu t (nI (i + 2)), yne, pl) → mr_YI post (nI (t + 1), rs, rn, nI (k + 1), mc, nI p, 0, yen, op, nd, ab, st, ygs, ygn, ykd, yfs, yfn, yls, yln, upd yss (6 * t + (hh t - 2)) 1, upd ysn (6 * t + (hh t - 2)) 1, upd dp t (nI (hh t - 1)), upd ydu t (nI (i + 1)), yne, pl) := by
        refine mr_YI_ok (fun post q => my_can_1 (o := 14) (d := hh t - 1) (by omega) ht (by omega) pk_us hi pk_us (by omega) e' (show 1 ≤ hh t - 1 by omega) (show hh t - 1 - 1 + 0 ≤ 6 by omega) (fun p => my_fit1 (Or.inl rfl) ht (by omega) (by omega) pk_us (by rw [ed]; exact pk_us)) (by omega) (by omega) q) (fun post q => (my_ws (by omega) (by omega) (by omega) (by omega) (by omega) (by omega) (by decide) ht hi pk_us e').mpr ?_)
        refine my_s14 (d := hh t - 1) (z := (nI (i + 2))) ht (by omega) (by omega) pk_us hPG (by rw [ed]; exact pk_us) (by rw [ed, pk_us]; exact Or.inr ⟨by decide, rfl⟩) ?_
        simp only [mr_uu, ed]
        exact q
      exact mx_56t (br_f (by decide) (kont _ _ (Or.inr (Or.inl ⟨rfl, (nI (t + 1), rs, rn, nI (k + 1), mc, nI p, 0, yen, op, nd, ab, st, ygs, ygn, ykd, yfs, yfn, yls, yln, upd yss (6 * t + (hh t - 2)) 1, upd ysn (6 * t + (hh t - 2)) 1, upd dp t (nI (hh t - 1)), upd ydu t (nI (i + 1)), yne, pl), (nI (t + 1), rs, rn, nI (k + 2), mc, nI p, 0, yen, op, nd, ab, st, ygs, ygn, ykd, yfs, yfn, yls, yln, upd yss (6 * t + (hh t - 2)) 1, upd ysn (6 * t + (hh t - 2)) 1, upd dp t (nI (hh t - 2)), upd ydu t (nI (i + 2)), yne, pl), mr_RUN_mk (by omega) hpr ⟨⟨by omega, by omega⟩, hPG, fun _ => hPR, mr_FR_at hFR (by omega), rt, hHP⟩, rfl, (mr_YI_ok (fun post q => my_can_1 (o := 11) (by omega) ht hd6 hdp hi0 hydu (by omega) e (show _ ≤ hh t by first | exact Nat.zero_le _ | exact g2) (show _ ≤ 6 by first | exact gA | omega) (fun p => my_fit8 (by omega) (by omega) ht hd6 g2 hdp ⟨v0.1.trans hs.2.1, v1.1.trans hs.2.2⟩) (by omega) (by omega) q) (fun post q => (my_wt (by omega) (by omega) (by decide) ht hi0 hydu e).mpr ((my_t8 (o := 11) ht hd6 g2 hdp (Or.inr (Or.inr (Or.inr ⟨rfl, Or.inr ⟨by rw [y0, y1]; exact c, rfl⟩⟩)))).mpr q))), q3⟩))))
  · refine (mx_lessZerof ht hd6 hdp ?_).mpr (mx_56f (br_t rfl (mr_69 hF0 hpr ht hi0 hdu (by omega) kont)))
    by_cases w : hh t < 2
    · exact Or.inl w
    · by_cases w' : ss (6 * t + (hh t - 1)) = 1
      · exact Or.inr (Or.inr fun q => hs ⟨by omega, w', q⟩)
      · exact Or.inr (Or.inl w')
theorem mr_c4 (hF : mr_FC R (t + 1) hh o y k p pr rm op nd ab st rv cp cc cs gs gn du ls ln dp ss sn cl fs fn ygs ygn ykd yfs yfn yls yln yss ysn ydu) (hpr : ¬ pr = 0) (ht : t < 10) (hi : i + 1 < 60) (hdu : du t = nI i) (hk : k ≤ 298) (e : op i = nI 3) (e' : op (i + 1) = nI 3) (kont : ∀ r u', mr_NX k r u' (nI (t + 1), rs, rn, nI k, mc, nI p, 0, yen, op, nd, ab, st, ygs, ygn, ykd, yfs, yfn, yls, yln, yss, ysn, dp, ydu, yne, pl) → post r u') : wpX_workCouple (mr_KC post t i) (pr, lv, nI (t + 1), nI o, nI y, rm, mk, nI k, mc, rs, rn, nI p, wc, op, nd, ab, st, rv, cp, cc, cs, gs, gn, du, ls, ln, dp, ss, sn, cl, fs, fn, wt, mt, pl) (nI i) 4 := by
  have hF0 := hF
  obtain ⟨⟨hp, _⟩, hPG, hPR', hFR, hRT, hHP⟩ := hF
  have hPR := hPR' hpr
  have hi0 : i < 60 := by omega
  have hd := hFR.2.1 t (by omega)
  have hydu : ydu t = nI i := hd.2.2.trans hdu
  have hdp := hd.1
  have hd6 := hd.2.1
  have hb : ∀ f, f < t + 1 → hh f ≤ 6 := fun f hf => (hFR.2.1 f hf).2.1
  have hR := mr_HP_R hHP
  obtain ⟨m, hm, em⟩ := (mr_opn hPG hi0 (by omega) e).1 (by omega)
  obtain ⟨j, hj, ej⟩ := (mr_opn hPG hi (by omega) e').1 (by omega)
  have v := hRT.2.1 (4 * t + m) (by omega)
  have v' := hRT.2.1 (4 * t + j) (by omega)
  refine mx_couple4 hk ?_
  by_cases hs : hh t ≤ 4
  · have g : hh t < 6 := by omega
    refine (mx_loadLoad ht hs hdp hi hdu hm em hj ej (mr_V_S v) (mr_V_S v')).mpr ?_
    have gA : hh t - 0 + 1 ≤ 6 := by omega
    have g2 : 0 ≤ hh t := Nat.zero_le _
    have rt := mr_RT_push (hh := mr_up hh t (hh t + 1)) (mr_RT_push hRT hb g v) (fun f hf => by
      by_cases w : f = t
      · subst w; rw [mr_up_s]; omega
      · rw [mr_up_n w]; exact hb f hf) (by rw [mr_up_s]; omega) v'
    rw [mr_up_s] at rt
    have rt' := mr_RT_h (hh' := mr_up hh t (hh t + 2)) rt (fun f hf => by
      by_cases w : f = t
      · subst w; rw [mr_up_s, mr_up_s]; omega
      · rw [mr_up_n w, mr_up_n w, mr_up_n w]; exact Nat.le_refl _)
    have q3 : ∀ post : SY → Prop, post (nI (t + 1), rs, rn, nI (k + 2), mc, nI p, 0, yen, op, nd, ab, st, ygs, ygn, ykd, yfs, yfn, yls, yln, upd (upd yss (6 * t + hh t) (yls (4 * t + m))) (6 * t + (hh t + 1)) (yls (4 * t + j)), upd (upd ysn (6 * t + hh t) (yln (4 * t + m))) (6 * t + (hh t + 1)) (yln (4 * t + j)), upd dp t (nI (hh t + 2)), upd ydu t (nI (i + 2)), yne, pl) → mr_YI post (nI (t + 1), rs, rn, nI (k + 1), mc, nI p, 0, yen, op, nd, ab, st, ygs, ygn, ykd, yfs, yfn, yls, yln, upd yss (6 * t + hh t) (yls (4 * t + m)), upd ysn (6 * t + hh t) (yln (4 * t + m)), upd dp t (nI (hh t + 1)), upd ydu t (nI (i + 1)), yne, pl) := by
      refine mr_YI_ok (fun post q => my_can_1 (o := 3) (d := hh t + 1) (by omega) ht (by omega) pk_us hi pk_us (by omega) e' (Nat.zero_le _) (show hh t + 1 - 0 + 1 ≤ 6 by omega) (fun p => my_fit (by omega)) (by omega) (by omega) q) (fun post q => (my_ws (by omega) (by omega) (by omega) (by omega) (by omega) (by omega) (by decide) ht hi pk_us e').mpr ?_)
      rw [ej]
      refine (my_s3 (d := hh t + 1) hj ht (by omega) pk_us).mpr ?_
      simp only [mr_uu]
      exact q
    exact mx_56t (br_f (by decide) (kont _ _ (Or.inr (Or.inl ⟨rfl, (nI (t + 1), rs, rn, nI (k + 1), mc, nI p, 0, yen, op, nd, ab, st, ygs, ygn, ykd, yfs, yfn, yls, yln, upd yss (6 * t + hh t) (yls (4 * t + m)), upd ysn (6 * t + hh t) (yln (4 * t + m)), upd dp t (nI (hh t + 1)), upd ydu t (nI (i + 1)), yne, pl), (nI (t + 1), rs, rn, nI (k + 2), mc, nI p, 0, yen, op, nd, ab, st, ygs, ygn, ykd, yfs, yfn, yls, yln, upd (upd yss (6 * t + hh t) (yls (4 * t + m))) (6 * t + (hh t + 1)) (yls (4 * t + j)), upd (upd ysn (6 * t + hh t) (yln (4 * t + m))) (6 * t + (hh t + 1)) (yln (4 * t + j)), upd dp t (nI (hh t + 2)), upd ydu t (nI (i + 2)), yne, pl), mr_RUN_mk (by omega) hpr ⟨⟨by omega, by omega⟩, hPG, fun _ => hPR, mr_FR_at hFR (by omega), rt', hHP⟩, rfl, (mr_YI_ok (fun post q => my_can_1 (o := 3) (by omega) ht hd6 hdp hi0 hydu (by omega) e (show _ ≤ hh t by first | exact Nat.zero_le _ | exact g2) (show _ ≤ 6 by first | exact gA | omega) (fun p => my_fit (by omega)) (by omega) (by omega) q) (fun post q => (my_ws (by omega) (by omega) (by omega) (by omega) (by omega) (by omega) (by decide) ht hi0 hydu e).mpr (by rw [em]; exact (my_s3 hm ht g hdp).mpr q))), q3⟩))))
  · exact (mx_loadLoadf ht hd6 hdp (by omega)).mpr (mx_56f (br_t rfl (mr_69 hF0 hpr ht hi0 hdu (by omega) kont)))
theorem mr_step (hF : mr_FC R (t + 1) hh o y k p pr rm op nd ab st rv cp cc cs gs gn du ls ln dp ss sn cl fs fn ygs ygn ykd yfs yfn yls yln yss ysn ydu) (hpr : ¬ pr = 0) (ht : t < 10) (kont : ∀ r u', mr_NX k r u' (nI (t + 1), rs, rn, nI k, mc, nI p, 0, yen, op, nd, ab, st, ygs, ygn, ykd, yfs, yfn, yls, yln, yss, ysn, dp, ydu, yne, pl) → post r u') : wpX_work post (pr, lv, nI (t + 1), nI o, nI y, rm, mk, nI k, mc, rs, rn, nI p, wc, op, nd, ab, st, rv, cp, cc, cs, gs, gn, du, ls, ln, dp, ss, sn, cl, fs, fn, wt, mt, pl) := by
  have hF0 := hF
  obtain ⟨⟨hp, hk3⟩, hPG, hPR', hFR, hRT, hHP⟩ := hF
  have hPR := hPR' hpr
  have hd := hFR.2.1 t (by omega)
  by_cases hc : du t < 0 ∨ 59 < du t
  · exact mx_work_c ht hc (kont _ _ (Or.inr (Or.inr ⟨by decide, _, mr_END_mk (r := 1) (fx := nI (t + 1)) (fy := nI (t + 1)) (yne := yne) (mr_FC_0 hF0), mr_YI_stop (fun post q => my_can_c ht (by rw [hd.2.2]; exact hc) q)⟩)))
  · obtain ⟨i, hi, hdu⟩ := nI_of2 (x := du t) (M := 59) (n := 59) (by decide) (fun q => hc (Or.inl q)) (Int32.not_lt.mp fun q => hc (Or.inr q))
    have hi : i < 60 := by omega
    by_cases k3 : k = 300
    · subst k3
      exact mx_work_t ht hdu hi (kont _ _ (Or.inr (Or.inr ⟨by decide, _, mr_END_mk (k := 300) (r := 2) (fx := nI (t + 1)) (fy := nI (t + 1)) (yne := yne) (mr_FC_0 hF0), mr_YI_stop (fun post q => my_can_t ht hi (hd.2.2.trans hdu) q)⟩)))
    · have hk : k < 300 := by omega
      refine mx_work ht hdu hi hk (fun _ hcp => ?_) (fun _ => mr_69 hF0 hpr ht hi hdu hk kont)
      by_cases late : k ≤ 298
      · rcases hPR.2.1 i hi with w | ⟨hi9, w | w | w | w⟩
        · exact absurd w hcp
        · rw [w.1]; exact mr_c1 hF0 hpr ht (by omega) hdu late w.2.1 w.2.2 kont
        · rw [w.1]; exact mr_c2 hF0 hpr ht (by omega) hdu late w.2.1 w.2.2 kont
        · rw [w.1]; exact mr_c3 hF0 hpr ht (by omega) hdu late w.2.1 w.2.2 kont
        · rw [w.1]; exact mr_c4 hF0 hpr ht (by omega) hdu late w.2.1 w.2.2 kont
      · exact mx_couple_late (by omega) hk (br_t rfl (mr_69 hF0 hpr ht hi hdu hk kont))
end
end
section
/-! prepare, and the loops of run -/
def mr_IDLE (u : SX) (v : SY) : Prop := ∃ (R : Nat → Nat → Prop) (hh : Nat → Nat) (o y k p : Nat) (pr lv rm mk mc rs rn wc : Int32) (op nd ab st rv cp cc cs gs gn du ls ln dp ss sn cl fs fn wt mt pl : Nat → Int32) (yov yen : Int32) (ygs ygn ykd yfs yfn yls yln yss ysn ydu yne : Nat → Int32), u = (pr, lv, 0, nI o, nI y, rm, mk, nI k, mc, rs, rn, nI p, wc, op, nd, ab, st, rv, cp, cc, cs, gs, gn, du, ls, ln, dp, ss, sn, cl, fs, fn, wt, mt, pl) ∧ v = (0, rs, rn, nI k, mc, nI p, yov, yen, op, nd, ab, st, ygs, ygn, ykd, yfs, yfn, yls, yln, yss, ysn, dp, ydu, yne, pl) ∧ mr_FC R 0 hh o y k p pr rm op nd ab st rv cp cc cs gs gn du ls ln dp ss sn cl fs fn ygs ygn ykd yfs yfn yls yln yss ysn ydu
theorem mr_IDLE_mk {R : Nat → Nat → Prop} {hh : Nat → Nat} {o y k p : Nat} {pr lv rm mk mc rs rn wc : Int32} {op nd ab st rv cp cc cs gs gn du ls ln dp ss sn cl fs fn wt mt pl : Nat → Int32} {yov yen : Int32} {ygs ygn ykd yfs yfn yls yln yss ysn ydu yne : Nat → Int32} (h : mr_FC R 0 hh o y k p pr rm op nd ab st rv cp cc cs gs gn du ls ln dp ss sn cl fs fn ygs ygn ykd yfs yfn yls yln yss ysn ydu) : mr_IDLE (pr, lv, 0, nI o, nI y, rm, mk, nI k, mc, rs, rn, nI p, wc, op, nd, ab, st, rv, cp, cc, cs, gs, gn, du, ls, ln, dp, ss, sn, cl, fs, fn, wt, mt, pl) (0, rs, rn, nI k, mc, nI p, yov, yen, op, nd, ab, st, ygs, ygn, ykd, yfs, yfn, yls, yln, yss, ysn, dp, ydu, yne, pl) :=
  ⟨R, hh, o, y, k, p, pr, lv, rm, mk, mc, rs, rn, wc, op, nd, ab, st, rv, cp, cc, cs, gs, gn, du, ls, ln, dp, ss, sn, cl, fs, fn, wt, mt, pl, yov, yen, ygs, ygn, ykd, yfs, yfn, yls, yln, yss, ysn, ydu, yne, rfl, rfl, h⟩
theorem mr_IDLE_el {P : SX → SY → Prop} {u : SX} {v : SY} (h : ∀ (R : Nat → Nat → Prop) (hh : Nat → Nat) (o y k p : Nat) (pr lv rm mk mc rs rn wc : Int32) (op nd ab st rv cp cc cs gs gn du ls ln dp ss sn cl fs fn wt mt pl : Nat → Int32) (yov yen : Int32) (ygs ygn ykd yfs yfn yls yln yss ysn ydu yne : Nat → Int32), mr_FC R 0 hh o y k p pr rm op nd ab st rv cp cc cs gs gn du ls ln dp ss sn cl fs fn ygs ygn ykd yfs yfn yls yln yss ysn ydu → P (pr, lv, 0, nI o, nI y, rm, mk, nI k, mc, rs, rn, nI p, wc, op, nd, ab, st, rv, cp, cc, cs, gs, gn, du, ls, ln, dp, ss, sn, cl, fs, fn, wt, mt, pl) (0, rs, rn, nI k, mc, nI p, yov, yen, op, nd, ab, st, ygs, ygn, ykd, yfs, yfn, yls, yln, yss, ysn, dp, ydu, yne, pl)) (I : mr_IDLE u v) : P u v :=
  I.elim fun R I => I.elim fun hh I => I.elim fun o I => I.elim fun y I => I.elim fun k I => I.elim fun p I => I.elim fun pr I => I.elim fun lv I => I.elim fun rm I => I.elim fun mk I => I.elim fun mc I => I.elim fun rs I => I.elim fun rn I => I.elim fun wc I => I.elim fun op I => I.elim fun nd I => I.elim fun ab I => I.elim fun st I => I.elim fun rv I => I.elim fun cp I => I.elim fun cc I => I.elim fun cs I => I.elim fun gs I => I.elim fun gn I => I.elim fun du I => I.elim fun ls I => I.elim fun ln I => I.elim fun dp I => I.elim fun ss I => I.elim fun sn I => I.elim fun cl I => I.elim fun fs I => I.elim fun fn I => I.elim fun wt I => I.elim fun mt I => I.elim fun pl I => I.elim fun yov I => I.elim fun yen I => I.elim fun ygs I => I.elim fun ygn I => I.elim fun ykd I => I.elim fun yfs I => I.elim fun yfn I => I.elim fun yls I => I.elim fun yln I => I.elim fun yss I => I.elim fun ysn I => I.elim fun ydu I => I.elim fun yne I => by obtain ⟨e1, e2, e5⟩ := I; subst e1 e2; exact h R hh o y k p pr lv rm mk mc rs rn wc op nd ab st rv cp cc cs gs gn du ls ln dp ss sn cl fs fn wt mt pl yov yen ygs ygn ykd yfs yfn yls yln yss ysn ydu yne e5
/-! prepare -/
def mr_RVd (ab st rv : Nat → Int32) (c s : Nat) : Prop :=
  ((∀ a, a < 60 → st (4 * c + s) = nI a → rv (4 * c + s) = nI a) ∧ (st (4 * c + s) = -1 → (ab c = -1 → rv (4 * c + s) = -1) ∧ (∀ a, a < c → ab c = nI a → rv (4 * c + s) = rv (4 * a + s)))) ∧ (rv (4 * c + s) = -1 ∨ ∃ a, a < 60 ∧ rv (4 * c + s) = nI a)
theorem mr_RVd_n {ab st rv : Nat → Int32} {c s c' s' : Nat} {x : Int32} (h : mr_RVd ab st rv c' s') (hs' : s' < 4) (hc : c' < c ∨ (c' = c ∧ s' ≠ s)) : mr_RVd ab st (upd rv (4 * c + s) x) c' s' := by
  have e1 : upd rv (4 * c + s) x (4 * c' + s') = rv (4 * c' + s') := pk_un (by omega)
  unfold mr_RVd
  rw [e1]
  refine ⟨⟨h.1.1, fun z => ⟨(h.1.2 z).1, fun a ha y => ?_⟩⟩, h.2⟩
  rw [pk_un (by omega)]
  exact (h.1.2 z).2 a ha y
section
variable {pr lv fc ou yu rm mk sc mc rs rn pc wc : Int32} {op nd ab st cs gs gn du ls ln dp ss sn cl fs fn wt mt pl : Nat → Int32}
theorem mx_coupleOf {rv cp cc : Nat → Int32} {post : Int32 → Prop} {a b : Int32} (k : ∀ w, (w = 0 ∨ (w = 1 ∧ a = 3 ∧ b = 16) ∨ (w = 2 ∧ a = 1 ∧ b = 8) ∨ (w = 3 ∧ a = 11 ∧ b = 14) ∨ (w = 4 ∧ a = 3 ∧ b = 3)) → post w) : wpX_coupleOf post (pr, lv, fc, ou, yu, rm, mk, sc, mc, rs, rn, pc, wc, op, nd, ab, st, rv, cp, cc, cs, gs, gn, du, ls, ln, dp, ss, sn, cl, fs, fn, wt, mt, pl) a b := by
  have k0 := k 0 (Or.inl rfl)
  have h40 : wX_coupleOf_40 post a b pr lv fc ou yu rm mk sc mc rs rn pc wc op nd ab st rv cp cc cs gs gn du ls ln dp ss sn cl fs fn wt mt pl := br_c (fun e => br_c (fun e' => k 4 (Or.inr (Or.inr (Or.inr (Or.inr ⟨rfl, e, e'⟩))))) fun _ => k0) fun _ => k0
  have h26 : wX_coupleOf_26 post a b pr lv fc ou yu rm mk sc mc rs rn pc wc op nd ab st rv cp cc cs gs gn du ls ln dp ss sn cl fs fn wt mt pl := br_c (fun e => br_c (fun e' => k 3 (Or.inr (Or.inr (Or.inr (Or.inl ⟨rfl, e, e'⟩))))) fun _ => h40) fun _ => h40
  have h13 : wX_coupleOf_13 post a b pr lv fc ou yu rm mk sc mc rs rn pc wc op nd ab st rv cp cc cs gs gn du ls ln dp ss sn cl fs fn wt mt pl := br_c (fun e => br_c (fun e' => k 2 (Or.inr (Or.inr (Or.inl ⟨rfl, e, e'⟩)))) fun _ => h26) fun _ => h26
  exact br_c (fun e => br_c (fun e' => k 1 (Or.inr (Or.inl ⟨rfl, e, e'⟩))) fun _ => h13) fun _ => h13
theorem mx_prep_95 {rv : Nat → Int32} {post : SX → Prop} (k : ∀ cp' cc' : Nat → Int32, mr_CP op cp' → (∀ i, i < 60 → cc' i = -1) → post (pr, lv, fc, ou, yu, rm, mk, sc, mc, rs, rn, pc, wc, op, nd, ab, st, rv, cp', cc', cs, gs, gn, du, ls, ln, dp, ss, sn, cl, fs, fn, wt, mt, pl)) : ∀ n i cp cc, i ≤ 60 → 60 - i < n → (∀ j, j < i → cp j = 0 ∨ (j < 59 ∧ ((cp j = 1 ∧ op j = 3 ∧ op (j + 1) = 16) ∨ (cp j = 2 ∧ op j = 1 ∧ op (j + 1) = 8) ∨ (cp j = 3 ∧ op j = 11 ∧ op (j + 1) = 14) ∨ (cp j = 4 ∧ op j = 3 ∧ op (j + 1) = 3)))) → (∀ j, j < i → cc j = -1) → wX_prepare_95 post pr lv fc ou yu rm mk sc mc rs rn pc wc n (nI i) op nd ab st rv cp cc cs gs gn du ls ln dp ss sn cl fs fn wt mt pl := by
  intro n
  induction n with
  | zero => intro i cp cc _ h; omega
  | succ n ih =>
    intro i cp cc hi hlt h1 h2
    rw [wX_prepare_95]
    by_cases z : i = 60
    · subst z
      exact br_t (by decide) (k cp cc h1 h2)
    · refine br_f (nI_ge (b := 60) (by omega) (by omega)) ⟨vp_in_nI (by omega) (by decide), nm_e ?_⟩
      rw [nI_clamp (n := i) (by omega), nI_1, nI_clamp (n := i + 1) (by omega), mr_nbm.1]
      have hcc : ∀ j, j < i + 1 → upd cc i (-1) j = -1 := fun j hj => by
        by_cases w : j = i
        · subst w; exact pk_us
        · rw [pk_un w]; exact h2 j (by omega)
      by_cases w : i = 59
      · refine br_t (by rw [w]; decide) ⟨vp_in_nI (by omega) (by decide), nm_e (nm_e ?_)⟩
        rw [mr_nbm.2.2.2]
        refine ih (i + 1) _ _ (by omega) (by omega) (fun j hj => ?_) hcc
        by_cases q : j = i
        · subst q; rw [pk_us]; exact Or.inl rfl
        · rw [pk_un q]; exact h1 j (by omega)
      · refine br_f (nI_ge (b := 59) (by omega) (by omega)) ⟨vp_in_nI (by omega) (by decide), vp_in_nI (by omega) (by decide), mx_coupleOf fun w' hw => ⟨vp_in_nI (by omega) (by decide), nm_e (nm_e ?_)⟩⟩
        have e : vp_nar .byte w'.toInt8.toInt32 = w' := by
          rcases hw with rfl | ⟨rfl, _⟩ | ⟨rfl, _⟩ | ⟨rfl, _⟩ | ⟨rfl, _⟩ <;> decide +kernel
        rw [e]
        refine ih (i + 1) _ _ (by omega) (by omega) (fun j hj => ?_) hcc
        by_cases q : j = i
        · subst q; rw [pk_us]
          rcases hw with rfl | hw
          · exact Or.inl rfl
          · exact Or.inr ⟨by omega, hw⟩
        · rw [pk_un q]; exact h1 j (by omega)
theorem mx_prep_22 {cp cc : Nat → Int32} {post : SX → Prop} {J : Int32 → (Nat → Int32) → (Nat → Int32) → (Nat → Int32) → (Nat → Int32) → (Nat → Int32) → (Nat → Int32) → (Nat → Int32) → (Nat → Int32) → (Nat → Int32) → (Nat → Int32) → (Nat → Int32) → (Nat → Int32) → (Nat → Int32) → (Nat → Int32) → (Nat → Int32) → (Nat → Int32) → (Nat → Int32) → (Nat → Int32) → (Nat → Int32) → (Nat → Int32) → (Nat → Int32) → (Nat → Int32) → Prop} {c : Nat} (hc : c < 4) (hp : mr_PG op nd ab st) : ∀ n s rv, s ≤ 4 → 4 - s < n → (∀ c' s', c' < c → s' < 4 → mr_RVd ab st rv c' s') → (∀ s', s' < s → mr_RVd ab st rv c s') → (∀ rv', (∀ c' s', c' < c + 1 → s' < 4 → mr_RVd ab st rv' c' s') → J (nI (c + 1)) op nd ab st rv' cp cc cs gs gn du ls ln dp ss sn cl fs fn wt mt pl) → wX_prepare_22 post J (nI c) pr lv fc ou yu rm mk sc mc rs rn pc wc n (nI s) op nd ab st rv cp cc cs gs gn du ls ln dp ss sn cl fs fn wt mt pl := by
  intro n
  induction n with
  | zero => intro s rv _ h; omega
  | succ n ih =>
    intro s rv hs hlt h1 h2 k
    rw [wX_prepare_22]
    dsimp only
    rw [mr_i4, nI_add, nI_clamp (n := 4 * c + s) (by omega), nI_clamp (n := c) (by omega)]
    by_cases z : s = 4
    · subst z
      refine br_t (by decide) (nm_r (nI_1 _) (k rv fun c' s' hc' hs' => ?_))
      by_cases w : c' = c
      · subst w; exact h2 s' hs'
      · exact h1 c' s' (by omega) hs'
    · have i1 : vp_in (nI (4 * c + s)) 16 := vp_in_nI (by omega) (by decide)
      have step : ∀ x, vp_nar .byte x.toInt8.toInt32 = x → mr_RVd ab st (upd rv (4 * c + s) x) c s → wX_prepare_22 post J (nI c) pr lv fc ou yu rm mk sc mc rs rn pc wc n (nI (s + 1)) op nd ab st (upd rv (4 * c + s) x) cp cc cs gs gn du ls ln dp ss sn cl fs fn wt mt pl := fun x _ hx =>
        ih (s + 1) _ (by omega) (by omega) (fun c' s' hc' hs' => mr_RVd_n (h1 c' s' hc' hs') hs' (Or.inl hc')) (fun s' hs' => by
          by_cases w : s' = s
          · subst w; exact hx
          · exact mr_RVd_n (h2 s' (by omega)) (by omega) (Or.inr ⟨rfl, w⟩)) k
      refine br_f (nI_ge (b := 4) (by omega) (by omega)) ⟨i1, nm_e ?_⟩
      rcases hp.2.2 (4 * c + s) (by omega) with q | ⟨a, ha, q⟩
      · rw [q]
        refine br_f (by decide) ⟨vp_in_nI hc (by decide), ?_⟩
        rcases hp.2.1 c hc with w | ⟨a, ha, w⟩
        · rw [w, mr_nbm.2.1]
          refine br_t (by decide) ⟨i1, nm_e (nm_r (nI_1 _) (step (-1) mr_nbm.2.1 ⟨⟨fun a ha q' => absurd (q'.symm.trans q) (mr_m1 (by omega)), fun _ => ⟨fun _ => pk_us, fun a ha w' => absurd (w'.symm.trans w) (mr_m1 (by omega))⟩⟩, Or.inl pk_us⟩))⟩
        · have g := h1 a s ha (by omega)
          have en := mr_RV_nar g.2
          rw [w, mr_i4, nI_add, nI_clamp (n := 4 * a + s) (by omega), en]
          refine br_f (nI_pos (by omega)) ⟨vp_in_nI hc (by decide), vp_in_nI (by omega) (by decide), i1, nm_e (nm_r (nI_1 _) (step _ en ⟨⟨fun a' ha' q' => absurd (q'.symm.trans q) (mr_m1 (by omega)), fun _ => ⟨fun w' => absurd (w.symm.trans w') (mr_m1 (by omega)), fun a' ha' w' => ?_⟩⟩, ?_⟩))⟩
          · have : a' = a := mr_inj (by omega) (by omega) (w'.symm.trans w)
            subst this
            rw [pk_us, pk_un (by omega)]
          · rw [pk_us]; exact g.2
      · rw [q, mr_nb2 (by omega)]
        refine br_t (nI_pos' (by omega)) ⟨i1, nm_e (nm_r (nI_1 _) (step (nI a) (mr_nb2 (by omega)) ⟨⟨fun a' ha' q' => ?_, fun q' => absurd (q.symm.trans q') (mr_m1 (by omega))⟩, Or.inr ⟨a, ha, pk_us⟩⟩))⟩
        rw [pk_us]; exact q.symm.trans q'
theorem mx_prep_15 {cp cc : Nat → Int32} {post : SX → Prop} (hp : mr_PG op nd ab st) (k : ∀ rv' cp' cc' : Nat → Int32, mr_RV ab st rv' → mr_CP op cp' → (∀ i, i < 60 → cc' i = -1) → post (pr, lv, fc, ou, yu, rm, mk, sc, mc, rs, rn, pc, wc, op, nd, ab, st, rv', cp', cc', cs, gs, gn, du, ls, ln, dp, ss, sn, cl, fs, fn, wt, mt, pl)) : ∀ n c rv, c ≤ 4 → 4 - c < n → (∀ c' s', c' < c → s' < 4 → mr_RVd ab st rv c' s') → wX_prepare_15 post pr lv fc ou yu rm mk sc mc rs rn pc wc n (nI c) op nd ab st rv cp cc cs gs gn du ls ln dp ss sn cl fs fn wt mt pl := by
  intro n
  induction n with
  | zero => intro c rv _ h; omega
  | succ n ih =>
    intro c rv hc hlt h1
    rw [wX_prepare_15]
    by_cases z : c = 4
    · subst z
      exact br_t (by decide) ⟨61, mx_prep_95 (fun cp' cc' => k rv cp' cc' fun c s hc hs => (h1 c s hc hs).1) 61 0 cp cc (by omega) (by omega) (fun j hj => by omega) fun j hj => by omega⟩
    · exact br_f (nI_ge (b := 4) (by omega) (by omega)) ⟨5, mx_prep_22 (by omega) hp 5 0 rv (by omega) (by omega) h1 (fun s' hs' => by omega) fun rv' h2 => ih (c + 1) rv' (by omega) (by omega) h2⟩
theorem mx_prepare {rv cp cc : Nat → Int32} {post : SX → Prop} (hp : mr_PG op nd ab st) (h : ¬ pr = 0 → mr_RV ab st rv ∧ mr_CP op cp ∧ mr_CC nd rv cc cs) (k : ∀ (pr' : Int32) (rv' cp' cc' : Nat → Int32), ¬ pr' = 0 → mr_RV ab st rv' → mr_CP op cp' → mr_CC nd rv' cc' cs → post (pr', lv, fc, ou, yu, rm, mk, sc, mc, rs, rn, pc, wc, op, nd, ab, st, rv', cp', cc', cs, gs, gn, du, ls, ln, dp, ss, sn, cl, fs, fn, wt, mt, pl)) : wpX_prepare post (pr, lv, fc, ou, yu, rm, mk, sc, mc, rs, rn, pc, wc, op, nd, ab, st, rv, cp, cc, cs, gs, gn, du, ls, ln, dp, ss, sn, cl, fs, fn, wt, mt, pl) := by
  rw [wpX_prepare]
  refine br_c (fun _ => ⟨5, mx_prep_15 (pr := 1) hp (fun rv' cp' cc' h1 h2 h3 => k 1 rv' cp' cc' (by decide) h1 h2 fun i hi => Or.inl (h3 i hi)) 5 0 rv (by omega) (by omega) fun c' s' hc' => by omega⟩) fun z => ?_
  obtain ⟨h1, h2, h3⟩ := h z
  exact k pr rv cp cc z h1 h2 h3
end
/-! loops -/
def mr_XR (post : Int32 → SX → Prop) (n : Nat) (r : Int32) (u : SX) : Prop := match u with
  | (pr, lv, fc, ou, yu, rm, mk1, sc, mc, rs, rn, pc, wc, op, nd, ab, st, rv, cp, cc, cs, gs, gn, du, ls, ln, dp, ss, sn, cl, fs, fn, wt, mt, pl) => wX_run_48 post n r pr lv fc ou yu rm mk1 sc mc rs rn pc wc op nd ab st rv cp cc cs gs gn du ls ln dp ss sn cl fs fn wt mt pl
def mr_YR (post : Int32 → SY → Prop) (n : Nat) (x : Int32) (v : SY) : Prop := match v with
  | (yfc, yrs, yrn, ysc, ymc, ypc, yov, yen, yop, ynd, yab, yst, ygs, ygn, ykd, yfs, yfn, yls, yln, yss, ysn, yhp, ydu, yne, you) => wY_run_44 post n x yfc yrs yrn ysc ymc ypc yov yen yop ynd yab yst ygs ygn ykd yfs yfn yls yln yss ysn yhp ydu yne you
theorem mr_YR_step {post : Int32 → SY → Prop} {m k : Nat} {v : SY} (hk : k < 302) (h0 : mr_ov v = 0) (h : mr_YI (fun u => mr_YR post m (nI (k + 1)) u) v) : mr_YR post (m + 1) (nI k) v := by
  obtain ⟨yfc, yrs, yrn, ysc, ymc, ypc, yov, yen, yop, ynd, yab, yst, ygs, ygn, ykd, yfs, yfn, yls, yln, yss, ysn, yhp, ydu, yne, you⟩ := v
  have h0 : yov = 0 := h0
  subst h0
  show wY_run_44 post (m + 1) (nI k) yfc yrs yrn ysc ymc ypc 0 yen yop ynd yab yst ygs ygn ykd yfs yfn yls yln yss ysn yhp ydu yne you
  rw [wY_run_44]
  refine br_f (nI_ge (b := 302) hk (by omega)) (br_t rfl ?_)
  rw [nI_1]
  simp only [forall_eq]
  exact h
theorem mr_RUN_k {k : Nat} {u : SX} {v : SY} (h : mr_RUN k u v) : k ≤ 300 := mr_RUN_el (P := fun _ _ => k ≤ 300) (fun _ _ _ _ _ _ _ _ _ _ _ _ _ _ _ _ _ _ _ _ _ _ _ _ _ _ _ _ _ _ _ _ _ _ _ _ _ _ _ _ _ _ _ _ _ _ _ _ _ _ h => h.1.2) h
theorem mr_loop {post : Int32 → SX → Prop} {YA : (Int32 → SY → Prop) → Prop} (hpost : ∀ r u, YA (fun r' v' => r' = r ∧ mr_IDLE u v') → post r u) : ∀ n k u v, mr_RUN k u v → k ≤ 300 → 301 - k < n → (∀ q : Int32 → SY → Prop, (∃ m, mr_YR q m (nI k) v) → YA q) → mr_XR post n (-1) u := by
  intro n
  induction n with
  | zero => intro k u v _ _ h; omega
  | succ n ih =>
    intro k u v hrun hk hn hY
    revert hY
    refine mr_RUN_el (P := fun u v => (∀ q : Int32 → SY → Prop, (∃ m, mr_YR q m (nI k) v) → YA q) → mr_XR post (n + 1) (-1) u) ?_ hrun
    intro R F hh o y p pr lv rm mk mc rs rn wc op nd ab st rv cp cc cs gs gn du ls ln dp ss sn cl fs fn wt mt pl yen ygs ygn ykd yfs yfn yls yln yss ysn ydu yne h1 hpr hF hY
    obtain ⟨t, rfl⟩ : ∃ t, F = t + 1 := ⟨F - 1, by omega⟩
    have ht : t < 10 := by have := hF.2.2.2.1.1; omega
    refine br_t rfl (mr_step (yen := yen) (yne := yne) hF hpr ht fun r u' hnx => ?_)
    show mr_XR post n r u'
    rcases hnx with ⟨rfl, v', hr, hyi⟩ | ⟨rfl, v1, v', hr, h0, hy1, hy2⟩ | ⟨hr1, v', he, hyi⟩
    · have hk' : k + 1 ≤ 300 := mr_RUN_k hr
      exact ih (k + 1) u' v' hr hk' (by omega) fun q ⟨m, hm⟩ => hY q ⟨m + 1, mr_YR_step (by omega) rfl (hyi _ hm)⟩
    · have hk' : k + 2 ≤ 300 := mr_RUN_k hr
      exact ih (k + 2) u' v' hr hk' (by omega) fun q ⟨m, hm⟩ => hY q ⟨m + 1 + 1, mr_YR_step (by omega) rfl (hy1 _ (mr_YR_step (by omega) h0 (hy2 _ hm)))⟩
    · revert hyi
      refine mr_END_el (P := fun u' v' => (∀ post : SY → Prop, post v' → mr_YI post (nI (t + 1), rs, rn, nI k, mc, nI p, 0, yen, op, nd, ab, st, ygs, ygn, ykd, yfs, yfn, yls, yln, yss, ysn, dp, ydu, yne, pl)) → mr_XR post n r u') ?_ he
      intro k2 fx fy R2 F2 hh2 o2 y2 p2 pr2 lv2 rm2 mk2 mc2 rs2 rn2 wc2 op2 nd2 ab2 st2 rv2 cp2 cc2 cs2 gs2 gn2 du2 ls2 ln2 dp2 ss2 sn2 cl2 fs2 fn2 wt2 mt2 pl2 yen2 ygs2 ygn2 ykd2 yfs2 yfn2 yls2 yln2 yss2 ysn2 ydu2 yne2 hE hyi
      cases n with
      | zero => omega
      | succ n =>
        refine br_f hr1 (hpost _ _ (hY _ ⟨2, mr_YR_step (by omega) rfl (hyi _ ?_)⟩))
        rw [mr_YR, wY_run_44]
        exact br_c (fun _ => ⟨rfl, mr_IDLE_mk hE⟩) fun _ => br_f (by decide) ⟨rfl, mr_IDLE_mk hE⟩
end
section
/-! run, as owed -/
theorem mr_run {u : SX} {v : SY} (I : mr_IDLE u v) (v1 v2 : Int32) : wpX_run (fun r u' => wpY_run (fun r' v' => r' = r ∧ mr_IDLE u' v') v v1 v2) u v1 v2 := by
  refine mr_IDLE_el (P := fun u v => wpX_run (fun r u' => wpY_run (fun r' v' => r' = r ∧ mr_IDLE u' v') v v1 v2) u v1 v2) ?_ I
  intro R hh o y k p pr lv rm mk mc rs rn wc op nd ab st rv cp cc cs gs gn du ls ln dp ss sn cl fs fn wt mt pl yov yen ygs ygn ykd yfs yfn yls yln yss ysn ydu yne hF
  obtain ⟨_, hPG, hPR, hFR, hRT, hHP⟩ := hF
  rw [wpX_run]
  refine mx_prepare hPG hPR fun pr' rv' cp' cc' h1 h2 h3 h4 => ?_
  refine mx_openFrame (F := 0) (by omega) fun ls' ln' q1 q2 => ?_
  refine (mx_setLocal (t := 0) (k := 1) (by omega) (by omega) mr_S1).mpr ?_
  obtain ⟨yls', y1, y2, y3⟩ := my_enter (F := 0) (i := v1) (s := 1) (v := v2) (yrs := 0) (yrn := 0) (ysc := 0) (ymc := 0) (ypc := 0) (yov := 0) (yen := yen) (yop := op) (ynd := nd) (yab := ab) (yst := st) (ygs := ygs) (ygn := ygn) (ykd := ykd) (yfs := yfs) (yfn := yfn) (yls := yls) (yln := yln) (yss := yss) (ysn := ysn) (yhp := dp) (ydu := ydu) (yne := yne) (you := pl) (by omega)
  have hrun : mr_RUN 0 (pr', lv, nI (0 + 1), nI o, nI y, rm, mk, nI 0, 0, 0, 0, nI 0, wc, op, nd, ab, st, rv', cp', cc', cs, gs, gn, upd du 0 v1, upd ls' (4 * 0 + 1) 1, upd ln' (4 * 0 + 1) v2, upd dp 0 0, ss, sn, cl, fs, fn, wt, mt, pl) (nI (0 + 1), 0, 0, nI 0, 0, nI 0, 0, yen, op, nd, ab, st, ygs, ygn, ykd, yfs, yfn, upd yls' (4 * 0 + 1) 1, upd yln (4 * 0 + 1) v2, yss, ysn, upd dp 0 0, upd ydu 0 v1, yne, pl) := by
    refine mr_RUN_mk (by omega) h1 ⟨⟨Nat.le_refl _, by omega⟩, hPG, fun _ => ⟨h2, h3, h4⟩, mr_FR_open hFR (by omega) (fun f hf => by omega), mr_RT_open hRT (fun g hg => by omega) (fun j hj => ?_), hHP⟩
    by_cases w : j = 1
    · subst w
      rw [pk_us, pk_us, pk_us, pk_us]
      exact mr_V_1
    · rw [pk_un (by omega), pk_un (by omega), pk_un (by omega), pk_un (by omega), (q2 j hj).1, (q2 j hj).2, y2 j hj]
      exact mr_V_0
  rw [nI_0] at hrun
  obtain ⟨n, hn⟩ : ∃ n, 301 - 0 < n := ⟨302, by omega⟩
  have key := mr_loop (post := fun r u' => wpY_run (fun r' v' => r' = r ∧ mr_IDLE u' v') (0, rs, rn, nI k, mc, nI p, yov, yen, op, nd, ab, st, ygs, ygn, ykd, yfs, yfn, yls, yln, yss, ysn, dp, ydu, yne, pl) v1 v2) (YA := fun q => wpY_run q (0, rs, rn, nI k, mc, nI p, yov, yen, op, nd, ab, st, ygs, ygn, ykd, yfs, yfn, yls, yln, yss, ysn, dp, ydu, yne, pl) v1 v2) (fun r u h => h) n 0 _ _ hrun (by omega) hn fun q h => y3 _ (by rw [← nI_0]; exact h)
  exact ⟨n, key⟩
end
section
/-! paths: sort and number -/
theorem mr_W {v s : Int32} (hs : s = 0 ∨ s = 1 ∨ s = 2) : ¬ 8 * v.toInt64 + s.toInt64 = -2 ∧ ¬ 8 * v.toInt64 + s.toInt64 = -1 ∧ ((8 * v.toInt64 + s.toInt64) &&& 7).toInt32 = s ∧ ((8 * v.toInt64 + s.toInt64) >>> ((3 : Int32).toInt64 &&& 63)).toInt32 = v := by
  have b1 := v.le_toInt
  have b2 := v.toInt_lt
  have hs' : 0 ≤ s.toInt ∧ s.toInt ≤ 2 := by
    rcases hs with rfl | rfl | rfl <;> decide
  have e8 : (8 : Int64).toInt = 8 := by decide
  have w1 : (8 * v.toInt64).toInt = 8 * v.toInt := by
    rw [Int64.toInt_mul, Int32.toInt_toInt64, e8]
    exact Int.bmod_eq_of_le (by omega) (by omega)
  have w : (8 * v.toInt64 + s.toInt64).toInt = 8 * v.toInt + s.toInt := by
    rw [Int64.toInt_add, Int32.toInt_toInt64, w1]
    exact Int.bmod_eq_of_le (by omega) (by omega)
  generalize hW : 8 * v.toInt64 + s.toInt64 = W at w ⊢
  refine ⟨fun e => ?_, fun e => ?_, ?_, ?_⟩
  · rw [e] at w
    have : (-2 : Int64).toInt = -2 := by decide
    omega
  · rw [e] at w
    have : (-1 : Int64).toInt = -1 := by decide
    omega
  · have n1 : (W &&& 7).toBitVec.toNat = W.toBitVec.toNat % 8 := by
      rw [Int64.toBitVec_and, BitVec.toNat_and]
      exact Nat.and_two_pow_sub_one_eq_mod _ 3
    have n2 : W.toInt = W.toBitVec.toInt := rfl
    have n3 := BitVec.toInt_eq_toNat_cond W.toBitVec
    have lt := W.toBitVec.isLt
    have n4 : (W.toBitVec.toNat % 8 : Nat) = s.toInt.toNat := by
      rw [n3] at n2
      split at n2 <;> omega
    have n5 : (W &&& 7).toInt = s.toInt := by
      have q : (W &&& 7).toInt = (W &&& 7).toBitVec.toInt := rfl
      rw [q, BitVec.toInt_eq_toNat_of_lt (by omega), n1, n4]
      omega
    apply Int32.toInt_inj.mp
    rw [Int64.toInt_toInt32, n5]
    exact Int.bmod_eq_of_le (by omega) (by omega)
  · have sh : (W >>> ((3 : Int32).toInt64 &&& 63)).toInt = W.toInt / 8 := by
      have c : (((3 : Int32).toInt64 &&& 63).toBitVec.smod 64).toNat = 3 := by decide
      show (W.toBitVec.sshiftRight (((3 : Int32).toInt64 &&& 63).toBitVec.smod 64).toNat).toInt = _
      rw [c, BitVec.toInt_sshiftRight, Int.shiftRight_eq_div_pow]
      rfl
    apply Int32.toInt_inj.mp
    rw [Int64.toInt_toInt32, sh, w]
    have : (8 * v.toInt + s.toInt) / 8 = v.toInt := by omega
    rw [this]
    exact Int.bmod_eq_of_le (by omega) (by omega)
def mr_E : Nat → Nat → Prop
  | 0, _ => False
  | m + 1, q => q % 4 = 3 ∨ mr_E m (q / 4)
theorem mr_d3 {q : Nat} (h : q < 2 ^ 31) : nI q &&& 3 = nI (q % 4) := pk_andN (by omega) 2 (by decide)
theorem mr_q4 {q : Nat} (h : q < 2 ^ 31) : nI q >>> ((2 : Int32) &&& 31) = nI (q / 4) := pk_shrN h _ 2 (by decide)
theorem mr_y3 {q : Nat} (h : q < 2 ^ 31) : nI q - nI q / 4 * 4 = nI (q % 4) := pk_rem (d := 4) h (by decide) (by decide)
theorem mr_y4 {q : Nat} (h : q < 2 ^ 31) : nI q / 4 = nI (q / 4) := pk_div (d := 4) h (by decide) (by decide)
theorem mr_is3 {q : Nat} : nI (q % 4) = 3 ↔ q % 4 = 3 := ⟨fun e => mr_inj (b := 3) (by omega) (by omega) e, fun e => by rw [e]; rfl⟩
section
variable {pr lv ou yu rm mk sc mc rs rn pc wc : Int32} {op nd ab st rv cp cc cs gs gn du ls ln dp ss sn cl fs fn wt mt pl : Nat → Int32} {fc : Int32}
theorem mx_hasEnd_4 {post : Int32 → Prop} : ∀ n i q, i ≤ 8 → 8 - i < n → q < 2 ^ 31 → (mr_E (8 - i) q → post 1) → (¬ mr_E (8 - i) q → post 0) → wX_hasEnd_4 post pr lv fc ou yu rm mk sc mc rs rn pc wc op nd ab st rv cp cc cs gs gn du ls ln dp ss sn cl fs fn wt mt pl n (nI q) (nI i) := by
  intro n
  induction n with
  | zero => intro i q _ h; omega
  | succ n ih =>
    intro i q hi hlt hq h1 h0
    rw [wX_hasEnd_4]
    by_cases z : i = 8
    · subst z
      exact br_t (by decide) (h0 id)
    · have e : 8 - i = 8 - (i + 1) + 1 := by omega
      rw [e] at h1 h0
      refine br_f (nI_ge (b := 8) (by omega) (by omega)) ?_
      rw [mr_d3 hq]
      by_cases w : q % 4 = 3
      · exact br_t (mr_is3.mpr w) (h1 (Or.inl w))
      · exact br_f (fun z => w (mr_is3.mp z)) (nm_r (mr_q4 hq) (nm_r (nI_1 _) (ih (i + 1) (q / 4) (by omega) (by omega) (by omega) (fun z => h1 (Or.inr z)) fun z => h0 fun y => y.elim w z)))
theorem mx_hasEnd {post : Int32 → Prop} {q : Nat} (hq : q < 2 ^ 31) (h1 : mr_E 8 q → post 1) (h0 : ¬ mr_E 8 q → post 0) : wpX_hasEnd post (pr, lv, fc, ou, yu, rm, mk, sc, mc, rs, rn, pc, wc, op, nd, ab, st, rv, cp, cc, cs, gs, gn, du, ls, ln, dp, ss, sn, cl, fs, fn, wt, mt, pl) (nI q) :=
  ⟨9, mx_hasEnd_4 9 0 q (by omega) (by omega) hq h1 h0⟩
end
section
variable {yfc yrs yrn ysc ymc ypc yov yen : Int32} {yop ynd yab yst ygs ygn ykd yfs yfn yls yln yss ysn yhp ydu yne you : Nat → Int32}
theorem my_look_33 {post : Int64 → Prop} {x1 x2 : Int32} : ∀ n i q f, i ≤ 8 → 8 - i < n → q < 2 ^ 31 → ((f = 0 ∧ ¬ mr_E (8 - i) q) → post (-1)) → ((¬ f = 0 ∨ mr_E (8 - i) q) → (vp_in x1 4 ∧ (∃ n, wY_look_90 post yfc yrs yrn ysc ymc ypc yov yen yop ynd yab yst ygs ygn ykd yfs yfn yls yln yss ysn yhp ydu yne you n x2 (ygs x1.toNatClampNeg) (ygn x1.toNatClampNeg) 0))) → wY_look_33 post x1 x2 yfc yrs yrn ysc ymc ypc yov yen yop ynd yab yst ygs ygn ykd yfs yfn yls yln yss ysn yhp ydu yne you n (nI q) f (nI i) := by
  intro n
  induction n with
  | zero => intro i q f _ h; omega
  | succ n ih =>
    intro i q f hi hlt hq h0 h1
    rw [wY_look_33]
    by_cases z : i = 8
    · subst z
      refine br_t (by decide) (br_c (fun e => h0 ⟨e, id⟩) fun e => ?_)
      obtain ⟨g1, g2⟩ := h1 (Or.inl e)
      exact ⟨g1, nm_e ⟨g1, nm_e g2⟩⟩
    · have e : 8 - i = 8 - (i + 1) + 1 := by omega
      rw [e] at h1 h0
      refine br_f (nI_ge (b := 8) (by omega) (by omega)) ⟨by decide, ?_⟩
      rw [mr_y3 hq]
      by_cases w : q % 4 = 3
      · exact br_t (mr_is3.mpr w) ⟨by decide, nm_r (mr_y4 hq) (nm_r (nI_1 _) (ih (i + 1) (q / 4) 1 (by omega) (by omega) (by omega) (fun z => absurd z.1 (by decide)) fun _ => h1 (Or.inr (Or.inl w))))⟩
      · refine br_f (fun z => w (mr_is3.mp z)) ⟨by decide, nm_r (mr_y4 hq) (nm_r (nI_1 _) (ih (i + 1) (q / 4) f (by omega) (by omega) (by omega) (fun z => h0 ⟨z.1, fun y => y.elim w z.2⟩) fun z => h1 (z.elim Or.inl fun y => Or.inr (Or.inr y))))⟩
end
section
variable {pr lv ou yu rm mk sc mc rs rn pc wc : Int32} {op nd ab st rv cp cc cs gs gn du ls ln dp ss sn cl fs fn wt mt pl : Nat → Int32} {fc : Int32} {yfc yrs yrn ysc ymc ypc yov yen : Int32} {yop ynd yab yst ygs ygn ykd yfs yfn yls yln yss ysn yhp ydu yne you : Nat → Int32} {R : Nat → Nat → Prop} {o y g : Nat}
/-- the value at a place: -1 for the global -/
def mr_AT (gs gn fs fn : Nat → Int32) (g : Nat) (x s n : Int32) : Prop := (x = -1 ∧ gs g = s ∧ gn g = n) ∨ ∃ p, p < 96 ∧ x = nI p ∧ fs p = s ∧ fn p = n
/-- what number answers for a value -/
def mr_NV (cl : Nat → Int32) (s n z : Int32) : Prop := (s = 2 ∧ ∃ a, a < 32 ∧ n = nI a ∧ z = cl a) ∨ (s = 1 ∧ z = n) ∨ (s = 0 ∧ z = 0)
theorem mr_walk (hg : g < 4) (hHP : mr_HP R o y rm cl fs fn ykd yfs yfn) : ∀ m q x s n s' n', q < 2 ^ 31 → mr_E m q → mr_AT gs gn fs fn g x s n → mr_V R s n s' n' →
    ((∀ (post : Int32 → Prop) N, m < N → post (-2) → wX_walk_5 post (nI g) pr lv fc ou yu rm mk sc mc rs rn pc wc op nd ab st rv cp cc cs gs gn du ls ln dp ss sn cl fs fn wt mt pl N (nI q) x) ∧ (∀ (post : Int64 → Prop) N i, i + m = 8 → m < N → post (-2) → wY_look_90 post yfc yrs yrn ysc ymc ypc yov yen yop ynd yab yst ygs ygn ykd yfs yfn yls yln yss ysn yhp ydu yne you N (nI q) s' n' (nI i))) ∨
    (∃ x1 s1 n1 z, mr_AT gs gn fs fn g x1 s1 n1 ∧ (s1 = 0 ∨ s1 = 1 ∨ s1 = 2) ∧ mr_NV cl s1 n1 z ∧ (∀ (post : Int32 → Prop) N, m < N → post x1 → wX_walk_5 post (nI g) pr lv fc ou yu rm mk sc mc rs rn pc wc op nd ab st rv cp cc cs gs gn du ls ln dp ss sn cl fs fn wt mt pl N (nI q) x) ∧ (∀ (post : Int64 → Prop) N i, i + m = 8 → m < N → post (8 * z.toInt64 + s1.toInt64) → wY_look_90 post yfc yrs yrn ysc ymc ypc yov yen yop ynd yab yst ygs ygn ykd yfs yfn yls yln yss ysn yhp ydu yne you N (nI q) s' n' (nI i))) := by
  have hR := mr_HP_R hHP
  intro m
  induction m with
  | zero => intro q x s n s' n' _ h; exact absurd h id
  | succ m ih =>
    intro q x s n s' n' hq hE hat v
    by_cases w : q % 4 = 3
    · have ew : nI (q % 4) = 3 := mr_is3.mpr w
      have hz : ∃ z, mr_NV cl s n z ∧ ∀ (post : Int64 → Prop) N i, i + (m + 1) = 8 → m + 1 < N → post (8 * z.toInt64 + s.toInt64) → wY_look_90 post yfc yrs yrn ysc ymc ypc yov yen yop ynd yab yst ygs ygn ykd yfs yfn yls yln yss ysn yhp ydu yne you N (nI q) s' n' (nI i) := by
        rcases v.2 with ⟨a1, a2⟩ | ⟨a1, a2⟩ | ⟨a1, a, b, e1, e2, r⟩
        · refine ⟨0, Or.inr (Or.inr ⟨a1, rfl⟩), fun post N i hi hN p => ?_⟩
          obtain ⟨N, rfl⟩ : ∃ N', N = N' + 1 := ⟨N - 1, by omega⟩
          rw [wY_look_90]
          refine br_f (nI_ge (b := 8) (by omega) (by omega)) ⟨by decide, nm_r (mr_y3 hq) (br_t ew ?_)⟩
          rw [v.1, a1] at *
          exact br_f (by decide) (br_f (by decide) p)
        · refine ⟨n, Or.inr (Or.inl ⟨a1, rfl⟩), fun post N i hi hN p => ?_⟩
          obtain ⟨N, rfl⟩ : ∃ N', N = N' + 1 := ⟨N - 1, by omega⟩
          rw [wY_look_90]
          refine br_f (nI_ge (b := 8) (by omega) (by omega)) ⟨by decide, nm_r (mr_y3 hq) (br_t ew ?_)⟩
          rw [v.1, a2]
          rw [a1] at p ⊢
          exact br_f (by decide) (br_t rfl p)
        · obtain ⟨c, hc, e3, e4⟩ := (hHP.2.2.2.2.1 a b r).1
          refine ⟨nI c, Or.inl ⟨a1, a, (hR a b r).1, e1, e3.symm⟩, fun post N i hi hN p => ?_⟩
          obtain ⟨N, rfl⟩ : ∃ N', N = N' + 1 := ⟨N - 1, by omega⟩
          rw [wY_look_90]
          refine br_f (nI_ge (b := 8) (by omega) (by omega)) ⟨by decide, nm_r (mr_y3 hq) (br_t ew ?_)⟩
          have hb := (hR a b r).2
          rw [v.1, e2, mr_and15 b hb, nI_clamp (n := b) (by omega), e4]
          rw [a1] at p ⊢
          exact br_t rfl ⟨vp_in_nI hb (by decide), p⟩
      obtain ⟨z, hz, hY⟩ := hz
      refine Or.inr ⟨x, s, n, z, hat, mr_V_S v, hz, fun post N hN p => ?_, hY⟩
      obtain ⟨N, rfl⟩ : ∃ N', N = N' + 1 := ⟨N - 1, by omega⟩
      rw [wX_walk_5]
      dsimp only
      rw [mr_d3 hq]
      exact br_t ew p
    · have hE' : mr_E m (q / 4) := hE.elim (fun z => absurd z w) id
      have ew : ¬ nI (q % 4) = 3 := fun z => w (mr_is3.mp z)
      have hX : ∀ (post : Int32 → Prop) N, wX_walk_56 post (wX_walk_5 post (nI g) pr lv fc ou yu rm mk sc mc rs rn pc wc op nd ab st rv cp cc cs gs gn du ls ln dp ss sn cl fs fn wt mt pl N) (nI g) (nI q) s n pr lv fc ou yu rm mk sc mc rs rn pc wc op nd ab st rv cp cc cs gs gn du ls ln dp ss sn cl fs fn wt mt pl → wX_walk_5 post (nI g) pr lv fc ou yu rm mk sc mc rs rn pc wc op nd ab st rv cp cc cs gs gn du ls ln dp ss sn cl fs fn wt mt pl (N + 1) (nI q) x := by
        intro post N p
        rw [wX_walk_5]
        dsimp only
        rw [mr_d3 hq]
        refine br_f ew ?_
        rcases hat with ⟨rfl, e1, e2⟩ | ⟨p', hp', rfl, e1, e2⟩
        · rw [nI_clamp (n := g) (by omega), e1]
          refine br_f (by decide) ⟨vp_in_nI hg (by decide), br_f (by decide) ?_⟩
          rw [nI_clamp (n := g) (by omega), e2]
          exact ⟨vp_in_nI hg (by decide), p⟩
        · rw [nI_clamp (n := p') (by omega), e1]
          refine br_t (nI_pos' (by omega)) ⟨vp_in_nI hp' (by decide), br_t (nI_pos' (by omega)) ?_⟩
          rw [nI_clamp (n := p') (by omega), e2]
          exact ⟨vp_in_nI hp' (by decide), p⟩
      by_cases hs : s = 2
      · obtain ⟨a, b, e1, e2, r⟩ := mr_V_obj v hs
        have ha := (hR a b r).1
        have hb := (hR a b r).2
        have d4 : q % 4 < 3 := by omega
        have v' := (hHP.2.2.2.2.1 a b r).2 (q % 4) d4
        have gX : ∀ (post : Int32 → Prop) N, wX_walk_5 post (nI g) pr lv fc ou yu rm mk sc mc rs rn pc wc op nd ab st rv cp cc cs gs gn du ls ln dp ss sn cl fs fn wt mt pl N (nI (q / 4)) (nI (3 * a + q % 4)) → wX_walk_5 post (nI g) pr lv fc ou yu rm mk sc mc rs rn pc wc op nd ab st rv cp cc cs gs gn du ls ln dp ss sn cl fs fn wt mt pl (N + 1) (nI q) x := by
          intro post N p
          refine hX post N (br_t hs ?_)
          rw [mr_d3 hq, e1, mr_i3, nI_add]
          exact nm_e (nm_r (mr_q4 hq) p)
        have gY : ∀ (post : Int64 → Prop) N i, i + (m + 1) = 8 → wY_look_90 post yfc yrs yrn ysc ymc ypc yov yen yop ynd yab yst ygs ygn ykd yfs yfn yls yln yss ysn yhp ydu yne you N (nI (q / 4)) (yfs (3 * b + q % 4)) (yfn (3 * b + q % 4)) (nI (i + 1)) → wY_look_90 post yfc yrs yrn ysc ymc ypc yov yen yop ynd yab yst ygs ygn ykd yfs yfn yls yln yss ysn yhp ydu yne you (N + 1) (nI q) s' n' (nI i) := by
          intro post N i hi p
          rw [wY_look_90]
          refine br_f (nI_ge (b := 8) (by omega) (by omega)) ⟨by decide, nm_r (mr_y3 hq) (br_f ew (br_t (v.1.trans hs) ?_))⟩
          rw [e2, mr_i3, nI_add]
          refine nm_e ⟨vp_in_nI (by omega) (by decide), nm_e ⟨vp_in_nI (by omega) (by decide), nm_e ⟨by decide, nm_r (mr_y4 hq) (nm_r (nI_1 _) ?_)⟩⟩⟩
          rw [nI_clamp (n := 3 * b + q % 4) (by omega)]
          exact p
        rcases ih (q / 4) (nI (3 * a + q % 4)) _ _ _ _ (by omega) hE' (Or.inr ⟨3 * a + q % 4, by omega, rfl, rfl, rfl⟩) v' with ⟨i1, i2⟩ | ⟨x1, s1, n1, z, i0, is, iz, i1, i2⟩
        · refine Or.inl ⟨fun post N hN p => ?_, fun post N i hi hN p => ?_⟩
          · obtain ⟨N, rfl⟩ : ∃ N', N = N' + 1 := ⟨N - 1, by omega⟩
            exact gX post N (i1 post N (by omega) p)
          · obtain ⟨N, rfl⟩ : ∃ N', N = N' + 1 := ⟨N - 1, by omega⟩
            exact gY post N i hi (i2 post N (i + 1) (by omega) (by omega) p)
        · refine Or.inr ⟨x1, s1, n1, z, i0, is, iz, fun post N hN p => ?_, fun post N i hi hN p => ?_⟩
          · obtain ⟨N, rfl⟩ : ∃ N', N = N' + 1 := ⟨N - 1, by omega⟩
            exact gX post N (i1 post N (by omega) p)
          · obtain ⟨N, rfl⟩ : ∃ N', N = N' + 1 := ⟨N - 1, by omega⟩
            exact gY post N i hi (i2 post N (i + 1) (by omega) (by omega) p)
      · refine Or.inl ⟨fun post N hN p => ?_, fun post N i hi hN p => ?_⟩
        · obtain ⟨N, rfl⟩ : ∃ N', N = N' + 1 := ⟨N - 1, by omega⟩
          exact hX post N (br_f hs p)
        · obtain ⟨N, rfl⟩ : ∃ N', N = N' + 1 := ⟨N - 1, by omega⟩
          rw [wY_look_90]
          exact br_f (nI_ge (b := 8) (by omega) (by omega)) ⟨by decide, nm_r (mr_y3 hq) (br_f ew (br_f (fun z => hs (v.1.symm.trans z)) p))⟩
end
end
section
/-! sort and number: three kinds of answers -/
section
variable {pr lv ou yu rm mk sc mc rs rn pc wc : Int32} {op nd ab st rv cp cc cs gs gn du ls ln dp ss sn cl fs fn wt mt pl : Nat → Int32} {fc : Int32} {yfc yrs yrn ysc ymc ypc yov yen : Int32} {yop ynd yab yst ygs ygn ykd yfs yfn yls yln yss ysn yhp ydu yne you : Nat → Int32} {R : Nat → Nat → Prop} {o y : Nat}
theorem mr_look (hHP : mr_HP R o y rm cl fs fn ykd yfs yfn) (hg : ∀ g, g < 4 → mr_V R (gs g) (gn g) (ygs g) (ygn g)) (v1 v2 : Int32) :
    ((∀ post : Int32 → Prop, post (-1) → wpX_sort post (pr, lv, fc, ou, yu, rm, mk, sc, mc, rs, rn, pc, wc, op, nd, ab, st, rv, cp, cc, cs, gs, gn, du, ls, ln, dp, ss, sn, cl, fs, fn, wt, mt, pl) v1 v2) ∧ (∀ post : Int64 → Prop, post (-1) → wpY_look post (yfc, yrs, yrn, ysc, ymc, ypc, yov, yen, yop, ynd, yab, yst, ygs, ygn, ykd, yfs, yfn, yls, yln, yss, ysn, yhp, ydu, yne, you) v1 v2)) ∨
    ((∀ post : Int32 → Prop, post (-2) → wpX_sort post (pr, lv, fc, ou, yu, rm, mk, sc, mc, rs, rn, pc, wc, op, nd, ab, st, rv, cp, cc, cs, gs, gn, du, ls, ln, dp, ss, sn, cl, fs, fn, wt, mt, pl) v1 v2) ∧ (∀ post : Int64 → Prop, post (-2) → wpY_look post (yfc, yrs, yrn, ysc, ymc, ypc, yov, yen, yop, ynd, yab, yst, ygs, ygn, ykd, yfs, yfn, yls, yln, yss, ysn, yhp, ydu, yne, you) v1 v2)) ∨
    (∃ g x s n z, g < 4 ∧ v1 = nI g ∧ mr_AT gs gn fs fn g x s n ∧ (s = 0 ∨ s = 1 ∨ s = 2) ∧ mr_NV cl s n z ∧ (∀ post : Int32 → Prop, post s → wpX_sort post (pr, lv, fc, ou, yu, rm, mk, sc, mc, rs, rn, pc, wc, op, nd, ab, st, rv, cp, cc, cs, gs, gn, du, ls, ln, dp, ss, sn, cl, fs, fn, wt, mt, pl) v1 v2) ∧ (∀ post : Int32 → Prop, post x → wpX_walk post (pr, lv, fc, ou, yu, rm, mk, sc, mc, rs, rn, pc, wc, op, nd, ab, st, rv, cp, cc, cs, gs, gn, du, ls, ln, dp, ss, sn, cl, fs, fn, wt, mt, pl) v1 v2) ∧ (∀ post : Int64 → Prop, post (8 * z.toInt64 + s.toInt64) → wpY_look post (yfc, yrs, yrn, ysc, ymc, ypc, yov, yen, yop, ynd, yab, yst, ygs, ygn, ykd, yfs, yfn, yls, yln, yss, ysn, yhp, ydu, yne, you) v1 v2)) := by
  by_cases c1 : v1 < 0
  · exact Or.inl ⟨fun post p => br_t c1 p, fun post p => by rw [wpY_look, my_in0 (Or.inl c1)]; exact br_t rfl p⟩
  by_cases c2 : 3 < v1
  · exact Or.inl ⟨fun post p => br_f c1 (br_t c2 p), fun post p => by rw [wpY_look, my_in0 (Or.inr c2)]; exact br_t rfl p⟩
  by_cases c3 : v2 < 0
  · exact Or.inl ⟨fun post p => br_f c1 (br_f c2 (br_t c3 p)), fun post p => by rw [wpY_look, my_in1 c1 c2, mr_bf (by decide), my_in0 (Or.inl c3)]; exact br_t rfl p⟩
  by_cases c4 : 65535 < v2
  · exact Or.inl ⟨fun post p => br_f c1 (br_f c2 (br_f c3 (br_t c4 p))), fun post p => by rw [wpY_look, my_in1 c1 c2, mr_bf (by decide), my_in0 (Or.inr c4)]; exact br_t rfl p⟩
  obtain ⟨g, hg4, rfl⟩ := nI_of2 (x := v1) (M := 3) (n := 3) (by decide) c1 (Int32.not_lt.mp c2)
  obtain ⟨q, hq, rfl⟩ := nI_of2 (x := v2) (M := 65535) (n := 65535) (by decide) c3 (Int32.not_lt.mp c4)
  have hgl : g < 4 := by omega
  by_cases hE : mr_E 8 q
  · have xs : ∀ post : Int32 → Prop, (∀ P : Int32 → Prop, P = (fun r_42 => (((r_42 = (-2) → (post (-2))) ∧ (¬ r_42 = (-2) → (((0 ≤ r_42 → (vp_in r_42 96 ∧ (post (fs r_42.toNatClampNeg)))) ∧ (¬ 0 ≤ r_42 → (vp_in (nI g) 4 ∧ (post (gs (nI g).toNatClampNeg)))))))))) → wpX_walk P (pr, lv, fc, ou, yu, rm, mk, sc, mc, rs, rn, pc, wc, op, nd, ab, st, rv, cp, cc, cs, gs, gn, du, ls, ln, dp, ss, sn, cl, fs, fn, wt, mt, pl) (nI g) (nI q)) → wpX_sort post (pr, lv, fc, ou, yu, rm, mk, sc, mc, rs, rn, pc, wc, op, nd, ab, st, rv, cp, cc, cs, gs, gn, du, ls, ln, dp, ss, sn, cl, fs, fn, wt, mt, pl) (nI g) (nI q) := by
      intro post p
      exact br_f c1 (br_f c2 (br_f c3 (br_f c4 (mx_hasEnd (by omega) (fun _ => br_f (by decide) (p _ rfl)) fun z => absurd hE z))))
    have yl : ∀ post : Int64 → Prop, (∃ n, wY_look_90 post yfc yrs yrn ysc ymc ypc yov yen yop ynd yab yst ygs ygn ykd yfs yfn yls yln yss ysn yhp ydu yne you n (nI q) (ygs g) (ygn g) 0) → wpY_look post (yfc, yrs, yrn, ysc, ymc, ypc, yov, yen, yop, ynd, yab, yst, ygs, ygn, ykd, yfs, yfn, yls, yln, yss, ysn, yhp, ydu, yne, you) (nI g) (nI q) := by
      intro post p
      rw [wpY_look, my_in1 c1 c2, mr_bf (by decide), my_in1 c3 c4, mr_bf (by decide)]
      refine ⟨9, my_look_33 9 0 q 0 (by omega) (by omega) (by omega) (fun z => absurd hE z.2) fun _ => ?_⟩
      rw [nI_clamp (n := g) (by omega)]
      exact ⟨vp_in_nI hgl (by decide), p⟩
    rcases mr_walk (pr := pr) (lv := lv) (fc := fc) (ou := ou) (yu := yu) (rm := rm) (mk := mk) (sc := sc) (mc := mc) (rs := rs) (rn := rn) (pc := pc) (wc := wc) (op := op) (nd := nd) (ab := ab) (st := st) (rv := rv) (cp := cp) (cc := cc) (cs := cs) (gs := gs) (gn := gn) (du := du) (ls := ls) (ln := ln) (dp := dp) (ss := ss) (sn := sn) (cl := cl) (fs := fs) (fn := fn) (wt := wt) (mt := mt) (pl := pl) (yfc := yfc) (yrs := yrs) (yrn := yrn) (ysc := ysc) (ymc := ymc) (ypc := ypc) (yov := yov) (yen := yen) (yop := yop) (ynd := ynd) (yab := yab) (yst := yst) (ygs := ygs) (ygn := ygn) (ykd := ykd) (yfs := yfs) (yfn := yfn) (yls := yls) (yln := yln) (yss := yss) (ysn := ysn) (yhp := yhp) (ydu := ydu) (yne := yne) (you := you) hgl hHP 8 q (-1) (gs g) (gn g) (ygs g) (ygn g) (by omega) hE (Or.inl ⟨rfl, rfl, rfl⟩) (hg g hgl) with ⟨i1, i2⟩ | ⟨x, s, n, z, i0, is, iz, i1, i2⟩
    · refine Or.inr (Or.inl ⟨fun post p => xs post fun P eP => ?_, fun post p => yl post ⟨9, i2 post 9 0 (by omega) (by omega) p⟩⟩)
      subst eP
      exact ⟨9, i1 _ 9 (by omega) (br_t rfl p)⟩
    · refine Or.inr (Or.inr ⟨g, x, s, n, z, hgl, rfl, i0, is, iz, fun post p => xs post fun P eP => ?_, fun post p => ⟨9, i1 _ 9 (by omega) p⟩, fun post p => yl post ⟨9, i2 post 9 0 (by omega) (by omega) p⟩⟩)
      subst eP
      refine ⟨9, i1 _ 9 (by omega) ?_⟩
      rcases i0 with ⟨rfl, e1, e2⟩ | ⟨p', hp', rfl, e1, e2⟩
      · refine br_f (by decide) (br_f (by decide) ⟨vp_in_nI hgl (by decide), ?_⟩)
        rw [nI_clamp (n := g) (by omega), e1]
        exact p
      · refine br_f (fun e => ?_) (br_t (nI_pos' (by omega)) ⟨vp_in_nI hp' (by decide), ?_⟩)
        · have := nI_toInt (n := p') (by omega)
          rw [e] at this
          have e2 : (-2 : Int32).toInt = -2 := by decide
          omega
        · rw [nI_clamp (n := p') (by omega), e1]
          exact p
  · refine Or.inl ⟨fun post p => br_f c1 (br_f c2 (br_f c3 (br_f c4 (mx_hasEnd (by omega) (fun z => absurd z hE) fun _ => br_t rfl p)))), fun post p => ?_⟩
    rw [wpY_look, my_in1 c1 c2, mr_bf (by decide), my_in1 c3 c4, mr_bf (by decide)]
    exact ⟨9, my_look_33 9 0 q 0 (by omega) (by omega) (by omega) (fun _ => p) fun z => z.elim (fun w => absurd rfl w) fun w => absurd w hE⟩
theorem mr_sort (hHP : mr_HP R o y rm cl fs fn ykd yfs yfn) (hg : ∀ g, g < 4 → mr_V R (gs g) (gn g) (ygs g) (ygn g)) (v1 v2 : Int32) {Z : Prop} (hZ : Z) : wpX_sort (fun r => wpY_sort (fun r' => r' = r ∧ Z) (yfc, yrs, yrn, ysc, ymc, ypc, yov, yen, yop, ynd, yab, yst, ygs, ygn, ykd, yfs, yfn, yls, yln, yss, ysn, yhp, ydu, yne, you) v1 v2) (pr, lv, fc, ou, yu, rm, mk, sc, mc, rs, rn, pc, wc, op, nd, ab, st, rv, cp, cc, cs, gs, gn, du, ls, ln, dp, ss, sn, cl, fs, fn, wt, mt, pl) v1 v2 := by
  rcases mr_look (pr := pr) (lv := lv) (fc := fc) (ou := ou) (yu := yu) (rm := rm) (mk := mk) (sc := sc) (mc := mc) (rs := rs) (rn := rn) (pc := pc) (wc := wc) (op := op) (nd := nd) (ab := ab) (st := st) (rv := rv) (cp := cp) (cc := cc) (cs := cs) (gs := gs) (gn := gn) (du := du) (ls := ls) (ln := ln) (dp := dp) (ss := ss) (sn := sn) (cl := cl) (fs := fs) (fn := fn) (wt := wt) (mt := mt) (pl := pl) (yfc := yfc) (yrs := yrs) (yrn := yrn) (ysc := ysc) (ymc := ymc) (ypc := ypc) (yov := yov) (yen := yen) (yop := yop) (ynd := ynd) (yab := yab) (yst := yst) (ygs := ygs) (ygn := ygn) (ykd := ykd) (yfs := yfs) (yfn := yfn) (yls := yls) (yln := yln) (yss := yss) (ysn := ysn) (yhp := yhp) (ydu := ydu) (yne := yne) (you := you) hHP hg v1 v2 with ⟨h1, h2⟩ | ⟨h1, h2⟩ | ⟨g, x, s, n, z, hgl, eg, i0, is, iz, h1, h3, h2⟩
  · refine h1 _ ?_
    rw [wpY_sort]
    exact h2 _ (br_f (by decide) (br_t rfl ⟨by decide, hZ⟩))
  · refine h1 _ ?_
    rw [wpY_sort]
    exact h2 _ (br_t rfl ⟨by decide, hZ⟩)
  · have w := mr_W (v := z) is
    refine h1 _ ?_
    rw [wpY_sort]
    exact h2 _ (br_f w.1 (br_f w.2.1 ⟨w.2.2.1, hZ⟩))
theorem mr_number (hHP : mr_HP R o y rm cl fs fn ykd yfs yfn) (hg : ∀ g, g < 4 → mr_V R (gs g) (gn g) (ygs g) (ygn g)) (v1 v2 : Int32) {Z : Prop} (hZ : Z) : wpX_number (fun r => wpY_number (fun r' => r' = r ∧ Z) (yfc, yrs, yrn, ysc, ymc, ypc, yov, yen, yop, ynd, yab, yst, ygs, ygn, ykd, yfs, yfn, yls, yln, yss, ysn, yhp, ydu, yne, you) v1 v2) (pr, lv, fc, ou, yu, rm, mk, sc, mc, rs, rn, pc, wc, op, nd, ab, st, rv, cp, cc, cs, gs, gn, du, ls, ln, dp, ss, sn, cl, fs, fn, wt, mt, pl) v1 v2 := by
  have em1 : (-1 : Int64).toInt32 = -1 := by decide
  have em2 : (-2 : Int64).toInt32 = -2 := by decide
  rw [wpX_number]
  rcases mr_look (pr := pr) (lv := lv) (fc := fc) (ou := ou) (yu := yu) (rm := rm) (mk := mk) (sc := sc) (mc := mc) (rs := rs) (rn := rn) (pc := pc) (wc := wc) (op := op) (nd := nd) (ab := ab) (st := st) (rv := rv) (cp := cp) (cc := cc) (cs := cs) (gs := gs) (gn := gn) (du := du) (ls := ls) (ln := ln) (dp := dp) (ss := ss) (sn := sn) (cl := cl) (fs := fs) (fn := fn) (wt := wt) (mt := mt) (pl := pl) (yfc := yfc) (yrs := yrs) (yrn := yrn) (ysc := ysc) (ymc := ymc) (ypc := ypc) (yov := yov) (yen := yen) (yop := yop) (ynd := ynd) (yab := yab) (yst := yst) (ygs := ygs) (ygn := ygn) (ykd := ykd) (yfs := yfs) (yfn := yfn) (yls := yls) (yln := yln) (yss := yss) (ysn := ysn) (yhp := yhp) (ydu := ydu) (yne := yne) (you := you) hHP hg v1 v2 with ⟨h1, h2⟩ | ⟨h1, h2⟩ | ⟨g, x, s, n, z, hgl, eg, i0, is, iz, h1, h3, h2⟩
  · refine h1 _ (br_f (by decide) ?_)
    rw [wpY_number, wpY_sort]
    refine h2 _ (br_f (by decide) (br_t rfl ?_))
    rw [em1]
    exact h2 _ (br_t (by decide) ⟨rfl, hZ⟩)
  · refine h1 _ (br_f (by decide) ?_)
    rw [wpY_number, wpY_sort]
    refine h2 _ (br_t rfl ?_)
    rw [em2]
    exact h2 _ (br_t (by decide) ⟨rfl, hZ⟩)
  · have w := mr_W (v := z) is
    have hY : ∀ r : Int32, ((s ≤ 0 ∧ r = 0) ∨ (¬ s ≤ 0 ∧ r = z)) → wpY_number (fun r' => r' = r ∧ Z) (yfc, yrs, yrn, ysc, ymc, ypc, yov, yen, yop, ynd, yab, yst, ygs, ygn, ykd, yfs, yfn, yls, yln, yss, ysn, yhp, ydu, yne, you) v1 v2 := by
      intro r hr
      rw [wpY_number, wpY_sort]
      refine h2 _ (br_f w.1 (br_f w.2.1 (h2 _ ?_)))
      rw [w.2.2.1, w.2.2.2]
      rcases hr with ⟨a1, a2⟩ | ⟨a1, a2⟩
      · exact br_t a1 ⟨a2.symm, hZ⟩
      · exact br_f a1 ⟨a2.symm, hZ⟩
    refine h1 _ ?_
    by_cases hs : (0 : Int32) < s
    · have hs' : ¬ s ≤ 0 := Int32.not_le.mpr hs
      have fin : wX_number_42 (fun r => wpY_number (fun r' => r' = r ∧ Z) (yfc, yrs, yrn, ysc, ymc, ypc, yov, yen, yop, ynd, yab, yst, ygs, ygn, ykd, yfs, yfn, yls, yln, yss, ysn, yhp, ydu, yne, you) v1 v2) s n pr lv fc ou yu rm mk sc mc rs rn pc wc op nd ab st rv cp cc cs gs gn du ls ln dp ss sn cl fs fn wt mt pl := by
        rw [wX_number_42]
        rcases iz with ⟨a1, a, ha, a2, a3⟩ | ⟨a1, a2⟩ | ⟨a1, a2⟩
        · rw [a2, nI_clamp (n := a) (by omega), ← a3]
          exact br_t a1 ⟨vp_in_nI ha (by decide), hY _ (Or.inr ⟨hs', rfl⟩)⟩
        · rw [← a2]
          exact br_f (by rw [a1]; decide) (hY _ (Or.inr ⟨hs', rfl⟩))
        · rw [a1] at hs
          exact absurd hs (by decide)
      refine br_t hs (h3 _ ?_)
      rcases i0 with ⟨rfl, e1, e2⟩ | ⟨p', hp', rfl, e1, e2⟩
      · subst eg
        refine br_f (by decide) ⟨vp_in_nI hgl (by decide), ?_⟩
        rw [nI_clamp (n := g) (by omega), e2]
        exact fin
      · refine br_t (nI_pos' (by omega)) ⟨vp_in_nI hp' (by decide), ?_⟩
        rw [nI_clamp (n := p') (by omega), e2]
        exact fin
    · exact br_f hs (hY 0 (Or.inl ⟨Int32.not_lt.mp hs, rfl⟩))
end
end
section
/-! code, above, method, init -/
def mr_4 (o : Nat) : Prop := o = 3 ∨ o = 4 ∨ o = 15 ∨ o = 18 ∨ o = 19 ∨ o = 21 ∨ o = 22
section
variable {pr lv fc ou yu rm mk sc mc rs rn pc wc : Int32} {op nd ab st rv cp cc cs gs gn du ls ln dp ss sn cl fs fn wt mt pl : Nat → Int32} {post : Int32 → SX → Prop} {i o : Nat} {n : Int32}
theorem mx_118 (hi : i < 60) (ho : o ≤ 23) : wX_code_118 post (nI i) (nI o) n pr lv fc ou yu rm mk sc mc rs rn pc wc op nd ab st rv cp cc cs gs gn du ls ln dp ss sn cl fs fn wt mt pl ↔ post 1 (0, lv, fc, ou, yu, rm, mk, sc, mc, rs, rn, pc, wc, upd op i (nI o), upd nd i n, ab, st, rv, cp, cc, cs, gs, gn, du, ls, ln, dp, ss, sn, cl, fs, fn, wt, mt, pl) := by
  have c1 : (nI i).toNatClampNeg = i := nI_clamp (by omega)
  have i1 : vp_in (nI i) 60 := vp_in_nI hi (by decide)
  simp only [wX_code_118, c1, i1, true_and, forall_eq, mr_nb2 (show o < 128 by omega)]
theorem mx_codeA (hi : i < 60) (ho : mr_4 o) (h1 : ¬ n < 0) (h2 : ¬ 3 < n) : wpX_code post (pr, lv, fc, ou, yu, rm, mk, sc, mc, rs, rn, pc, wc, op, nd, ab, st, rv, cp, cc, cs, gs, gn, du, ls, ln, dp, ss, sn, cl, fs, fn, wt, mt, pl) (nI i) (nI o) n ↔ post 1 (0, lv, fc, ou, yu, rm, mk, sc, mc, rs, rn, pc, wc, upd op i (nI o), upd nd i n, ab, st, rv, cp, cc, cs, gs, gn, du, ls, ln, dp, ss, sn, cl, fs, fn, wt, mt, pl) := by
  have g1 : ¬ nI i < 0 := nI_pos (by omega)
  have g2 : ¬ 59 < nI i := nI_nlt (a := 59) (by omega) (by decide)
  rcases ho with rfl | rfl | rfl | rfl | rfl | rfl | rfl <;> (rw [wpX_code, mr_bf g1, mr_bf g2]; repeat (first | rw [mr_bt (by decide)] | rw [mr_bf (by decide)] | rw [wX_code_62] | rw [wX_code_67] | rw [wX_code_86] | rw [mr_bf h1] | rw [mr_bf h2] | rw [wX_code_102])) <;> exact mx_118 hi (by omega)
theorem mx_codeA0 (hi : i < 60) (ho : mr_4 o) (h : n < 0 ∨ 3 < n) : wpX_code post (pr, lv, fc, ou, yu, rm, mk, sc, mc, rs, rn, pc, wc, op, nd, ab, st, rv, cp, cc, cs, gs, gn, du, ls, ln, dp, ss, sn, cl, fs, fn, wt, mt, pl) (nI i) (nI o) n ↔ post 0 (pr, lv, fc, ou, yu, rm, mk, sc, mc, rs, rn, pc, wc, op, nd, ab, st, rv, cp, cc, cs, gs, gn, du, ls, ln, dp, ss, sn, cl, fs, fn, wt, mt, pl) := by
  have g1 : ¬ nI i < 0 := nI_pos (by omega)
  have g2 : ¬ 59 < nI i := nI_nlt (a := 59) (by omega) (by decide)
  by_cases h1 : n < 0
  · rcases ho with rfl | rfl | rfl | rfl | rfl | rfl | rfl <;> (rw [wpX_code, mr_bf g1, mr_bf g2]; repeat (first | rw [mr_bt (by decide)] | rw [mr_bf (by decide)] | rw [wX_code_62] | rw [wX_code_67] | rw [wX_code_86] | rw [mr_bt h1]))
  · have h2 : 3 < n := h.elim (fun z => absurd z h1) id
    rcases ho with rfl | rfl | rfl | rfl | rfl | rfl | rfl <;> (rw [wpX_code, mr_bf g1, mr_bf g2]; repeat (first | rw [mr_bt (by decide)] | rw [mr_bf (by decide)] | rw [wX_code_62] | rw [wX_code_67] | rw [wX_code_86] | rw [mr_bf h1] | rw [mr_bt h2]))
theorem mx_codeB (hi : i < 60) (ho : o = 16 ∨ o = 17) (h1 : ¬ n < 0) (h2 : n ≤ 2) : wpX_code post (pr, lv, fc, ou, yu, rm, mk, sc, mc, rs, rn, pc, wc, op, nd, ab, st, rv, cp, cc, cs, gs, gn, du, ls, ln, dp, ss, sn, cl, fs, fn, wt, mt, pl) (nI i) (nI o) n ↔ post 1 (0, lv, fc, ou, yu, rm, mk, sc, mc, rs, rn, pc, wc, upd op i (nI o), upd nd i n, ab, st, rv, cp, cc, cs, gs, gn, du, ls, ln, dp, ss, sn, cl, fs, fn, wt, mt, pl) := by
  have g1 : ¬ nI i < 0 := nI_pos (by omega)
  have g2 : ¬ 59 < nI i := nI_nlt (a := 59) (by omega) (by decide)
  rcases ho with rfl | rfl <;> (rw [wpX_code, mr_bf g1, mr_bf g2]; repeat (first | rw [mr_bt (by decide)] | rw [mr_bf (by decide)] | rw [wX_code_67] | rw [wX_code_81] | rw [wX_code_86] | rw [wX_code_102] | rw [mr_bf h1] | rw [mr_bt h2])) <;> exact mx_118 hi (by omega)
theorem mx_codeB0 (hi : i < 60) (ho : o = 16 ∨ o = 17) (h : n < 0 ∨ ¬ n ≤ 2) : wpX_code post (pr, lv, fc, ou, yu, rm, mk, sc, mc, rs, rn, pc, wc, op, nd, ab, st, rv, cp, cc, cs, gs, gn, du, ls, ln, dp, ss, sn, cl, fs, fn, wt, mt, pl) (nI i) (nI o) n ↔ post 0 (pr, lv, fc, ou, yu, rm, mk, sc, mc, rs, rn, pc, wc, op, nd, ab, st, rv, cp, cc, cs, gs, gn, du, ls, ln, dp, ss, sn, cl, fs, fn, wt, mt, pl) := by
  have g1 : ¬ nI i < 0 := nI_pos (by omega)
  have g2 : ¬ 59 < nI i := nI_nlt (a := 59) (by omega) (by decide)
  by_cases h1 : n < 0
  · rcases ho with rfl | rfl <;> (rw [wpX_code, mr_bf g1, mr_bf g2]; repeat (first | rw [mr_bt (by decide)] | rw [mr_bf (by decide)] | rw [wX_code_67] | rw [wX_code_81] | rw [wX_code_86] | rw [wX_code_102] | rw [mr_bt h1]))
  · have h2 : ¬ n ≤ 2 := h.elim (fun z => absurd z h1) id
    rcases ho with rfl | rfl <;> (rw [wpX_code, mr_bf g1, mr_bf g2]; repeat (first | rw [mr_bt (by decide)] | rw [mr_bf (by decide)] | rw [wX_code_67] | rw [wX_code_81] | rw [wX_code_86] | rw [wX_code_102] | rw [mr_bf h1] | rw [mr_bf h2]))
theorem mx_codeC (hi : i < 60) (ho : o ≤ 23) (h4 : ¬ mr_4 o) (h3 : ¬ (o = 16 ∨ o = 17)) : wpX_code post (pr, lv, fc, ou, yu, rm, mk, sc, mc, rs, rn, pc, wc, op, nd, ab, st, rv, cp, cc, cs, gs, gn, du, ls, ln, dp, ss, sn, cl, fs, fn, wt, mt, pl) (nI i) (nI o) n ↔ post 1 (0, lv, fc, ou, yu, rm, mk, sc, mc, rs, rn, pc, wc, upd op i (nI o), upd nd i n, ab, st, rv, cp, cc, cs, gs, gn, du, ls, ln, dp, ss, sn, cl, fs, fn, wt, mt, pl) := by
  have g1 : ¬ nI i < 0 := nI_pos (by omega)
  have g2 : ¬ 59 < nI i := nI_nlt (a := 59) (by omega) (by decide)
  unfold mr_4 at h4
  have : o = 0 ∨ o = 1 ∨ o = 2 ∨ o = 5 ∨ o = 6 ∨ o = 7 ∨ o = 8 ∨ o = 9 ∨ o = 10 ∨ o = 11 ∨ o = 12 ∨ o = 13 ∨ o = 14 ∨ o = 20 ∨ o = 23 := by omega
  rcases this with rfl | rfl | rfl | rfl | rfl | rfl | rfl | rfl | rfl | rfl | rfl | rfl | rfl | rfl | rfl <;> (rw [wpX_code, mr_bf g1, mr_bf g2]; repeat (first | rw [mr_bt (by decide)] | rw [mr_bf (by decide)] | rw [wX_code_67] | rw [wX_code_86] | rw [wX_code_102])) <;> exact mx_118 hi (by omega)
end
section
variable {yrs yrn ysc ymc ypc yov yen : Int32} {yop ynd yab yst ygs ygn ykd yfs yfn yls yln yss ysn yhp ydu yne you : Nat → Int32} {fc : Int32} {post : Int32 → SY → Prop} {i o : Nat} {n : Int32}
theorem my_110 (hi : i < 60) : wY_code_110 post (nI i) (nI o) n fc yrs yrn ysc ymc ypc yov yen yop ynd yab yst ygs ygn ykd yfs yfn yls yln yss ysn yhp ydu yne you ↔ post 1 (fc, yrs, yrn, ysc, ymc, ypc, yov, yen, upd yop i (nI o), upd ynd i n, yab, yst, ygs, ygn, ykd, yfs, yfn, yls, yln, yss, ysn, yhp, ydu, yne, you) := by
  have c1 : (nI i).toNatClampNeg = i := nI_clamp (by omega)
  have i1 : vp_in (nI i) 60 := vp_in_nI hi (by decide)
  simp only [wY_code_110, c1, i1, true_and, forall_eq]
theorem my_codeA (hi : i < 60) (ho : mr_4 o) (h1 : ¬ n < 0) (h2 : ¬ 3 < n) : wpY_code post (fc, yrs, yrn, ysc, ymc, ypc, yov, yen, yop, ynd, yab, yst, ygs, ygn, ykd, yfs, yfn, yls, yln, yss, ysn, yhp, ydu, yne, you) (nI i) (nI o) n ↔ post 1 (fc, yrs, yrn, ysc, ymc, ypc, yov, yen, upd yop i (nI o), upd ynd i n, yab, yst, ygs, ygn, ykd, yfs, yfn, yls, yln, yss, ysn, yhp, ydu, yne, you) := by
  have g1 : ¬ nI i < 0 := nI_pos (by omega)
  have g2 : ¬ 59 < nI i := nI_nlt (a := 59) (by omega) (by decide)
  rcases ho with rfl | rfl | rfl | rfl | rfl | rfl | rfl <;> (rw [wpY_code, my_in1 g1 g2, mr_bf (by decide), my_in1 (by decide) (by decide)]; repeat (first | rw [mr_bt (by decide)] | rw [mr_bf (by decide)] | rw [wY_code_64] | rw [wY_code_69] | rw [my_in1 h1 h2] | rw [wY_code_86])) <;> exact my_110 hi
theorem my_codeA0 (hi : i < 60) (ho : mr_4 o) (h : n < 0 ∨ 3 < n) : wpY_code post (fc, yrs, yrn, ysc, ymc, ypc, yov, yen, yop, ynd, yab, yst, ygs, ygn, ykd, yfs, yfn, yls, yln, yss, ysn, yhp, ydu, yne, you) (nI i) (nI o) n ↔ post 0 (fc, yrs, yrn, ysc, ymc, ypc, yov, yen, yop, ynd, yab, yst, ygs, ygn, ykd, yfs, yfn, yls, yln, yss, ysn, yhp, ydu, yne, you) := by
  have g1 : ¬ nI i < 0 := nI_pos (by omega)
  have g2 : ¬ 59 < nI i := nI_nlt (a := 59) (by omega) (by decide)
  rcases ho with rfl | rfl | rfl | rfl | rfl | rfl | rfl <;> (rw [wpY_code, my_in1 g1 g2, mr_bf (by decide), my_in1 (by decide) (by decide)]; repeat (first | rw [mr_bt (by decide)] | rw [mr_bf (by decide)] | rw [wY_code_64] | rw [wY_code_69] | rw [my_in0 h]))
theorem my_codeB (hi : i < 60) (ho : o = 16 ∨ o = 17) (h1 : ¬ n < 0) (h2 : ¬ 2 < n) : wpY_code post (fc, yrs, yrn, ysc, ymc, ypc, yov, yen, yop, ynd, yab, yst, ygs, ygn, ykd, yfs, yfn, yls, yln, yss, ysn, yhp, ydu, yne, you) (nI i) (nI o) n ↔ post 1 (fc, yrs, yrn, ysc, ymc, ypc, yov, yen, upd yop i (nI o), upd ynd i n, yab, yst, ygs, ygn, ykd, yfs, yfn, yls, yln, yss, ysn, yhp, ydu, yne, you) := by
  have g1 : ¬ nI i < 0 := nI_pos (by omega)
  have g2 : ¬ 59 < nI i := nI_nlt (a := 59) (by omega) (by decide)
  rcases ho with rfl | rfl <;> (rw [wpY_code, my_in1 g1 g2, mr_bf (by decide), my_in1 (by decide) (by decide)]; repeat (first | rw [mr_bt (by decide)] | rw [mr_bf (by decide)] | rw [wY_code_69] | rw [wY_code_86] | rw [wY_code_98] | rw [my_in1 h1 h2])) <;> exact my_110 hi
theorem my_codeB0 (hi : i < 60) (ho : o = 16 ∨ o = 17) (h : n < 0 ∨ 2 < n) : wpY_code post (fc, yrs, yrn, ysc, ymc, ypc, yov, yen, yop, ynd, yab, yst, ygs, ygn, ykd, yfs, yfn, yls, yln, yss, ysn, yhp, ydu, yne, you) (nI i) (nI o) n ↔ post 0 (fc, yrs, yrn, ysc, ymc, ypc, yov, yen, yop, ynd, yab, yst, ygs, ygn, ykd, yfs, yfn, yls, yln, yss, ysn, yhp, ydu, yne, you) := by
  have g1 : ¬ nI i < 0 := nI_pos (by omega)
  have g2 : ¬ 59 < nI i := nI_nlt (a := 59) (by omega) (by decide)
  rcases ho with rfl | rfl <;> (rw [wpY_code, my_in1 g1 g2, mr_bf (by decide), my_in1 (by decide) (by decide)]; repeat (first | rw [mr_bt (by decide)] | rw [mr_bf (by decide)] | rw [wY_code_69] | rw [wY_code_86] | rw [wY_code_98] | rw [my_in0 h]))
theorem my_codeC (hi : i < 60) (ho : o ≤ 23) (h4 : ¬ mr_4 o) (h3 : ¬ (o = 16 ∨ o = 17)) : wpY_code post (fc, yrs, yrn, ysc, ymc, ypc, yov, yen, yop, ynd, yab, yst, ygs, ygn, ykd, yfs, yfn, yls, yln, yss, ysn, yhp, ydu, yne, you) (nI i) (nI o) n ↔ post 1 (fc, yrs, yrn, ysc, ymc, ypc, yov, yen, upd yop i (nI o), upd ynd i n, yab, yst, ygs, ygn, ykd, yfs, yfn, yls, yln, yss, ysn, yhp, ydu, yne, you) := by
  have g1 : ¬ nI i < 0 := nI_pos (by omega)
  have g2 : ¬ 59 < nI i := nI_nlt (a := 59) (by omega) (by decide)
  unfold mr_4 at h4
  have : o = 0 ∨ o = 1 ∨ o = 2 ∨ o = 5 ∨ o = 6 ∨ o = 7 ∨ o = 8 ∨ o = 9 ∨ o = 10 ∨ o = 11 ∨ o = 12 ∨ o = 13 ∨ o = 14 ∨ o = 20 ∨ o = 23 := by omega
  rcases this with rfl | rfl | rfl | rfl | rfl | rfl | rfl | rfl | rfl | rfl | rfl | rfl | rfl | rfl | rfl <;> (rw [wpY_code, my_in1 g1 g2, mr_bf (by decide), my_in1 (by decide) (by decide)]; repeat (first | rw [mr_bt (by decide)] | rw [mr_bf (by decide)] | rw [wY_code_69] | rw [wY_code_86])) <;> exact my_110 hi
end
theorem mr_PG_code {op nd ab st : Nat → Int32} {i o : Nat} {n : Int32} (h : mr_PG op nd ab st) (ho : o ≤ 23) (h4 : mr_4 o → ∃ k, k < 4 ∧ n = nI k) (h3 : (o = 16 ∨ o = 17) → ∃ k, k < 3 ∧ n = nI k) : mr_PG (upd op i (nI o)) (upd nd i n) ab st := by
  refine ⟨fun j hj => ?_, h.2⟩
  by_cases z : j = i
  · subst z
    rw [pk_us, pk_us]
    exact ⟨o, ho, rfl, h4, h3⟩
  · rw [pk_un z, pk_un z]; exact h.1 j hj
theorem mr_PG_ab {op nd ab st : Nat → Int32} {c : Nat} {a : Int32} (h : mr_PG op nd ab st) (ha : a = -1 ∨ ∃ b, b < c ∧ a = nI b) : mr_PG op nd (upd ab c a) st := by
  refine ⟨h.1, fun j hj => ?_, h.2.2⟩
  by_cases z : j = c
  · subst z; rw [pk_us]; exact ha
  · rw [pk_un z]; exact h.2.1 j hj
theorem mr_PG_st {op nd ab st : Nat → Int32} {c : Nat} {a : Int32} (h : mr_PG op nd ab st) (ha : a = -1 ∨ ∃ b, b < 60 ∧ a = nI b) : mr_PG op nd ab (upd st c a) := by
  refine ⟨h.1, h.2.1, fun j hj => ?_⟩
  by_cases z : j = c
  · subst z; rw [pk_us]; exact ha
  · rw [pk_un z]; exact h.2.2 j hj
/-- an int from -1 on -/
theorem mr_from {x : Int32} (h : ¬ x < -1) : x = -1 ∨ ∃ b, b < 2 ^ 31 ∧ x = nI b := by
  by_cases z : x < 0
  · left
    apply Int32.toInt_inj.mp
    rw [Int32.lt_iff_toInt_lt] at h z
    have e1 : (-1 : Int32).toInt = -1 := by decide
    have e0 : (0 : Int32).toInt = 0 := by decide
    omega
  · exact Or.inr (nI_of z)
/-! init -/
def mr_ini (m : Nat) : Nat → Int32 := fun j => if j < m then -1 else 0
theorem mr_ini_s (m : Nat) : upd (mr_ini m) m (-1) = mr_ini (m + 1) := by
  funext j
  unfold mr_ini
  by_cases z : j = m
  · subst z; rw [pk_us, if_pos (by omega)]
  · rw [pk_un z]
    by_cases w : j < m
    · rw [if_pos w, if_pos (by omega)]
    · rw [if_neg w, if_neg (by omega)]
theorem mr_ini_0 : mr_ini 0 = fun _ => 0 := by
  funext j
  exact if_neg (by omega)
theorem mr_ini_lt {m j : Nat} (h : j < m) : mr_ini m j = -1 := if_pos h
section
variable {pr lv fc ou yu rm mk sc mc rs rn pc wc : Int32} {op nd rv cp cc cs gs gn du ls ln dp ss sn cl fs fn wt mt pl : Nat → Int32}
theorem mx_init_204 {ab : Nat → Int32} {post : SX → Prop} (k : post (pr, lv, fc, ou, yu, rm, mk, sc, mc, rs, rn, pc, wc, op, nd, ab, mr_ini 16, rv, cp, cc, cs, gs, gn, du, ls, ln, dp, ss, sn, cl, fs, fn, wt, mt, pl)) : ∀ n i, i ≤ 16 → 16 - i < n → wX_init_204 post pr lv fc ou yu rm mk sc mc rs rn pc wc n (nI i) op nd ab (mr_ini i) rv cp cc cs gs gn du ls ln dp ss sn cl fs fn wt mt pl := by
  intro n
  induction n with
  | zero => intro i _ h; omega
  | succ n ih =>
    intro i hi hlt
    rw [wX_init_204]
    by_cases z : i = 16
    · subst z
      exact br_t (by decide) k
    · refine br_f (nI_ge (b := 16) (by omega) (by omega)) ⟨vp_in_nI (by omega) (by decide), nm_e (nm_r (nI_1 _) ?_)⟩
      rw [nI_clamp (n := i) (by omega), mr_nbm.1, mr_ini_s]
      exact ih (i + 1) (by omega) (by omega)
theorem mx_init_184 {post : SX → Prop} (k : post (pr, lv, fc, ou, yu, rm, mk, sc, mc, rs, rn, pc, wc, op, nd, mr_ini 4, mr_ini 16, rv, cp, cc, cs, gs, gn, du, ls, ln, dp, ss, sn, cl, fs, fn, wt, mt, pl)) : ∀ n i, i ≤ 4 → 4 - i < n → wX_init_184 post pr lv fc ou yu rm mk sc mc rs rn pc wc n (nI i) op nd (mr_ini i) (mr_ini 0) rv cp cc cs gs gn du ls ln dp ss sn cl fs fn wt mt pl := by
  intro n
  induction n with
  | zero => intro i _ h; omega
  | succ n ih =>
    intro i hi hlt
    rw [wX_init_184]
    by_cases z : i = 4
    · subst z
      exact br_t (by decide) ⟨17, mx_init_204 k 17 0 (by omega) (by omega)⟩
    · refine br_f (nI_ge (b := 4) (by omega) (by omega)) ⟨vp_in_nI (by omega) (by decide), nm_e (nm_r (nI_1 _) ?_)⟩
      rw [nI_clamp (n := i) (by omega), mr_nbm.1, mr_ini_s]
      exact ih (i + 1) (by omega) (by omega)
end
section
variable {yfc yrs yrn ysc ymc ypc yov yen : Int32} {yop ynd ygs ygn ykd yfs yfn yls yln yss ysn yhp ydu yne you : Nat → Int32}
theorem my_init_189 {yab : Nat → Int32} {post : SY → Prop} (k : post (yfc, yrs, yrn, ysc, ymc, ypc, yov, yen, yop, ynd, yab, mr_ini 16, ygs, ygn, ykd, yfs, yfn, yls, yln, yss, ysn, yhp, ydu, yne, you)) : ∀ n i, i ≤ 16 → 16 - i < n → wY_init_189 post yfc yrs yrn ysc ymc ypc yov yen n (nI i) yop ynd yab (mr_ini i) ygs ygn ykd yfs yfn yls yln yss ysn yhp ydu yne you := by
  intro n
  induction n with
  | zero => intro i _ h; omega
  | succ n ih =>
    intro i hi hlt
    rw [wY_init_189]
    by_cases z : i = 16
    · subst z
      exact br_t (by decide) k
    · refine br_f (nI_ge (b := 16) (by omega) (by omega)) ⟨vp_in_nI (by omega) (by decide), nm_e (nm_r (nI_1 _) ?_)⟩
      rw [nI_clamp (n := i) (by omega), mr_ini_s]
      exact ih (i + 1) (by omega) (by omega)
theorem my_init_169 {post : SY → Prop} (k : post (yfc, yrs, yrn, ysc, ymc, ypc, yov, yen, yop, ynd, mr_ini 4, mr_ini 16, ygs, ygn, ykd, yfs, yfn, yls, yln, yss, ysn, yhp, ydu, yne, you)) : ∀ n i, i ≤ 4 → 4 - i < n → wY_init_169 post yfc yrs yrn ysc ymc ypc yov yen n (nI i) yop ynd (mr_ini i) (mr_ini 0) ygs ygn ykd yfs yfn yls yln yss ysn yhp ydu yne you := by
  intro n
  induction n with
  | zero => intro i _ h; omega
  | succ n ih =>
    intro i hi hlt
    rw [wY_init_169]
    by_cases z : i = 4
    · subst z
      exact br_t (by decide) ⟨17, my_init_189 k 17 0 (by omega) (by omega)⟩
    · refine br_f (nI_ge (b := 4) (by omega) (by omega)) ⟨vp_in_nI (by omega) (by decide), nm_e (nm_r (nI_1 _) ?_)⟩
      rw [nI_clamp (n := i) (by omega), mr_ini_s]
      exact ih (i + 1) (by omega) (by omega)
end
end
section
/-! the owed statements over mr_IDLE -/
theorem mr_lt1 {c : Nat} (hc : c < 4) (x : Int32) : nI c - 1 < x ↔ ¬ x < nI c := by
  have e : (nI c - 1).toInt = (c : Int) - 1 := by
    have : c = 0 ∨ c = 1 ∨ c = 2 ∨ c = 3 := by omega
    rcases this with rfl | rfl | rfl | rfl <;> decide
  rw [Int32.lt_iff_toInt_lt, Int32.lt_iff_toInt_lt, e, nI_toInt (by omega)]
  omega
theorem mr_vc_code {u : SX} {v : SY} (I : mr_IDLE u v) (v1 : Int32) (v2 : Int32) (v3 : Int32) : wpX_code (fun r u' => wpY_code (fun r' v' => r' = r ∧ mr_IDLE u' v') v v1 v2 v3) u v1 v2 v3 := by
  refine mr_IDLE_el (P := fun u v => wpX_code (fun r u' => wpY_code (fun r' v' => r' = r ∧ mr_IDLE u' v') v v1 v2 v3) u v1 v2 v3) ?_ I
  intro R hh o y k p pr lv rm mk mc rs rn wc op nd ab st rv cp cc cs gs gn du ls ln dp ss sn cl fs fn wt mt pl yov yen ygs ygn ykd yfs yfn yls yln yss ysn ydu yne hF
  have I0 : mr_IDLE (pr, lv, 0, nI o, nI y, rm, mk, nI k, mc, rs, rn, nI p, wc, op, nd, ab, st, rv, cp, cc, cs, gs, gn, du, ls, ln, dp, ss, sn, cl, fs, fn, wt, mt, pl) (0, rs, rn, nI k, mc, nI p, yov, yen, op, nd, ab, st, ygs, ygn, ykd, yfs, yfn, yls, yln, yss, ysn, dp, ydu, yne, pl) := mr_IDLE_mk hF
  obtain ⟨hkp, hPG, hPR, hFR, hRT, hHP⟩ := hF
  by_cases c1 : v1 < 0
  · refine br_t c1 ?_
    try dsimp only
    rw [wpY_code, my_in0 (Or.inl c1)]
    exact br_t rfl ⟨rfl, I0⟩
  by_cases c2 : 59 < v1
  · refine br_f c1 (br_t c2 ?_)
    try dsimp only
    rw [wpY_code, my_in0 (Or.inr c2)]
    exact br_t rfl ⟨rfl, I0⟩
  by_cases c3 : v2 < 0
  · refine br_f c1 (br_f c2 (br_t c3 ?_))
    try dsimp only
    rw [wpY_code, my_in1 c1 c2, mr_bf (by decide), my_in0 (Or.inl c3)]
    exact br_t rfl ⟨rfl, I0⟩
  by_cases c4 : v2 ≤ 23
  · obtain ⟨i, hi, rfl⟩ := nI_of2 (x := v1) (M := 59) (n := 59) (by decide) c1 (Int32.not_lt.mp c2)
    obtain ⟨q, ho, rfl⟩ := nI_of2 (x := v2) (M := 23) (n := 23) (by decide) c3 c4
    have hi : i < 60 := by omega
    by_cases h4 : mr_4 q
    · have n3 : ¬ (q = 16 ∨ q = 17) := by unfold mr_4 at h4; omega
      by_cases h : v3 < 0 ∨ 3 < v3
      · exact (mx_codeA0 hi h4 h).mpr ((my_codeA0 hi h4 h).mpr ⟨rfl, I0⟩)
      · have h1 : ¬ v3 < 0 := fun z => h (Or.inl z)
        have h2 : ¬ 3 < v3 := fun z => h (Or.inr z)
        obtain ⟨j, hj, ej⟩ := nI_of2 (x := v3) (M := 3) (n := 3) (by decide) h1 (Int32.not_lt.mp h2)
        exact (mx_codeA hi h4 h1 h2).mpr ((my_codeA hi h4 h1 h2).mpr ⟨rfl, mr_IDLE_mk ⟨hkp, mr_PG_code hPG ho (fun _ => ⟨j, by omega, ej⟩) (fun z => absurd z n3), fun z => absurd rfl z, hFR, hRT, hHP⟩⟩)
    · by_cases h3 : q = 16 ∨ q = 17
      · by_cases h : v3 < 0 ∨ ¬ v3 ≤ 2
        · exact (mx_codeB0 hi h3 h).mpr ((my_codeB0 hi h3 (h.elim Or.inl fun z => Or.inr (Int32.not_le.mp z))).mpr ⟨rfl, I0⟩)
        · have h1 : ¬ v3 < 0 := fun z => h (Or.inl z)
          have h2 : v3 ≤ 2 := Classical.byContradiction fun z => h (Or.inr z)
          obtain ⟨j, hj, ej⟩ := nI_of2 (x := v3) (M := 2) (n := 2) (by decide) h1 h2
          exact (mx_codeB hi h3 h1 h2).mpr ((my_codeB hi h3 h1 (Int32.not_lt.mpr h2)).mpr ⟨rfl, mr_IDLE_mk ⟨hkp, mr_PG_code hPG ho (fun z => absurd z h4) (fun _ => ⟨j, by omega, ej⟩), fun z => absurd rfl z, hFR, hRT, hHP⟩⟩)
      · exact (mx_codeC hi ho h4 h3).mpr ((my_codeC hi ho h4 h3).mpr ⟨rfl, mr_IDLE_mk ⟨hkp, mr_PG_code hPG ho (fun z => absurd z h4) (fun z => absurd z h3), fun z => absurd rfl z, hFR, hRT, hHP⟩⟩)
  · refine br_f c1 (br_f c2 (br_f c3 (br_f c4 ?_)))
    try dsimp only
    rw [wpY_code, my_in1 c1 c2, mr_bf (by decide), my_in0 (Or.inr (Int32.not_le.mp c4))]
    exact br_t rfl ⟨rfl, I0⟩
theorem mr_vc_above {u : SX} {v : SY} (I : mr_IDLE u v) (v1 : Int32) (v2 : Int32) : wpX_above (fun r u' => wpY_above (fun r' v' => r' = r ∧ mr_IDLE u' v') v v1 v2) u v1 v2 := by
  refine mr_IDLE_el (P := fun u v => wpX_above (fun r u' => wpY_above (fun r' v' => r' = r ∧ mr_IDLE u' v') v v1 v2) u v1 v2) ?_ I
  intro R hh o y k p pr lv rm mk mc rs rn wc op nd ab st rv cp cc cs gs gn du ls ln dp ss sn cl fs fn wt mt pl yov yen ygs ygn ykd yfs yfn yls yln yss ysn ydu yne hF
  have I0 : mr_IDLE (pr, lv, 0, nI o, nI y, rm, mk, nI k, mc, rs, rn, nI p, wc, op, nd, ab, st, rv, cp, cc, cs, gs, gn, du, ls, ln, dp, ss, sn, cl, fs, fn, wt, mt, pl) (0, rs, rn, nI k, mc, nI p, yov, yen, op, nd, ab, st, ygs, ygn, ykd, yfs, yfn, yls, yln, yss, ysn, dp, ydu, yne, pl) := mr_IDLE_mk hF
  obtain ⟨hkp, hPG, hPR, hFR, hRT, hHP⟩ := hF
  by_cases c1 : v1 < 0
  · refine br_t c1 ?_
    try dsimp only
    rw [wpY_above, my_in0 (Or.inl c1)]
    exact br_t rfl ⟨rfl, I0⟩
  by_cases c2 : 3 < v1
  · refine br_f c1 (br_t c2 ?_)
    try dsimp only
    rw [wpY_above, my_in0 (Or.inr c2)]
    exact br_t rfl ⟨rfl, I0⟩
  by_cases c3 : v2 < -1
  · refine br_f c1 (br_f c2 (br_t c3 ?_))
    try dsimp only
    rw [wpY_above, my_in1 c1 c2, mr_bf (by decide), my_in0 (Or.inl c3)]
    exact br_t rfl ⟨rfl, I0⟩
  obtain ⟨c, hc, rfl⟩ := nI_of2 (x := v1) (M := 3) (n := 3) (by decide) c1 (Int32.not_lt.mp c2)
  have hc4 : c < 4 := by omega
  by_cases c4 : v2 < nI c
  · have ha : v2 = -1 ∨ ∃ b, b < c ∧ v2 = nI b := by
      rcases mr_from c3 with z | ⟨b, hb, rfl⟩
      · exact Or.inl z
      · exact Or.inr ⟨b, (nI_ltI hb (by omega)).mp c4, rfl⟩
    have en : vp_nar .byte v2.toInt8.toInt32 = v2 := by
      rcases ha with rfl | ⟨b, hb, rfl⟩
      · exact mr_nbm.2.1
      · exact mr_nb2 (by omega)
    have e1 : (nI c).toNatClampNeg = c := nI_clamp (by omega)
    have i1 : vp_in (nI c) 4 := vp_in_nI hc4 (by decide)
    refine br_f c1 (br_f c2 (br_f c3 (br_t c4 ⟨i1, ?_⟩)))
    try dsimp only
    rw [e1, en]
    refine nm_e ?_
    try dsimp only
    rw [wpY_above, my_in1 c1 c2, mr_bf (by decide), my_in1 c3 (fun z => (mr_lt1 hc4 v2).mp z c4), mr_bf (by decide), e1]
    exact ⟨i1, nm_e ⟨rfl, mr_IDLE_mk ⟨hkp, mr_PG_ab hPG ha, fun z => absurd rfl z, hFR, hRT, hHP⟩⟩⟩
  · refine br_f c1 (br_f c2 (br_f c3 (br_f c4 ?_)))
    try dsimp only
    rw [wpY_above, my_in1 c1 c2, mr_bf (by decide), my_in0 (Or.inr ((mr_lt1 hc4 v2).mpr c4))]
    exact br_t rfl ⟨rfl, I0⟩
theorem mr_vc_method {u : SX} {v : SY} (I : mr_IDLE u v) (v1 : Int32) (v2 : Int32) (v3 : Int32) : wpX_method (fun r u' => wpY_method (fun r' v' => r' = r ∧ mr_IDLE u' v') v v1 v2 v3) u v1 v2 v3 := by
  refine mr_IDLE_el (P := fun u v => wpX_method (fun r u' => wpY_method (fun r' v' => r' = r ∧ mr_IDLE u' v') v v1 v2 v3) u v1 v2 v3) ?_ I
  intro R hh o y k p pr lv rm mk mc rs rn wc op nd ab st rv cp cc cs gs gn du ls ln dp ss sn cl fs fn wt mt pl yov yen ygs ygn ykd yfs yfn yls yln yss ysn ydu yne hF
  have I0 : mr_IDLE (pr, lv, 0, nI o, nI y, rm, mk, nI k, mc, rs, rn, nI p, wc, op, nd, ab, st, rv, cp, cc, cs, gs, gn, du, ls, ln, dp, ss, sn, cl, fs, fn, wt, mt, pl) (0, rs, rn, nI k, mc, nI p, yov, yen, op, nd, ab, st, ygs, ygn, ykd, yfs, yfn, yls, yln, yss, ysn, dp, ydu, yne, pl) := mr_IDLE_mk hF
  obtain ⟨hkp, hPG, hPR, hFR, hRT, hHP⟩ := hF
  by_cases c1 : v1 < 0
  · refine br_t c1 ?_
    try dsimp only
    rw [wpY_method, my_in0 (Or.inl c1)]
    exact br_t rfl ⟨rfl, I0⟩
  by_cases c2 : 3 < v1
  · refine br_f c1 (br_t c2 ?_)
    try dsimp only
    rw [wpY_method, my_in0 (Or.inr c2)]
    exact br_t rfl ⟨rfl, I0⟩
  by_cases c3 : v2 < 0
  · refine br_f c1 (br_f c2 (br_t c3 ?_))
    try dsimp only
    rw [wpY_method, my_in1 c1 c2, mr_bf (by decide), my_in0 (Or.inl c3)]
    exact br_t rfl ⟨rfl, I0⟩
  by_cases c4 : 3 < v2
  · refine br_f c1 (br_f c2 (br_f c3 (br_t c4 ?_)))
    try dsimp only
    rw [wpY_method, my_in1 c1 c2, mr_bf (by decide), my_in0 (Or.inr c4)]
    exact br_t rfl ⟨rfl, I0⟩
  by_cases c5 : v3 < -1
  · refine br_f c1 (br_f c2 (br_f c3 (br_f c4 (br_t c5 ?_))))
    try dsimp only
    rw [wpY_method, my_in1 c1 c2, mr_bf (by decide), my_in1 c3 c4, mr_bf (by decide), my_in0 (Or.inl c5)]
    exact br_t rfl ⟨rfl, I0⟩
  by_cases c6 : v3 ≤ 59
  · obtain ⟨c, hc, rfl⟩ := nI_of2 (x := v1) (M := 3) (n := 3) (by decide) c1 (Int32.not_lt.mp c2)
    obtain ⟨q, hq, rfl⟩ := nI_of2 (x := v2) (M := 3) (n := 3) (by decide) c3 (Int32.not_lt.mp c4)
    have ha : v3 = -1 ∨ ∃ b, b < 60 ∧ v3 = nI b := by
      rcases mr_from c5 with z | ⟨b, hb, rfl⟩
      · exact Or.inl z
      · have := (nI_leI (b := 59) hb (by omega)).mp c6
        exact Or.inr ⟨b, by omega, rfl⟩
    have en : vp_nar .byte v3.toInt8.toInt32 = v3 := mr_RV_nar ha
    have e1 : (nI (4 * c + q)).toNatClampNeg = 4 * c + q := nI_clamp (by omega)
    have i1 : vp_in (nI (4 * c + q)) 16 := vp_in_nI (by omega) (by decide)
    refine br_f c1 (br_f c2 (br_f c3 (br_f c4 (br_f c5 (br_t c6 ?_)))))
    try dsimp only
    rw [mr_i4, nI_add, e1, en]
    refine ⟨i1, nm_e ?_⟩
    try dsimp only
    rw [wpY_method, my_in1 c1 c2, mr_bf (by decide), my_in1 c3 c4, mr_bf (by decide), my_in1 c5 (Int32.not_lt.mpr c6), mr_bf (by decide), mr_i4, nI_add, e1]
    exact ⟨i1, nm_e ⟨rfl, mr_IDLE_mk ⟨hkp, mr_PG_st hPG ha, fun z => absurd rfl z, hFR, hRT, hHP⟩⟩⟩
  · refine br_f c1 (br_f c2 (br_f c3 (br_f c4 (br_f c5 (br_f c6 ?_)))))
    try dsimp only
    rw [wpY_method, my_in1 c1 c2, mr_bf (by decide), my_in1 c3 c4, mr_bf (by decide), my_in0 (Or.inr (Int32.not_le.mp c6))]
    exact br_t rfl ⟨rfl, I0⟩
theorem mr_vc_givenSort {u : SX} {v : SY} (I : mr_IDLE u v)  : wpX_givenSort (fun r => wpY_givenSort (fun r' => r' = r ∧ mr_IDLE u v) v) u := by
  refine mr_IDLE_el (P := fun u v => wpX_givenSort (fun r => wpY_givenSort (fun r' => r' = r ∧ mr_IDLE u v) v) u) ?_ I
  intro R hh o y k p pr lv rm mk mc rs rn wc op nd ab st rv cp cc cs gs gn du ls ln dp ss sn cl fs fn wt mt pl yov yen ygs ygn ykd yfs yfn yls yln yss ysn ydu yne hF
  have I0 : mr_IDLE (pr, lv, 0, nI o, nI y, rm, mk, nI k, mc, rs, rn, nI p, wc, op, nd, ab, st, rv, cp, cc, cs, gs, gn, du, ls, ln, dp, ss, sn, cl, fs, fn, wt, mt, pl) (0, rs, rn, nI k, mc, nI p, yov, yen, op, nd, ab, st, ygs, ygn, ykd, yfs, yfn, yls, yln, yss, ysn, dp, ydu, yne, pl) := mr_IDLE_mk hF
  obtain ⟨hkp, hPG, hPR, hFR, hRT, hHP⟩ := hF
  exact ⟨rfl, I0⟩
theorem mr_vc_given {u : SX} {v : SY} (I : mr_IDLE u v)  : wpX_given (fun r => wpY_given (fun r' => r' = r ∧ mr_IDLE u v) v) u := by
  refine mr_IDLE_el (P := fun u v => wpX_given (fun r => wpY_given (fun r' => r' = r ∧ mr_IDLE u v) v) u) ?_ I
  intro R hh o y k p pr lv rm mk mc rs rn wc op nd ab st rv cp cc cs gs gn du ls ln dp ss sn cl fs fn wt mt pl yov yen ygs ygn ykd yfs yfn yls yln yss ysn ydu yne hF
  have I0 : mr_IDLE (pr, lv, 0, nI o, nI y, rm, mk, nI k, mc, rs, rn, nI p, wc, op, nd, ab, st, rv, cp, cc, cs, gs, gn, du, ls, ln, dp, ss, sn, cl, fs, fn, wt, mt, pl) (0, rs, rn, nI k, mc, nI p, yov, yen, op, nd, ab, st, ygs, ygn, ykd, yfs, yfn, yls, yln, yss, ysn, dp, ydu, yne, pl) := mr_IDLE_mk hF
  obtain ⟨hkp, hPG, hPR, hFR, hRT, hHP⟩ := hF
  exact ⟨rfl, I0⟩
theorem mr_vc_steps {u : SX} {v : SY} (I : mr_IDLE u v)  : wpX_steps (fun r => wpY_steps (fun r' => r' = r ∧ mr_IDLE u v) v) u := by
  refine mr_IDLE_el (P := fun u v => wpX_steps (fun r => wpY_steps (fun r' => r' = r ∧ mr_IDLE u v) v) u) ?_ I
  intro R hh o y k p pr lv rm mk mc rs rn wc op nd ab st rv cp cc cs gs gn du ls ln dp ss sn cl fs fn wt mt pl yov yen ygs ygn ykd yfs yfn yls yln yss ysn ydu yne hF
  have I0 : mr_IDLE (pr, lv, 0, nI o, nI y, rm, mk, nI k, mc, rs, rn, nI p, wc, op, nd, ab, st, rv, cp, cc, cs, gs, gn, du, ls, ln, dp, ss, sn, cl, fs, fn, wt, mt, pl) (0, rs, rn, nI k, mc, nI p, yov, yen, op, nd, ab, st, ygs, ygn, ykd, yfs, yfn, yls, yln, yss, ysn, dp, ydu, yne, pl) := mr_IDLE_mk hF
  obtain ⟨hkp, hPG, hPR, hFR, hRT, hHP⟩ := hF
  exact ⟨rfl, I0⟩
theorem mr_vc_made {u : SX} {v : SY} (I : mr_IDLE u v)  : wpX_made (fun r => wpY_made (fun r' => r' = r ∧ mr_IDLE u v) v) u := by
  refine mr_IDLE_el (P := fun u v => wpX_made (fun r => wpY_made (fun r' => r' = r ∧ mr_IDLE u v) v) u) ?_ I
  intro R hh o y k p pr lv rm mk mc rs rn wc op nd ab st rv cp cc cs gs gn du ls ln dp ss sn cl fs fn wt mt pl yov yen ygs ygn ykd yfs yfn yls yln yss ysn ydu yne hF
  have I0 : mr_IDLE (pr, lv, 0, nI o, nI y, rm, mk, nI k, mc, rs, rn, nI p, wc, op, nd, ab, st, rv, cp, cc, cs, gs, gn, du, ls, ln, dp, ss, sn, cl, fs, fn, wt, mt, pl) (0, rs, rn, nI k, mc, nI p, yov, yen, op, nd, ab, st, ygs, ygn, ykd, yfs, yfn, yls, yln, yss, ysn, dp, ydu, yne, pl) := mr_IDLE_mk hF
  obtain ⟨hkp, hPG, hPR, hFR, hRT, hHP⟩ := hF
  exact ⟨rfl, I0⟩
theorem mr_vc_printed {u : SX} {v : SY} (I : mr_IDLE u v)  : wpX_printed (fun r => wpY_printed (fun r' => r' = r ∧ mr_IDLE u v) v) u := by
  refine mr_IDLE_el (P := fun u v => wpX_printed (fun r => wpY_printed (fun r' => r' = r ∧ mr_IDLE u v) v) u) ?_ I
  intro R hh o y k p pr lv rm mk mc rs rn wc op nd ab st rv cp cc cs gs gn du ls ln dp ss sn cl fs fn wt mt pl yov yen ygs ygn ykd yfs yfn yls yln yss ysn ydu yne hF
  have I0 : mr_IDLE (pr, lv, 0, nI o, nI y, rm, mk, nI k, mc, rs, rn, nI p, wc, op, nd, ab, st, rv, cp, cc, cs, gs, gn, du, ls, ln, dp, ss, sn, cl, fs, fn, wt, mt, pl) (0, rs, rn, nI k, mc, nI p, yov, yen, op, nd, ab, st, ygs, ygn, ykd, yfs, yfn, yls, yln, yss, ysn, dp, ydu, yne, pl) := mr_IDLE_mk hF
  obtain ⟨hkp, hPG, hPR, hFR, hRT, hHP⟩ := hF
  exact ⟨rfl, I0⟩
theorem mr_vc_output {u : SX} {v : SY} (I : mr_IDLE u v) (v1 : Int32) : wpX_output (fun r => wpY_output (fun r' => r' = r ∧ mr_IDLE u v) v v1) u v1 := by
  refine mr_IDLE_el (P := fun u v => wpX_output (fun r => wpY_output (fun r' => r' = r ∧ mr_IDLE u v) v v1) u v1) ?_ I
  intro R hh o y k p pr lv rm mk mc rs rn wc op nd ab st rv cp cc cs gs gn du ls ln dp ss sn cl fs fn wt mt pl yov yen ygs ygn ykd yfs yfn yls yln yss ysn ydu yne hF
  have I0 : mr_IDLE (pr, lv, 0, nI o, nI y, rm, mk, nI k, mc, rs, rn, nI p, wc, op, nd, ab, st, rv, cp, cc, cs, gs, gn, du, ls, ln, dp, ss, sn, cl, fs, fn, wt, mt, pl) (0, rs, rn, nI k, mc, nI p, yov, yen, op, nd, ab, st, ygs, ygn, ykd, yfs, yfn, yls, yln, yss, ysn, dp, ydu, yne, pl) := mr_IDLE_mk hF
  obtain ⟨hkp, hPG, hPR, hFR, hRT, hHP⟩ := hF
  by_cases c1 : v1 < 0
  · refine br_t c1 ?_
    try dsimp only
    rw [wpY_output, my_in0 (Or.inl c1)]
    exact br_t rfl ⟨rfl, I0⟩
  by_cases c2 : 19 < v1
  · have q : wpY_output (fun r' => r' = 0 ∧ mr_IDLE (pr, lv, 0, nI o, nI y, rm, mk, nI k, mc, rs, rn, nI p, wc, op, nd, ab, st, rv, cp, cc, cs, gs, gn, du, ls, ln, dp, ss, sn, cl, fs, fn, wt, mt, pl) (0, rs, rn, nI k, mc, nI p, yov, yen, op, nd, ab, st, ygs, ygn, ykd, yfs, yfn, yls, yln, yss, ysn, dp, ydu, yne, pl)) (0, rs, rn, nI k, mc, nI p, yov, yen, op, nd, ab, st, ygs, ygn, ykd, yfs, yfn, yls, yln, yss, ysn, dp, ydu, yne, pl) v1 := by
      try dsimp only
      rw [wpY_output, my_in0 (Or.inr c2)]
      exact br_t rfl ⟨rfl, I0⟩
    exact br_f c1 (br_c (fun _ => q) fun _ => br_f (Int32.not_le.mpr c2) q)
  obtain ⟨j, hj, rfl⟩ := nI_of2 (x := v1) (M := 19) (n := 19) (by decide) c1 (Int32.not_lt.mp c2)
  have e1 : (nI j).toNatClampNeg = j := nI_clamp (by omega)
  have i1 : vp_in (nI j) 20 := vp_in_nI (by omega) (by decide)
  by_cases c3 : nI p ≤ nI j
  · refine br_f c1 (br_t c3 ?_)
    try dsimp only
    rw [wpY_output, my_in1 c1 c2]
    exact br_f (by decide) (br_t c3 ⟨rfl, I0⟩)
  · refine br_f c1 (br_f c3 (br_t (Int32.not_lt.mp c2) ⟨i1, ?_⟩))
    try dsimp only
    rw [wpY_output, my_in1 c1 c2]
    exact br_f (by decide) (br_f c3 ⟨i1, ⟨rfl, I0⟩⟩)
theorem mr_vc_sort {u : SX} {v : SY} (I : mr_IDLE u v) (v1 : Int32) (v2 : Int32) : wpX_sort (fun r => wpY_sort (fun r' => r' = r ∧ mr_IDLE u v) v v1 v2) u v1 v2 := by
  refine mr_IDLE_el (P := fun u v => wpX_sort (fun r => wpY_sort (fun r' => r' = r ∧ mr_IDLE u v) v v1 v2) u v1 v2) ?_ I
  intro R hh o y k p pr lv rm mk mc rs rn wc op nd ab st rv cp cc cs gs gn du ls ln dp ss sn cl fs fn wt mt pl yov yen ygs ygn ykd yfs yfn yls yln yss ysn ydu yne hF
  have I0 : mr_IDLE (pr, lv, 0, nI o, nI y, rm, mk, nI k, mc, rs, rn, nI p, wc, op, nd, ab, st, rv, cp, cc, cs, gs, gn, du, ls, ln, dp, ss, sn, cl, fs, fn, wt, mt, pl) (0, rs, rn, nI k, mc, nI p, yov, yen, op, nd, ab, st, ygs, ygn, ykd, yfs, yfn, yls, yln, yss, ysn, dp, ydu, yne, pl) := mr_IDLE_mk hF
  obtain ⟨hkp, hPG, hPR, hFR, hRT, hHP⟩ := hF
  exact mr_sort hHP hRT.1 v1 v2 I0
theorem mr_vc_number {u : SX} {v : SY} (I : mr_IDLE u v) (v1 : Int32) (v2 : Int32) : wpX_number (fun r => wpY_number (fun r' => r' = r ∧ mr_IDLE u v) v v1 v2) u v1 v2 := by
  refine mr_IDLE_el (P := fun u v => wpX_number (fun r => wpY_number (fun r' => r' = r ∧ mr_IDLE u v) v v1 v2) u v1 v2) ?_ I
  intro R hh o y k p pr lv rm mk mc rs rn wc op nd ab st rv cp cc cs gs gn du ls ln dp ss sn cl fs fn wt mt pl yov yen ygs ygn ykd yfs yfn yls yln yss ysn ydu yne hF
  have I0 : mr_IDLE (pr, lv, 0, nI o, nI y, rm, mk, nI k, mc, rs, rn, nI p, wc, op, nd, ab, st, rv, cp, cc, cs, gs, gn, du, ls, ln, dp, ss, sn, cl, fs, fn, wt, mt, pl) (0, rs, rn, nI k, mc, nI p, yov, yen, op, nd, ab, st, ygs, ygn, ykd, yfs, yfn, yls, yln, yss, ysn, dp, ydu, yne, pl) := mr_IDLE_mk hF
  obtain ⟨hkp, hPG, hPR, hFR, hRT, hHP⟩ := hF
  exact mr_number hHP hRT.1 v1 v2 I0
theorem mr_vc_needed {u : SX} {v : SY} (I : mr_IDLE u v)  : wpX_needed (fun r u' => wpY_needed (fun r' v' => r' = r ∧ mr_IDLE u' v') v) u := by
  refine mr_IDLE_el (P := fun u v => wpX_needed (fun r u' => wpY_needed (fun r' v' => r' = r ∧ mr_IDLE u' v') v) u) ?_ I
  intro R hh o y k p pr lv rm mk mc rs rn wc op nd ab st rv cp cc cs gs gn du ls ln dp ss sn cl fs fn wt mt pl yov yen ygs ygn ykd yfs yfn yls yln yss ysn ydu yne hF
  have I0 : mr_IDLE (pr, lv, 0, nI o, nI y, rm, mk, nI k, mc, rs, rn, nI p, wc, op, nd, ab, st, rv, cp, cc, cs, gs, gn, du, ls, ln, dp, ss, sn, cl, fs, fn, wt, mt, pl) (0, rs, rn, nI k, mc, nI p, yov, yen, op, nd, ab, st, ygs, ygn, ykd, yfs, yfn, yls, yln, yss, ysn, dp, ydu, yne, pl) := mr_IDLE_mk hF
  obtain ⟨hkp, hPG, hPR, hFR, hRT, hHP⟩ := hF
  have H := mr_MH_of (F := 0) (dp := dp) hHP hRT (by omega) fun f hf => by omega
  obtain ⟨ne', hne, hY⟩ := my_mark (F := 0) (yrs := rs) (yrn := rn) (ysc := nI k) (ymc := mc) (ypc := nI p) (yov := yov) (yen := yen) (yop := op) (ynd := nd) (yab := ab) (yst := st) (ygs := ygs) (ygn := ygn) (ykd := ykd) (yfs := yfs) (yfn := yfn) (yls := yls) (yln := yln) (yss := yss) (ysn := ysn) (yhp := dp) (ydu := ydu) (you := pl) (ne := yne) (mr_YH_of (F := 0) (dp := dp) hHP hRT (by omega) fun f hf => by omega)
  rw [wpX_needed]
  refine mx_markNeeded (F := 0) H fun mk' wt' hm => mx_countMarks ?_
  try dsimp only
  rw [cn_eq hm, mr_cnt hHP hRT, wpY_needed]
  exact hY _ ⟨rfl, mr_IDLE_mk ⟨hkp, hPG, hPR, hFR, hRT, hHP⟩⟩
theorem mr_vc_clear {u : SX} {v : SY} (I : mr_IDLE u v) (v1 : Int32) : wpX_clear (fun r u' => wpY_clear (fun r' v' => r' = r ∧ mr_IDLE u' v') v v1) u v1 := by
  refine mr_IDLE_el (P := fun u v => wpX_clear (fun r u' => wpY_clear (fun r' v' => r' = r ∧ mr_IDLE u' v') v v1) u v1) ?_ I
  intro R hh o y k p pr lv rm mk mc rs rn wc op nd ab st rv cp cc cs gs gn du ls ln dp ss sn cl fs fn wt mt pl yov yen ygs ygn ykd yfs yfn yls yln yss ysn ydu yne hF
  have I0 : mr_IDLE (pr, lv, 0, nI o, nI y, rm, mk, nI k, mc, rs, rn, nI p, wc, op, nd, ab, st, rv, cp, cc, cs, gs, gn, du, ls, ln, dp, ss, sn, cl, fs, fn, wt, mt, pl) (0, rs, rn, nI k, mc, nI p, yov, yen, op, nd, ab, st, ygs, ygn, ykd, yfs, yfn, yls, yln, yss, ysn, dp, ydu, yne, pl) := mr_IDLE_mk hF
  obtain ⟨hkp, hPG, hPR, hFR, hRT, hHP⟩ := hF
  by_cases c1 : v1 < 0
  · refine br_t c1 ?_
    try dsimp only
    rw [wpY_clear, my_in0 (Or.inl c1)]
    exact br_t rfl ⟨rfl, I0⟩
  by_cases c2 : v1 ≤ 3
  · obtain ⟨g, hg, rfl⟩ := nI_of2 (x := v1) (M := 3) (n := 3) (by decide) c1 c2
    have e1 : (nI g).toNatClampNeg = g := nI_clamp (by omega)
    have i1 : vp_in (nI g) 4 := vp_in_nI (by omega) (by decide)
    have rt := mr_RT_glob (g0 := g) (s := 0) (n := 0) (s' := 0) (n' := ygn g) hRT mr_V_0
    rw [mr_u0 (f := ygn) rfl] at rt
    refine br_f c1 (br_t c2 ⟨i1, ?_⟩)
    try dsimp only
    rw [e1, mr_nbm.2.2.1]
    refine nm_e ⟨i1, nm_e ?_⟩
    try dsimp only
    rw [wpY_clear, my_in1 c1 (Int32.not_lt.mpr c2), mr_bf (by decide), e1]
    exact ⟨i1, nm_e ⟨rfl, mr_IDLE_mk ⟨hkp, hPG, hPR, hFR, rt, hHP⟩⟩⟩
  · refine br_f c1 (br_f c2 ?_)
    try dsimp only
    rw [wpY_clear, my_in0 (Or.inr (Int32.not_le.mp c2))]
    exact br_t rfl ⟨rfl, I0⟩
theorem mr_vc_level {u : SX} {v : SY} (I : mr_IDLE u v) (v1 : Int32) : wpX_level (fun r u' => wpY_level (fun r' => r' = r ∧ mr_IDLE u' v) v v1) u v1 := by
  refine mr_IDLE_el (P := fun u v => wpX_level (fun r u' => wpY_level (fun r' => r' = r ∧ mr_IDLE u' v) v v1) u v1) ?_ I
  intro R hh o y k p pr lv rm mk mc rs rn wc op nd ab st rv cp cc cs gs gn du ls ln dp ss sn cl fs fn wt mt pl yov yen ygs ygn ykd yfs yfn yls yln yss ysn ydu yne hF
  have I0 : mr_IDLE (pr, lv, 0, nI o, nI y, rm, mk, nI k, mc, rs, rn, nI p, wc, op, nd, ab, st, rv, cp, cc, cs, gs, gn, du, ls, ln, dp, ss, sn, cl, fs, fn, wt, mt, pl) (0, rs, rn, nI k, mc, nI p, yov, yen, op, nd, ab, st, ygs, ygn, ykd, yfs, yfn, yls, yln, yss, ysn, dp, ydu, yne, pl) := mr_IDLE_mk hF
  obtain ⟨hkp, hPG, hPR, hFR, hRT, hHP⟩ := hF
  by_cases c1 : v1 < 0
  · refine br_t c1 ?_
    try dsimp only
    rw [wpY_level, my_in0 (Or.inl c1)]
    exact ⟨rfl, ⟨rfl, I0⟩⟩
  by_cases c2 : v1 ≤ 2
  · refine br_f c1 (br_t c2 ?_)
    try dsimp only
    rw [wpY_level, my_in1 c1 (Int32.not_lt.mpr c2)]
    exact ⟨rfl, rfl, mr_IDLE_mk ⟨hkp, hPG, hPR, hFR, hRT, hHP⟩⟩
  · refine br_f c1 (br_f c2 ?_)
    try dsimp only
    rw [wpY_level, my_in0 (Or.inr (Int32.not_le.mp c2))]
    exact ⟨rfl, ⟨rfl, I0⟩⟩
theorem mr_vc0 : wpX_init (fun u => wpY_init (fun v => mr_IDLE u v)) := by
  refine ⟨5, ?_⟩
  have hx := mx_init_184 (post := fun u => wpY_init (fun v => mr_IDLE u v)) (pr := 0) (lv := 2) (fc := 0) (ou := 0) (yu := 0) (rm := 0) (mk := 0) (sc := 0) (mc := 0) (rs := 0) (rn := 0) (pc := 0) (wc := 0) (op := fun _ => 0) (nd := fun _ => 0) (rv := fun _ => 0) (cp := fun _ => 0) (cc := fun _ => 0) (cs := fun _ => 0) (gs := fun _ => 0) (gn := fun _ => 0) (du := fun _ => 0) (ls := fun _ => 0) (ln := fun _ => 0) (dp := fun _ => 0) (ss := fun _ => 0) (sn := fun _ => 0) (cl := fun _ => 0) (fs := fun _ => 0) (fn := fun _ => 0) (wt := fun _ => 0) (mt := fun _ => 0) (pl := fun _ => 0) ?_ 5 0 (by omega) (by omega)
  · rw [mr_ini_0] at hx
    exact hx
  · refine ⟨5, ?_⟩
    have hy := my_init_169 (post := fun v => mr_IDLE (0, 2, 0, 0, 0, 0, 0, 0, 0, 0, 0, 0, 0, (fun _ => 0), (fun _ => 0), mr_ini 4, mr_ini 16, (fun _ => 0), (fun _ => 0), (fun _ => 0), (fun _ => 0), (fun _ => 0), (fun _ => 0), (fun _ => 0), (fun _ => 0), (fun _ => 0), (fun _ => 0), (fun _ => 0), (fun _ => 0), (fun _ => 0), (fun _ => 0), (fun _ => 0), (fun _ => 0), (fun _ => 0), (fun _ => 0)) v) (yfc := 0) (yrs := 0) (yrn := 0) (ysc := 0) (ymc := 0) (ypc := 0) (yov := 0) (yen := 0) (yop := fun _ => 0) (ynd := fun _ => 0) (ygs := fun _ => 0) (ygn := fun _ => 0) (ykd := fun _ => 0) (yfs := fun _ => 0) (yfn := fun _ => 0) (yls := fun _ => 0) (yln := fun _ => 0) (yss := fun _ => 0) (ysn := fun _ => 0) (yhp := fun _ => 0) (ydu := fun _ => 0) (yne := fun _ => 0) (you := fun _ => 0) ?_ 5 0 (by omega) (by omega)
    · rw [mr_ini_0] at hy
      exact hy
    · refine mr_IDLE_mk (R := fun _ _ => False) (hh := fun _ => 0) (o := 0) (y := 0) (k := 0) (p := 0) (yov := 0) ⟨⟨Nat.le_refl _, by omega⟩, ⟨fun i hi => ⟨0, by omega, rfl, fun z => by omega, fun z => by omega⟩, fun c hc => Or.inl (mr_ini_lt hc), fun c hc => Or.inl (mr_ini_lt hc)⟩, fun z => absurd rfl z, ⟨by omega, fun f hf => by omega, fun f hf => by omega⟩, ⟨fun g hg => mr_V_0, fun g hg => by omega, fun f j hf => by omega⟩, ⟨⟨by omega, by omega⟩, fun a b r => absurd r id, fun a b b' r => absurd r id, fun a a' b r => absurd r id, fun a b r => absurd r id, fun a p => ?_, fun a p => by omega⟩⟩
      rcases p with p | p <;> omega
end
section
/-! ===== WHAT IS OWED for ManagedRuntime over the printed walks ===== -/
/-- the two objects at rest: same program, same counts, and their objects tied one to one -/
def i_Rel (k : Nat) (u : SX) (v : SY) : Prop := mr_IDLE u v
theorem i_up {k : Nat} {u : SX} {v : SY} (h : i_Rel k u v) : i_Rel (k + 4) u v := h
theorem i_vc0 : wpX_init (fun u => wpY_init (fun v => i_Rel 0 u v)) := mr_vc0
theorem i_vc_code {k : Nat} {u : SX} {v : SY} (I : i_Rel k u v) (hk : k + 4 ≤ 2048) (v1 : Int32) (v2 : Int32) (v3 : Int32) : wpX_code (fun r u' => wpY_code (fun r' v' => r' = r ∧ i_Rel (k + 4) u' v') v v1 v2 v3) u v1 v2 v3 := mr_vc_code I v1 v2 v3
theorem i_vc_above {k : Nat} {u : SX} {v : SY} (I : i_Rel k u v) (hk : k + 4 ≤ 2048) (v1 : Int32) (v2 : Int32) : wpX_above (fun r u' => wpY_above (fun r' v' => r' = r ∧ i_Rel (k + 4) u' v') v v1 v2) u v1 v2 := mr_vc_above I v1 v2
theorem i_vc_method {k : Nat} {u : SX} {v : SY} (I : i_Rel k u v) (hk : k + 4 ≤ 2048) (v1 : Int32) (v2 : Int32) (v3 : Int32) : wpX_method (fun r u' => wpY_method (fun r' v' => r' = r ∧ i_Rel (k + 4) u' v') v v1 v2 v3) u v1 v2 v3 := mr_vc_method I v1 v2 v3
theorem i_vc_run {k : Nat} {u : SX} {v : SY} (I : i_Rel k u v) (hk : k + 4 ≤ 2048) (v1 : Int32) (v2 : Int32) : wpX_run (fun r u' => wpY_run (fun r' v' => r' = r ∧ i_Rel (k + 4) u' v') v v1 v2) u v1 v2 := mr_run I v1 v2
theorem i_vc_givenSort {k : Nat} {u : SX} {v : SY} (I : i_Rel k u v) (hk : k + 4 ≤ 2048) : wpX_givenSort (fun r => wpY_givenSort (fun r' => r' = r ∧ i_Rel (k + 4) u v) v) u := mr_vc_givenSort I
theorem i_vc_given {k : Nat} {u : SX} {v : SY} (I : i_Rel k u v) (hk : k + 4 ≤ 2048) : wpX_given (fun r => wpY_given (fun r' => r' = r ∧ i_Rel (k + 4) u v) v) u := mr_vc_given I
theorem i_vc_steps {k : Nat} {u : SX} {v : SY} (I : i_Rel k u v) (hk : k + 4 ≤ 2048) : wpX_steps (fun r => wpY_steps (fun r' => r' = r ∧ i_Rel (k + 4) u v) v) u := mr_vc_steps I
theorem i_vc_made {k : Nat} {u : SX} {v : SY} (I : i_Rel k u v) (hk : k + 4 ≤ 2048) : wpX_made (fun r => wpY_made (fun r' => r' = r ∧ i_Rel (k + 4) u v) v) u := mr_vc_made I
theorem i_vc_printed {k : Nat} {u : SX} {v : SY} (I : i_Rel k u v) (hk : k + 4 ≤ 2048) : wpX_printed (fun r => wpY_printed (fun r' => r' = r ∧ i_Rel (k + 4) u v) v) u := mr_vc_printed I
theorem i_vc_output {k : Nat} {u : SX} {v : SY} (I : i_Rel k u v) (hk : k + 4 ≤ 2048) (v1 : Int32) : wpX_output (fun r => wpY_output (fun r' => r' = r ∧ i_Rel (k + 4) u v) v v1) u v1 := mr_vc_output I v1
theorem i_vc_sort {k : Nat} {u : SX} {v : SY} (I : i_Rel k u v) (hk : k + 4 ≤ 2048) (v1 : Int32) (v2 : Int32) : wpX_sort (fun r => wpY_sort (fun r' => r' = r ∧ i_Rel (k + 4) u v) v v1 v2) u v1 v2 := mr_vc_sort I v1 v2
theorem i_vc_number {k : Nat} {u : SX} {v : SY} (I : i_Rel k u v) (hk : k + 4 ≤ 2048) (v1 : Int32) (v2 : Int32) : wpX_number (fun r => wpY_number (fun r' => r' = r ∧ i_Rel (k + 4) u v) v v1 v2) u v1 v2 := mr_vc_number I v1 v2
theorem i_vc_needed {k : Nat} {u : SX} {v : SY} (I : i_Rel k u v) (hk : k + 4 ≤ 2048) : wpX_needed (fun r u' => wpY_needed (fun r' v' => r' = r ∧ i_Rel (k + 4) u' v') v) u := mr_vc_needed I
theorem i_vc_clear {k : Nat} {u : SX} {v : SY} (I : i_Rel k u v) (hk : k + 4 ≤ 2048) (v1 : Int32) : wpX_clear (fun r u' => wpY_clear (fun r' v' => r' = r ∧ i_Rel (k + 4) u' v') v v1) u v1 := mr_vc_clear I v1
theorem i_vc_level {k : Nat} {u : SX} {v : SY} (I : i_Rel k u v) (hk : k + 4 ≤ 2048) (v1 : Int32) : wpX_level (fun r u' => wpY_level (fun r' => r' = r ∧ i_Rel (k + 4) u' v) v v1) u v1 := mr_vc_level I v1
end
