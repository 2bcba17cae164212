section
/-! pure rows to paste: stores, nI and lN arithmetic, masks, shifts, narrowing, branches by naturals (pk_le, pk_lt, pk_eq), loops (lp1 .. lp16: the measure of the state; rp1 ..: recursion), negatives. Take what you need -/
theorem pk_us {f : Nat → Int32} {k : Nat} {x : Int32} : upd f k x k = x := if_pos rfl
theorem pk_un {f : Nat → Int32} {k j : Nat} {x : Int32} (h : j ≠ k) : upd f k x j = f j := if_neg h
theorem pk_uLs {f : Nat → Int64} {k : Nat} {x : Int64} : vp_updL f k x k = x := if_pos rfl
theorem pk_uLn {f : Nat → Int64} {k j : Nat} {x : Int64} (h : j ≠ k) : vp_updL f k x j = f j := if_neg h
theorem pk_sub {a b : Nat} (h : b ≤ a) : nI a - nI b = nI (a - b) := by
  obtain ⟨c, rfl⟩ : ∃ c, a = c + b := ⟨a - b, by omega⟩
  rw [← nI_add, Int32.add_sub_cancel, Nat.add_sub_cancel]
theorem pk_m1 (n : Nat) : nI (n + 1) + (-1) = nI n := by
  rw [← nI_1, Int32.add_assoc, show (1 : Int32) + (-1) = 0 from rfl, Int32.add_zero]
theorem pk_mul (a b : Nat) : nI a * nI b = nI (a * b) := (Int32.ofNat_mul a b).symm
theorem pk_div {a d : Nat} (ha : a < 2 ^ 31) (h0 : 0 < d) (hd : d < 2 ^ 31) : nI a / nI d = nI (a / d) := by
  apply Int32.toInt_inj.mp
  rw [lg_idiv_nonneg (by rw [nI_toInt ha]; omega) (by rw [nI_toInt hd]; omega), nI_toInt ha, nI_toInt hd, nI_toInt (Nat.lt_of_le_of_lt (Nat.div_le_self a d) ha)]
  first | rfl | exact (Int.natCast_ediv _ _).symm
theorem pk_rem {a d : Nat} (ha : a < 2 ^ 31) (h0 : 0 < d) (hd : d < 2 ^ 31) : nI a - nI a / nI d * nI d = nI (a % d) := by
  rw [pk_div ha h0 hd, pk_mul, pk_sub (Nat.div_mul_le_self a d)]
  exact congrArg nI (by have := Nat.div_add_mod' a d; omega)
theorem pk_sub_toInt {a b : Nat} (ha : a < 2 ^ 30) (hb : b < 2 ^ 30) : (nI a - nI b).toInt = (a : Int) - b := by
  rw [Int32.toInt_sub, nI_toInt (by omega), nI_toInt (by omega)]
  exact Int.bmod_eq_of_le (by omega) (by omega)
theorem pk_sneg {a b : Nat} (hb : b < 2 ^ 30) (h : a < b) : nI a - nI b < 0 := by
  rw [Int32.lt_iff_toInt_lt, pk_sub_toInt (by omega) hb, show (0 : Int32).toInt = 0 from by decide]
  omega
theorem pk_ix (x : Int32) {n : Nat} (hn : n < 2 ^ 31) : x < 0 ∨ nI n ≤ x ∨ ∃ j : Nat, j < n ∧ x = nI j := by
  by_cases h : x < 0
  · exact Or.inl h
  · obtain ⟨j, hj, rfl⟩ := nI_of h
    by_cases h2 : j < n
    · exact Or.inr (Or.inr ⟨j, h2, rfl⟩)
    · exact Or.inr (Or.inl (nI_le (by omega) hj))
theorem pk_le {x y : Int32} {A B : Prop} (a b : Nat) (f : a ≤ b → A) (g : b < a → B) (hx : x = nI a := by rfl) (hy : y = nI b := by rfl) (ha : a < 2 ^ 31 := by omega) (hb : b < 2 ^ 31 := by omega) : (x ≤ y → A) ∧ (¬ x ≤ y → B) := by
  subst hx hy
  rw [nI_leI ha hb]
  exact ⟨f, fun z => g (by omega)⟩
theorem pk_lt {x y : Int32} {A B : Prop} (a b : Nat) (f : a < b → A) (g : b ≤ a → B) (hx : x = nI a := by rfl) (hy : y = nI b := by rfl) (ha : a < 2 ^ 31 := by omega) (hb : b < 2 ^ 31 := by omega) : (x < y → A) ∧ (¬ x < y → B) := by
  subst hx hy
  rw [nI_ltI ha hb]
  exact ⟨f, fun z => g (by omega)⟩
theorem pk_eq {x y : Int32} {A B : Prop} (a b : Nat) (f : a = b → A) (g : a ≠ b → B) (hx : x = nI a := by rfl) (hy : y = nI b := by rfl) (ha : a < 2 ^ 31 := by omega) (hb : b < 2 ^ 31 := by omega) : (x = y → A) ∧ (¬ x = y → B) := by
  subst hx hy
  rw [nI_eq ha hb]
  exact ⟨f, g⟩
theorem pk_in {x : Int32} (n N : Nat) (h : n < N) (hx : x = nI n := by rfl) (hN : N < 2 ^ 31 := by omega) : vp_in x N := by
  subst hx
  exact vp_in_nI h hN
theorem pk_cl {x : Int32} (n : Nat) (hx : x = nI n := by rfl) (h : n < 2 ^ 31 := by omega) : x.toNatClampNeg = n := by
  subst hx
  exact nI_clamp h
theorem pk_tn {n : Nat} (h : n < 2 ^ 32) : (nI n).toBitVec.toNat = n := Nat.mod_eq_of_lt h
theorem pk_and (x : Int32) {m : Int32} (k : Nat) (hm : m.toBitVec.toNat = 2 ^ k - 1) : x &&& m = nI (x.toBitVec.toNat % 2 ^ k) := by
  apply Int32.toBitVec_inj.mp
  apply BitVec.eq_of_toNat_eq
  rw [Int32.toBitVec_and, BitVec.toNat_and, hm, Nat.and_two_pow_sub_one_eq_mod]
  show _ = (BitVec.ofNat 32 _).toNat
  rw [BitVec.toNat_ofNat]
  exact (Nat.mod_eq_of_lt (Nat.lt_of_le_of_lt (Nat.mod_le _ _) x.toBitVec.isLt)).symm
theorem pk_andN {n : Nat} (h : n < 2 ^ 32) {m : Int32} (k : Nat) (hm : m.toBitVec.toNat = 2 ^ k - 1) : nI n &&& m = nI (n % 2 ^ k) := by
  rw [pk_and _ k hm, pk_tn h]
theorem pk_andE (x : Int32) {m : Int32} (k : Nat) (hm : m.toBitVec.toNat = 2 ^ k - 1) : ∃ j : Nat, j < 2 ^ k ∧ x &&& m = nI j := ⟨_, Nat.mod_lt _ (Nat.two_pow_pos k), pk_and x k hm⟩
theorem pk_andIn (x : Int32) {m : Int32} (k : Nat) (hm : m.toBitVec.toNat = 2 ^ k - 1) (hk : k ≤ 30) : vp_in (x &&& m) (2 ^ k) := by
  obtain ⟨j, hj, e⟩ := pk_andE x k hm
  rw [e]
  exact vp_in_nI hj (Nat.lt_of_le_of_lt (Nat.pow_le_pow_right (by decide) hk) (by decide))
theorem pk_shl (a s : Int32) (k : Nat) (hs : (s.toBitVec.smod 32).toNat = k) : (a <<< s).toBitVec.toNat = a.toBitVec.toNat * 2 ^ k % 2 ^ 32 := by
  show (a.toBitVec <<< (s.toBitVec.smod 32).toNat).toNat = _
  rw [hs, BitVec.toNat_shiftLeft, Nat.shiftLeft_eq]
theorem pk_shlN {n : Nat} (s : Int32) (k : Nat) (hs : (s.toBitVec.smod 32).toNat = k) (h : n * 2 ^ k < 2 ^ 32) : nI n <<< s = nI (n * 2 ^ k) := by
  apply Int32.toBitVec_inj.mp
  apply BitVec.eq_of_toNat_eq
  have hn : n < 2 ^ 32 := Nat.lt_of_le_of_lt (Nat.le_mul_of_pos_right n (Nat.two_pow_pos k)) h
  rw [pk_shl _ _ k hs, pk_tn hn, pk_tn h, Nat.mod_eq_of_lt h]
theorem pk_shr (a s : Int32) (k : Nat) (hs : (s.toBitVec.smod 32).toNat = k) : (a >>> s).toInt = a.toInt >>> k := by
  show (a.toBitVec.sshiftRight (s.toBitVec.smod 32).toNat).toInt = _
  rw [hs, BitVec.toInt_sshiftRight]
  rfl
theorem pk_shrN {n : Nat} (h : n < 2 ^ 31) (s : Int32) (k : Nat) (hs : (s.toBitVec.smod 32).toNat = k) : nI n >>> s = nI (n / 2 ^ k) := by
  apply Int32.toInt_inj.mp
  have h2 : n / 2 ^ k ≤ n := Nat.div_le_self _ _
  rw [pk_shr _ _ k hs, nI_toInt h, nI_toInt (by omega), Int.shiftRight_eq_div_pow]
  rfl
theorem pk_ushr (x s : Int32) (k : Nat) (hs : ((s.toUInt32 &&& Int32.toUInt32 31).toBitVec % 32).toNat = k) : (x.toUInt32 >>> (s.toUInt32 &&& Int32.toUInt32 31)).toInt32.toBitVec.toNat = x.toBitVec.toNat / 2 ^ k := by
  have e : (x.toUInt32 >>> (s.toUInt32 &&& Int32.toUInt32 31)).toInt32.toBitVec = x.toBitVec >>> k := by
    rw [← hs]
    exact UInt32.toBitVec_shiftRight _ _
  rw [e, BitVec.toNat_ushiftRight, Nat.shiftRight_eq_div_pow]
theorem pk_ushrN {n : Nat} (hn : n < 2 ^ 32) (s : Int32) (k : Nat) (hs : ((s.toUInt32 &&& Int32.toUInt32 31).toBitVec % 32).toNat = k) : ((nI n).toUInt32 >>> (s.toUInt32 &&& Int32.toUInt32 31)).toInt32 = nI (n / 2 ^ k) := by
  apply Int32.toBitVec_inj.mp
  apply BitVec.eq_of_toNat_eq
  rw [pk_ushr _ s k hs, pk_tn hn, pk_tn (Nat.lt_of_le_of_lt (Nat.div_le_self _ _) hn)]
theorem pk_nb (z : Int32) : narrow .byte (.int z.toInt8.toInt32) = .int z.toInt8.toInt32 := congrArg Value.int (by simp)
theorem pk_ns (z : Int32) : narrow .short (.int z.toInt16.toInt32) = .int z.toInt16.toInt32 := congrArg Value.int (by simp)
theorem pk_fb (r : Int32) : fits .byte (.int r.toInt8.toInt32) = true := by
  have ⟨a, b⟩ := lg_i2b_range r
  have h1 : (-128 : Int32).toInt = -128 := by decide
  have h2 : (127 : Int32).toInt = 127 := by decide
  simp only [fits, Bool.and_eq_true, decide_eq_true_eq, Int32.le_iff_toInt_le, h1, h2]
  omega
theorem pk_fs (r : Int32) : fits .short (.int r.toInt16.toInt32) = true := by
  have ⟨a, b⟩ := lg_i2s_range r
  have h1 : (-32768 : Int32).toInt = -32768 := by decide
  have h2 : (32767 : Int32).toInt = 32767 := by decide
  simp only [fits, Bool.and_eq_true, decide_eq_true_eq, Int32.le_iff_toInt_le, h1, h2]
  omega
theorem pk_charN {q : Nat} (hq : q < 65536) : narrow .char (.int (nI q)) = .int (nI q) ∧ fits .char (.int (nI q)) = true := by
  constructor
  · have e : (nI q).toUInt32.toUInt16.toUInt32.toInt32 = nI q := by
      apply Int32.toBitVec_inj.mp
      apply BitVec.eq_of_toNat_eq
      show (nI q).toUInt32.toUInt16.toUInt32.toNat = q % 2 ^ 32
      rw [UInt16.toNat_toUInt32, UInt32.toNat_toUInt16, show (nI q).toUInt32.toNat = q % 2 ^ 32 from rfl]
      omega
    exact congrArg Value.int e
  · have a : (0 : Int32) ≤ nI q := nI_pos' (by omega)
    have b : nI q ≤ 65535 := nI_le (b := 65535) (by omega) (by decide)
    show (decide ((0 : Int32) ≤ nI q) && decide (nI q ≤ 65535)) = true
    rw [decide_eq_true a, decide_eq_true b]
    rfl
theorem pk_char (x : Int32) : (x.toUInt32 % 65536).toInt32 = nI (x.toBitVec.toNat % 65536) := by
  apply Int32.toBitVec_inj.mp
  apply BitVec.eq_of_toNat_eq
  rw [pk_tn (by omega)]
  show (x.toUInt32 % 65536).toNat = _
  rw [UInt32.toNat_mod]
  rfl
theorem pk_nc (x : Int32) : narrow .char (.int (x.toUInt32 % 65536).toInt32) = .int (x.toUInt32 % 65536).toInt32 := by
  rw [pk_char]
  exact (pk_charN (Nat.mod_lt _ (by decide))).1
theorem pk_fc (x : Int32) : fits .char (.int (x.toUInt32 % 65536).toInt32) = true := by
  rw [pk_char]
  exact (pk_charN (Nat.mod_lt _ (by decide))).2
theorem pk_vb (z : Int32) : vp_nar .byte z.toInt8.toInt32 = z.toInt8.toInt32 := by rw [vp_nar_byte]; simp
theorem pk_vs (z : Int32) : vp_nar .short z.toInt16.toInt32 = z.toInt16.toInt32 := by rw [vp_nar_short]; simp
theorem pk_vc (z : Int32) : vp_nar .char (z.toUInt32 % 65536).toInt32 = (z.toUInt32 % 65536).toInt32 := Value.int.inj (pk_nc z)
theorem pk_lT {n : Nat} (h : n < 2 ^ 63) : (lN n).toInt = (n : Int) := lg_ofNat_toInt h
theorem pk_lLT {a b : Nat} (ha : a < 2 ^ 63) (hb : b < 2 ^ 63) : lN a < lN b ↔ a < b := by
  rw [Int64.lt_iff_toInt_lt, pk_lT ha, pk_lT hb]; omega
theorem pk_lLE {a b : Nat} (ha : a < 2 ^ 63) (hb : b < 2 ^ 63) : lN a ≤ lN b ↔ a ≤ b := by
  rw [Int64.le_iff_toInt_le, pk_lT ha, pk_lT hb]; omega
theorem pk_lEQ {a b : Nat} (ha : a < 2 ^ 63) (hb : b < 2 ^ 63) : lN a = lN b ↔ a = b := by
  rw [← Int64.toInt_inj, pk_lT ha, pk_lT hb]; omega
theorem pk_lOf {x : Int64} (h : ¬ x < 0) : ∃ k : Nat, k < 2 ^ 63 ∧ x = lN k := by
  rw [Int64.lt_iff_toInt_lt] at h
  have h0 : (0 : Int64).toInt = 0 := by decide
  have hx := Int64.toInt_lt x
  refine ⟨x.toInt.toNat, by omega, Int64.toInt_inj.mp ?_⟩
  rw [pk_lT (by omega)]
  omega
theorem pk_lDiv {a b : Nat} (ha : a < 2 ^ 63) (h0 : 0 < b) (hb : b < 2 ^ 63) : lN a / lN b = lN (a / b) := by
  apply Int64.toInt_inj.mp
  rw [lg_ldiv_nonneg (by rw [pk_lT ha]; omega) (by rw [pk_lT hb]; omega), pk_lT ha, pk_lT hb, pk_lT (Nat.lt_of_le_of_lt (Nat.div_le_self a b) ha)]
  rfl
theorem pk_lRem {a b : Nat} (ha : a < 2 ^ 63) (h0 : 0 < b) (hb : b < 2 ^ 63) : lN a - lN a / lN b * lN b = lN (a % b) := by
  rw [pk_lDiv ha h0 hb, lN_mul, lN_sub (Nat.div_mul_le_self a b)]
  exact congrArg lN (by have := Nat.div_add_mod' a b; omega)
theorem pk_loop {σ : Type} (W : Nat → Nat → σ → Prop) (I : Nat → σ → Prop) (e i0 : Nat) (s : σ) (hi : i0 ≤ e) (h0 : I i0 s) (hx : ∀ n s, I e s → W (n + 1) e s)
    (hs : ∀ n i s, i < e → I i s → (∀ s', I (i + 1) s' → W n (i + 1) s') → W (n + 1) i s) : ∃ n, W n i0 s :=
  ⟨e + 1, loop_i W I e hx hs (e + 1) i0 s hi (by omega) h0⟩
theorem pk_loopD {σ : Type} (W : Nat → Nat → σ → Prop) (I : Nat → σ → Prop) (hx : ∀ n s, I 0 s → W (n + 1) 0 s)
    (hs : ∀ n i s, I (i + 1) s → (∀ s', I i s' → W n i s') → W (n + 1) (i + 1) s) : ∀ (e : Nat) (s : σ), I e s → W (e + 1) e s := by
  intro e
  induction e with
  | zero => exact fun s h => hx 0 s h
  | succ e ih => exact fun s h => hs (e + 1) e s h (fun s' h' => ih s' h')
end
section
/-! enumerations: strictly rising under lt, with exactly the members of P -/
def tq_EN {α : Type} (lt : α → α → Prop) (P : α → Prop) (e : Nat → α) (n : Nat) : Prop :=
  (∀ i j, i < j → j < n → lt (e i) (e j)) ∧ (∀ i, i < n → P (e i)) ∧ (∀ x, P x → ∃ i, i < n ∧ e i = x)
theorem tq_en_eq {α : Type} {lt : α → α → Prop} {P : α → Prop} (ir : ∀ a, ¬ lt a a) (tr : ∀ a b c, lt a b → lt b c → lt a c) {e e' : Nat → α} {n n' : Nat} (h : tq_EN lt P e n) (h' : tq_EN lt P e' n') : ∀ i, i < n → i < n' → e i = e' i := by
  obtain ⟨s, m, c⟩ := h
  obtain ⟨s', m', c'⟩ := h'
  intro i
  induction i using Nat.strongRecOn with
  | ind i ih =>
    intro hi hi'
    obtain ⟨k, hk, ek⟩ := c' _ (m i hi)
    obtain ⟨l, hl, el⟩ := c _ (m' i hi')
    rcases Nat.lt_trichotomy k i with z | z | z
    · have q := s k i z hi
      rw [ih k z (by omega) (by omega), ek] at q
      exact absurd q (ir _)
    · rw [← ek, z]
    · rcases Nat.lt_trichotomy l i with y | y | y
      · have q := s' l i y hi'
        rw [← ih l y (by omega) (by omega), el] at q
        exact absurd q (ir _)
      · rw [← el, y]
      · have q1 := s' i k z hk
        have q2 := s i l y hl
        rw [ek] at q1
        rw [el] at q2
        exact absurd (tr _ _ _ q1 q2) (ir _)
theorem tq_en_le {α : Type} {lt : α → α → Prop} {P : α → Prop} (ir : ∀ a, ¬ lt a a) (tr : ∀ a b c, lt a b → lt b c → lt a c) {e e' : Nat → α} {n n' : Nat} (h : tq_EN lt P e n) (h' : tq_EN lt P e' n') : n ≤ n' := by
  rcases Nat.lt_or_ge n' n with z | z
  · obtain ⟨k, hk, ek⟩ := h'.2.2 _ (h.2.1 n' z)
    have q := h.1 k n' hk z
    rw [tq_en_eq ir tr h h' k (by omega) hk, ek] at q
    exact absurd q (ir _)
  · exact z
theorem tq_en_n {α : Type} {lt : α → α → Prop} {P : α → Prop} (ir : ∀ a, ¬ lt a a) (tr : ∀ a b c, lt a b → lt b c → lt a c) {e e' : Nat → α} {n n' : Nat} (h : tq_EN lt P e n) (h' : tq_EN lt P e' n') : n = n' :=
  Nat.le_antisymm (tq_en_le ir tr h h') (tq_en_le ir tr h' h)
theorem tq_en_iff {α : Type} {lt : α → α → Prop} {P Q : α → Prop} {e : Nat → α} {n : Nat} (q : ∀ x, P x ↔ Q x) (h : tq_EN lt P e n) : tq_EN lt Q e n :=
  ⟨h.1, fun i hi => (q _).mp (h.2.1 i hi), fun x hx => h.2.2 x ((q x).mpr hx)⟩
theorem tq_en_0 {α : Type} {lt : α → α → Prop} {P : α → Prop} {e : Nat → α} (q : ∀ x, ¬ P x) : tq_EN lt P e 0 :=
  ⟨fun _ _ _ h => absurd h (by omega), fun _ h => absurd h (by omega), fun x hx => absurd hx (q x)⟩
theorem tq_en_cg {α : Type} {lt : α → α → Prop} {P : α → Prop} {e e' : Nat → α} {n : Nat} (q : ∀ i, i < n → e' i = e i) (h : tq_EN lt P e n) : tq_EN lt P e' n :=
  ⟨fun i j hij hj => by rw [q i (by omega), q j hj]; exact h.1 i j hij hj, fun i hi => by rw [q i hi]; exact h.2.1 i hi, fun x hx => by
    obtain ⟨i, hi, ei⟩ := h.2.2 x hx
    exact ⟨i, hi, by rw [q i hi]; exact ei⟩⟩
/-- one more member, above all -/
theorem tq_en_s {α : Type} {lt : α → α → Prop} {P Q : α → Prop} {e e' : Nat → α} {n : Nat} {x : α} (h : tq_EN lt P e n) (q : ∀ i, i < n → e' i = e i) (hx : e' n = x) (hl : ∀ y, P y → lt y x) (hq : ∀ y, Q y ↔ (P y ∨ y = x)) : tq_EN lt Q e' (n + 1) := by
  refine ⟨fun i j hij hj => ?_, fun i hi => ?_, fun y hy => ?_⟩
  · rcases Nat.lt_or_ge j n with z | z
    · rw [q i (by omega), q j z]; exact h.1 i j hij z
    · have : j = n := by omega
      subst this
      rw [hx, q i hij]
      exact hl _ (h.2.1 i hij)
  · rcases Nat.lt_or_ge i n with z | z
    · rw [q i z]; exact (hq _).mpr (Or.inl (h.2.1 i z))
    · have : i = n := by omega
      subst this
      exact (hq _).mpr (Or.inr hx)
  · rcases (hq y).mp hy with z | z
    · obtain ⟨i, hi, ei⟩ := h.2.2 y z
      exact ⟨i, by omega, by rw [q i hi]; exact ei⟩
    · exact ⟨n, by omega, by rw [hx, z]⟩
theorem tq_pg {α : Type} : ∀ (n' n : Nat) (e e' : Nat → α), (∀ i j, i < j → j < n → e i ≠ e j) → (∀ i, i < n → ∃ j, j < n' ∧ e' j = e i) → n ≤ n' := by
  intro n'
  induction n' with
  | zero =>
    intro n e e' hi hc
    rcases Nat.eq_zero_or_pos n with z | z
    · omega
    · obtain ⟨j, hj, _⟩ := hc 0 z; omega
  | succ n' ih =>
    intro n e e' hi hc
    rcases Classical.em (∃ i, i < n ∧ e i = e' n') with ⟨i0, h0, e0⟩ | hno
    · have ne : ∀ i, i < n → i ≠ i0 → e i ≠ e i0 := by
        intro i h1 h2
        rcases Nat.lt_or_ge i i0 with z | z
        · exact hi i i0 z h0
        · exact fun q => hi i0 i (by omega) h1 q.symm
      have := ih (n - 1) (fun j => if j < i0 then e j else e (j + 1)) e' (by
        intro i j hij hj
        by_cases a : i < i0 <;> by_cases b : j < i0 <;> simp only [a, b, if_true, if_false]
        · exact hi i j hij (by omega)
        · exact hi i (j + 1) (by omega) (by omega)
        · omega
        · exact hi (i + 1) (j + 1) (by omega) (by omega)) (by
        intro i hi1
        by_cases a : i < i0 <;> simp only [a, if_true, if_false]
        · obtain ⟨j, hj, ej⟩ := hc i (by omega)
          refine ⟨j, ?_, ej⟩
          rcases Nat.lt_or_ge j n' with z | z
          · exact z
          · have : j = n' := by omega
            subst this
            exact absurd (ej.symm.trans e0.symm) (ne i (by omega) (by omega))
        · obtain ⟨j, hj, ej⟩ := hc (i + 1) (by omega)
          refine ⟨j, ?_, ej⟩
          rcases Nat.lt_or_ge j n' with z | z
          · exact z
          · have : j = n' := by omega
            subst this
            exact absurd (ej.symm.trans e0.symm) (ne (i + 1) (by omega) (by omega)))
      omega
    · have := ih n e e' hi (by
        intro i h1
        obtain ⟨j, hj, ej⟩ := hc i h1
        refine ⟨j, ?_, ej⟩
        rcases Nat.lt_or_ge j n' with z | z
        · exact z
        · have : j = n' := by omega
          subst this
          exact absurd ⟨i, h1, ej.symm⟩ hno)
      omega
/-! arrays of small naturals -/
def tq_n (f : Nat → Nat) : Nat → Int32 := fun i => nI (f i)
def tq_u {α : Type} (f : Nat → α) (k : Nat) (x : α) : Nat → α := fun j => if j = k then x else f j
theorem tq_us {α : Type} {f : Nat → α} {k : Nat} {x : α} : tq_u f k x k = x := if_pos rfl
theorem tq_un {α : Type} {f : Nat → α} {k j : Nat} {x : α} (h : j ≠ k) : tq_u f k x j = f j := if_neg h
theorem tq_nu (f : Nat → Nat) (k x : Nat) : upd (tq_n f) k (nI x) = tq_n (tq_u f k x) := by
  funext j
  show (if j = k then nI x else nI (f j)) = nI (if j = k then x else f j)
  by_cases h : j = k <;> simp [h]
theorem tq_uall {α : Type} {P : α → Prop} {f : Nat → α} {k : Nat} {x : α} (h : ∀ i, P (f i)) (hx : P x) : ∀ i, P (tq_u f k x i) := by
  intro i
  by_cases e : i = k
  · rw [e, tq_us]; exact hx
  · rw [tq_un e]; exact h i
theorem tq_updall {P : Int32 → Prop} {f : Nat → Int32} {k : Nat} {x : Int32} (h : ∀ i, P (f i)) (hx : P x) : ∀ i, P (upd f k x i) := by
  intro i
  by_cases e : i = k
  · rw [e, pk_us]; exact hx
  · rw [pk_un e]; exact h i
theorem tq_nI0 : (0 : Int32) = nI 0 := rfl
theorem tq_m1 : ¬ (0 : Int32) ≤ -1 := by decide
theorem tq_m1' : (-1 : Int32) < 0 := by decide
def tq_b (b : Bool) : Int32 := if b = true then 1 else 0
theorem tq_b1 {b : Bool} (h : b = true) : tq_b b = 1 := if_pos h
theorem tq_b0 {b : Bool} (h : b = false) : tq_b b = 0 := by rw [h]; rfl
/-! bits of numbers below 8 -/
theorem tq_bsub : ∀ a b : Fin 8, ((nI a &&& (nI b ^^^ (-1))) = 0 ↔ ∀ p, p < 3 → a.val.testBit p = true → b.val.testBit p = true) := by decide +kernel
theorem tq_band : ∀ a b : Fin 8, ((nI a &&& nI b) = 0 ↔ ∀ p, p < 3 → a.val.testBit p = true → b.val.testBit p = false) := by decide +kernel
theorem tq_bshr : ∀ (a : Fin 8) (p : Fin 3), (((nI a >>> (nI p &&& 31)) &&& 1) = 1 ↔ a.val.testBit p = true) ∧ (((nI a >>> (nI p &&& 31)) &&& 1) = 0 ↔ a.val.testBit p = false) := by decide +kernel
theorem tq_bor : ∀ a b : Fin 8, nI a ||| nI b = nI (a.val ||| b.val) ∧ a.val ||| b.val < 8 := by decide +kernel
theorem tq_bone : ∀ p : Fin 3, (1 : Int32) <<< (nI p &&& 31) = nI (2 ^ p.val) ∧ 2 ^ p.val < 8 := by decide +kernel
theorem tq_ext8 : ∀ a b : Fin 8, (∀ p, p < 3 → a.val.testBit p = b.val.testBit p) → a.val = b.val := by decide +kernel
theorem tq_sub {a b : Nat} (ha : a < 8) (hb : b < 8) : (nI a &&& (nI b ^^^ (-1))) = 0 ↔ ∀ p, p < 3 → a.testBit p = true → b.testBit p = true := tq_bsub ⟨a, ha⟩ ⟨b, hb⟩
theorem tq_and {a b : Nat} (ha : a < 8) (hb : b < 8) : (nI a &&& nI b) = 0 ↔ ∀ p, p < 3 → a.testBit p = true → b.testBit p = false := tq_band ⟨a, ha⟩ ⟨b, hb⟩
theorem tq_shr1 {a p : Nat} (ha : a < 8) (hp : p < 3) : ((nI a >>> (nI p &&& 31)) &&& 1) = 1 ↔ a.testBit p = true := (tq_bshr ⟨a, ha⟩ ⟨p, hp⟩).1
theorem tq_shr0 {a p : Nat} (ha : a < 8) (hp : p < 3) : ((nI a >>> (nI p &&& 31)) &&& 1) = 0 ↔ a.testBit p = false := (tq_bshr ⟨a, ha⟩ ⟨p, hp⟩).2
theorem tq_or {a b : Nat} (ha : a < 8) (hb : b < 8) : nI a ||| nI b = nI (a ||| b) := (tq_bor ⟨a, ha⟩ ⟨b, hb⟩).1
theorem tq_or8 {a b : Nat} (ha : a < 8) (hb : b < 8) : a ||| b < 8 := (tq_bor ⟨a, ha⟩ ⟨b, hb⟩).2
theorem tq_one {p : Nat} (hp : p < 3) : (1 : Int32) <<< (nI p &&& 31) = nI (2 ^ p) := (tq_bone ⟨p, hp⟩).1
theorem tq_one8 {p : Nat} (hp : p < 3) : 2 ^ p < 8 := (tq_bone ⟨p, hp⟩).2
theorem tq_tp (p q : Nat) : (2 ^ p).testBit q = decide (p = q) := Nat.testBit_two_pow
/-! numbers -/
def tq_rg (x : Int32) : Prop := -50 ≤ x.toInt ∧ x.toInt ≤ 50
theorem tq_rg0 : tq_rg 0 := by unfold tq_rg; decide
theorem tq_toInt_lit50 : (50 : Int32).toInt = 50 := by decide
theorem tq_toInt_litm50 : (-50 : Int32).toInt = -50 := by decide
theorem tq_rgI {x : Int32} : (¬ x < -50 ∧ x ≤ 50) ↔ tq_rg x := by
  unfold tq_rg
  rw [Int32.lt_iff_toInt_lt, Int32.le_iff_toInt_le, tq_toInt_lit50, tq_toInt_litm50]
  omega
end
section
def tq_Q (nf ni nt : Nat) (fr ik ic tk rn : Nat → Nat) (grp dst oi od lim : Int32) (cx cy : Nat → Int32) : Prop :=
  nf ≤ 3 ∧ ni ≤ 4 ∧ nt ≤ 24 ∧ (∀ i, fr i < 3) ∧ (∀ i j, i < j → j < nf → fr i ≠ fr j) ∧ (∀ i, ik i ≤ 4) ∧ (∀ i, ic i ≤ 8) ∧ (∀ i, tk i ≤ 36) ∧ (∀ i, rn i ≤ 10) ∧ (grp = -1 ∨ ∃ g, g ≤ 8 ∧ grp = nI g) ∧ (dst = 0 ∨ dst = 1) ∧ (oi = -1 ∨ ∃ o, o ≤ 3 ∧ oi = nI o) ∧ (od = 0 ∨ od = 1) ∧ (lim = -1 ∨ ∃ l, l ≤ 50 ∧ lim = nI l) ∧ (∀ i, tq_rg (cx i)) ∧ (∀ i, tq_rg (cy i)) ∧ (∀ t r c, t < 3 → r < rn t → c < 3 → cx (30 * t + 3 * r + c) = cy (30 * t + 3 * r + c))
/-- both objects hold the same question; of the tables the rows that stand -/
def i_Rel (_ : Nat) (u : SX) (v : SY) : Prop := match u with | (f_froms, f_items, f_tokens, f_group, f_distinct, f_orderItem, f_orderDown, f_limit, f_nodes, f_waitingNodes, f_waitingWords, f_broken, f_top, f_parts, f_combos, f_nextCombos, f_placed, f_results, a_rows, a_cells, a_from, a_itemKind, a_itemColumn, a_token, a_kind, a_left, a_right, a_needs, a_truth, a_waitNode, a_waitWord, a_part, a_canCount, a_can, a_combo, a_nextCombo, a_current, a_stays, a_result, a_index, a_sorted, a_key, a_table) => match v with | (g_fromCount, g_items, g_tokenCount, g_grouped, g_distinct, g_orderItem, g_orderDown, g_most, g_truthCount, g_openCount, g_chosenCount, g_resultCount, b_cells, b_counts, b_froms, b_kinds, b_columns, b_tokens, b_at, b_truths, b_open, b_chosen, b_results) => ∃ (nf ni nt : Nat) (fr ik ic tk rn : Nat → Nat), (f_froms = nI nf ∧ f_items = nI ni ∧ f_tokens = nI nt ∧ a_from = tq_n fr ∧ a_itemKind = tq_n ik ∧ a_itemColumn = tq_n ic ∧ a_token = tq_n tk ∧ a_rows = tq_n rn ∧ g_fromCount = nI nf ∧ g_items = nI ni ∧ g_tokenCount = nI nt ∧ g_grouped = f_group ∧ g_distinct = f_distinct ∧ g_orderItem = f_orderItem ∧ g_orderDown = f_orderDown ∧ g_most = f_limit ∧ b_counts = tq_n rn ∧ b_froms = tq_n fr ∧ b_kinds = tq_n ik ∧ b_columns = tq_n ic ∧ b_tokens = tq_n tk) ∧ tq_Q nf ni nt fr ik ic tk rn f_group f_distinct f_orderItem f_orderDown f_limit a_cells b_cells
theorem tq_in {k : Nat} {nf ni nt : Nat} {fr ik ic tk rn : Nat → Nat} {f_group f_distinct f_orderItem f_orderDown f_limit f_nodes f_waitingNodes f_waitingWords f_broken f_top f_parts f_combos f_nextCombos f_placed f_results : Int32} {a_cells a_kind a_left a_right a_needs a_truth a_waitNode a_waitWord a_part a_canCount a_can a_combo a_nextCombo a_current a_stays a_result a_index a_sorted a_key a_table : Nat → Int32} {g_truthCount g_openCount g_chosenCount g_resultCount : Int32} {b_cells b_at b_truths b_open b_chosen b_results : Nat → Int32} (h : tq_Q nf ni nt fr ik ic tk rn f_group f_distinct f_orderItem f_orderDown f_limit a_cells b_cells) : i_Rel k ((nI nf), (nI ni), (nI nt), f_group, f_distinct, f_orderItem, f_orderDown, f_limit, f_nodes, f_waitingNodes, f_waitingWords, f_broken, f_top, f_parts, f_combos, f_nextCombos, f_placed, f_results, (tq_n rn), a_cells, (tq_n fr), (tq_n ik), (tq_n ic), (tq_n tk), a_kind, a_left, a_right, a_needs, a_truth, a_waitNode, a_waitWord, a_part, a_canCount, a_can, a_combo, a_nextCombo, a_current, a_stays, a_result, a_index, a_sorted, a_key, a_table) ((nI nf), (nI ni), (nI nt), f_group, f_distinct, f_orderItem, f_orderDown, f_limit, g_truthCount, g_openCount, g_chosenCount, g_resultCount, b_cells, (tq_n rn), (tq_n fr), (tq_n ik), (tq_n ic), (tq_n tk), b_at, b_truths, b_open, b_chosen, b_results) :=
  ⟨nf, ni, nt, fr, ik, ic, tk, rn, ⟨rfl, rfl, rfl, rfl, rfl, rfl, rfl, rfl, rfl, rfl, rfl, rfl, rfl, rfl, rfl, rfl, rfl, rfl, rfl, rfl, rfl⟩, h⟩
theorem tq_el {P : SX → SY → Prop} (h : ∀ (nf ni nt : Nat) (fr ik ic tk rn : Nat → Nat) (f_group f_distinct f_orderItem f_orderDown f_limit f_nodes f_waitingNodes f_waitingWords f_broken f_top f_parts f_combos f_nextCombos f_placed f_results : Int32) (a_cells a_kind a_left a_right a_needs a_truth a_waitNode a_waitWord a_part a_canCount a_can a_combo a_nextCombo a_current a_stays a_result a_index a_sorted a_key a_table : Nat → Int32) (g_truthCount g_openCount g_chosenCount g_resultCount : Int32) (b_cells b_at b_truths b_open b_chosen b_results : Nat → Int32), tq_Q nf ni nt fr ik ic tk rn f_group f_distinct f_orderItem f_orderDown f_limit a_cells b_cells → P ((nI nf), (nI ni), (nI nt), f_group, f_distinct, f_orderItem, f_orderDown, f_limit, f_nodes, f_waitingNodes, f_waitingWords, f_broken, f_top, f_parts, f_combos, f_nextCombos, f_placed, f_results, (tq_n rn), a_cells, (tq_n fr), (tq_n ik), (tq_n ic), (tq_n tk), a_kind, a_left, a_right, a_needs, a_truth, a_waitNode, a_waitWord, a_part, a_canCount, a_can, a_combo, a_nextCombo, a_current, a_stays, a_result, a_index, a_sorted, a_key, a_table) ((nI nf), (nI ni), (nI nt), f_group, f_distinct, f_orderItem, f_orderDown, f_limit, g_truthCount, g_openCount, g_chosenCount, g_resultCount, b_cells, (tq_n rn), (tq_n fr), (tq_n ik), (tq_n ic), (tq_n tk), b_at, b_truths, b_open, b_chosen, b_results)) {k : Nat} {u : SX} {v : SY} (I : i_Rel k u v) : P u v := by
  obtain ⟨f_froms, f_items, f_tokens, f_group, f_distinct, f_orderItem, f_orderDown, f_limit, f_nodes, f_waitingNodes, f_waitingWords, f_broken, f_top, f_parts, f_combos, f_nextCombos, f_placed, f_results, a_rows, a_cells, a_from, a_itemKind, a_itemColumn, a_token, a_kind, a_left, a_right, a_needs, a_truth, a_waitNode, a_waitWord, a_part, a_canCount, a_can, a_combo, a_nextCombo, a_current, a_stays, a_result, a_index, a_sorted, a_key, a_table⟩ := u
  obtain ⟨g_fromCount, g_items, g_tokenCount, g_grouped, g_distinct, g_orderItem, g_orderDown, g_most, g_truthCount, g_openCount, g_chosenCount, g_resultCount, b_cells, b_counts, b_froms, b_kinds, b_columns, b_tokens, b_at, b_truths, b_open, b_chosen, b_results⟩ := v
  obtain ⟨nf, ni, nt, fr, ik, ic, tk, rn, ⟨e1, e2, e3, e4, e5, e6, e7, e8, e9, e10, e11, e12, e13, e14, e15, e16, e17, e18, e19, e20, e21⟩, q⟩ := I
  subst e1 e2 e3 e4 e5 e6 e7 e8 e9 e10 e11 e12 e13 e14 e15 e16 e17 e18 e19 e20 e21
  exact h nf ni nt fr ik ic tk rn g_grouped g_distinct g_orderItem g_orderDown g_most f_nodes f_waitingNodes f_waitingWords f_broken f_top f_parts f_combos f_nextCombos f_placed f_results a_cells a_kind a_left a_right a_needs a_truth a_waitNode a_waitWord a_part a_canCount a_can a_combo a_nextCombo a_current a_stays a_result a_index a_sorted a_key a_table g_truthCount g_openCount g_chosenCount g_resultCount b_cells b_at b_truths b_open b_chosen b_results q
theorem i_up {k : Nat} {u : SX} {v : SY} (h : i_Rel k u v) : i_Rel (k + 5) u v := h
theorem tq_z : (fun _ => 0 : Nat → Int32) = tq_n (fun _ => 0) := rfl
theorem i_vc0 : wpX_init (fun u => wpY_init (fun v => i_Rel 0 u v)) := by
  unfold wpX_init wpX_reset wpY_init wpY_reset
  refine ⟨0, 0, 0, fun _ => 0, fun _ => 0, fun _ => 0, fun _ => 0, fun _ => 0, ⟨rfl, rfl, rfl, rfl, rfl, rfl, rfl, rfl, rfl, rfl, rfl, rfl, rfl, rfl, rfl, rfl, rfl, rfl, rfl, rfl, rfl⟩, ?_⟩
  exact ⟨by omega, by omega, by omega, fun _ => Nat.zero_lt_succ _, fun _ _ _ h => absurd h (by omega), fun _ => Nat.zero_le _, fun _ => Nat.zero_le _, fun _ => Nat.zero_le _, fun _ => Nat.zero_le _, Or.inl rfl, Or.inl rfl, Or.inl rfl, Or.inl rfl, Or.inl rfl, fun _ => tq_rg0, fun _ => tq_rg0, fun _ _ _ _ h => absurd h (Nat.not_lt_zero _)⟩
theorem tq_3i : (nI 3).toInt = 3 := by decide
theorem tq_9i : (nI 9).toInt = 9 := by decide
theorem tq_l3 : (3 : Int32).toInt = 3 := by decide
theorem tq_l2 : (2 : Int32).toInt = 2 := by decide
theorem tq_l8 : (8 : Int32).toInt = 8 := by decide
theorem xw_bT1 {post : Int32 → Prop} {u : SX} {x : Int32} (h : x < 0 ∨ nI 3 ≤ x) (hp : post 1) : wpX_badTable post u x := by
  obtain ⟨_, _, _, _, _, _, _, _, _, _, _, _, _, _, _, _, _, _, _, _, _, _, _, _, _, _, _, _, _, _, _, _, _, _, _, _, _, _, _, _, _, _, _⟩ := u
  refine br_c (fun _ => hp) (fun h0 => br_f ?_ hp)
  rcases h with z | z
  · exact absurd z h0
  · rw [Int32.lt_iff_toInt_lt, tq_l3]; rw [Int32.le_iff_toInt_le, tq_3i] at z; omega
theorem xw_bT0 {post : Int32 → Prop} {u : SX} {j : Nat} (h : j < 3) (hp : post 0) : wpX_badTable post u (nI j) := by
  obtain ⟨_, _, _, _, _, _, _, _, _, _, _, _, _, _, _, _, _, _, _, _, _, _, _, _, _, _, _, _, _, _, _, _, _, _, _, _, _, _, _, _, _, _, _⟩ := u
  exact br_f (nI_pos (by omega)) (br_t (nI_lt (b := 3) h (by decide)) hp)
theorem xw_bC1 {post : Int32 → Prop} {u : SX} {x : Int32} (h : x < 0 ∨ nI 9 ≤ x) (hp : post 1) : wpX_badColumn post u x := by
  obtain ⟨_, _, _, _, _, _, _, _, _, _, _, _, _, _, _, _, _, _, _, _, _, _, _, _, _, _, _, _, _, _, _, _, _, _, _, _, _, _, _, _, _, _, _⟩ := u
  refine br_c (fun _ => hp) (fun h0 => br_f ?_ hp)
  rcases h with z | z
  · exact absurd z h0
  · rw [Int32.le_iff_toInt_le, tq_l8]; rw [Int32.le_iff_toInt_le, tq_9i] at z; omega
theorem xw_bC0 {post : Int32 → Prop} {u : SX} {j : Nat} (h : j < 9) (hp : post 0) : wpX_badColumn post u (nI j) := by
  obtain ⟨_, _, _, _, _, _, _, _, _, _, _, _, _, _, _, _, _, _, _, _, _, _, _, _, _, _, _, _, _, _, _, _, _, _, _, _, _, _, _, _, _, _, _⟩ := u
  exact br_f (nI_pos (by omega)) (br_t (nI_le (b := 8) (by omega) (by decide)) hp)
theorem xw_bN1 {post : Int32 → Prop} {u : SX} {x : Int32} (h : ¬ tq_rg x) (hp : post 1) : wpX_badNumber post u x := by
  obtain ⟨_, _, _, _, _, _, _, _, _, _, _, _, _, _, _, _, _, _, _, _, _, _, _, _, _, _, _, _, _, _, _, _, _, _, _, _, _, _, _, _, _, _, _⟩ := u
  exact br_c (fun _ => hp) (fun h0 => br_f (fun z => h (tq_rgI.mp ⟨h0, z⟩)) hp)
theorem xw_bN0 {post : Int32 → Prop} {u : SX} {x : Int32} (h : tq_rg x) (hp : post 0) : wpX_badNumber post u x := by
  obtain ⟨_, _, _, _, _, _, _, _, _, _, _, _, _, _, _, _, _, _, _, _, _, _, _, _, _, _, _, _, _, _, _, _, _, _, _, _, _, _, _, _, _, _, _⟩ := u
  exact br_f (tq_rgI.mpr h).1 (br_t (tq_rgI.mpr h).2 hp)
theorem yw_iT0 {post : Int32 → Prop} {u : SY} {x : Int32} (h : x < 0 ∨ nI 3 ≤ x) (hp : post 0) : wpY_isTable post u x := by
  obtain ⟨_, _, _, _, _, _, _, _, _, _, _, _, _, _, _, _, _, _, _, _, _, _, _⟩ := u
  refine br_c (fun _ => hp) (fun h0 => br_t ?_ hp)
  rcases h with z | z
  · exact absurd z h0
  · rw [Int32.lt_iff_toInt_lt, tq_l2]; rw [Int32.le_iff_toInt_le, tq_3i] at z; omega
theorem yw_iT1 {post : Int32 → Prop} {u : SY} {j : Nat} (h : j < 3) (hp : post 1) : wpY_isTable post u (nI j) := by
  obtain ⟨_, _, _, _, _, _, _, _, _, _, _, _, _, _, _, _, _, _, _, _, _, _, _⟩ := u
  exact br_f (nI_pos (by omega)) (br_f (nI_nlt (b := j) (a := 2) (by omega) (by decide)) hp)
theorem yw_iC0 {post : Int32 → Prop} {u : SY} {x : Int32} (h : x < 0 ∨ nI 9 ≤ x) (hp : post 0) : wpY_isColumn post u x := by
  obtain ⟨_, _, _, _, _, _, _, _, _, _, _, _, _, _, _, _, _, _, _, _, _, _, _⟩ := u
  refine br_c (fun _ => hp) (fun h0 => br_t ?_ hp)
  rcases h with z | z
  · exact absurd z h0
  · rw [Int32.lt_iff_toInt_lt, tq_l8]; rw [Int32.le_iff_toInt_le, tq_9i] at z; omega
theorem yw_iC1 {post : Int32 → Prop} {u : SY} {j : Nat} (h : j < 9) (hp : post 1) : wpY_isColumn post u (nI j) := by
  obtain ⟨_, _, _, _, _, _, _, _, _, _, _, _, _, _, _, _, _, _, _, _, _, _, _⟩ := u
  exact br_f (nI_pos (by omega)) (br_f (nI_nlt (b := j) (a := 8) (by omega) (by decide)) hp)
theorem yw_iN0 {post : Int32 → Prop} {u : SY} {x : Int32} (h : ¬ tq_rg x) (hp : post 0) : wpY_isNumber post u x := by
  obtain ⟨_, _, _, _, _, _, _, _, _, _, _, _, _, _, _, _, _, _, _, _, _, _, _⟩ := u
  exact br_c (fun _ => hp) (fun h0 => br_t (Int32.not_le.mp fun z => h (tq_rgI.mp ⟨h0, z⟩)) hp)
theorem yw_iN1 {post : Int32 → Prop} {u : SY} {x : Int32} (h : tq_rg x) (hp : post 1) : wpY_isNumber post u x := by
  obtain ⟨_, _, _, _, _, _, _, _, _, _, _, _, _, _, _, _, _, _, _, _, _, _, _⟩ := u
  exact br_f (tq_rgI.mpr h).1 (br_f (Int32.not_lt.mpr (tq_rgI.mpr h).2) hp)
end
section
/-! the place of a table -/
def tq_pl (fr : Nat → Nat) (t : Nat) : Nat → Int32
  | 0 => -1
  | m + 1 => if fr m = t then nI m else tq_pl fr t m
def tq_pc (nf : Nat) (fr : Nat → Nat) (t : Nat) : Nat := if 0 < nf ∧ fr 0 = t then 0 else if 1 < nf ∧ fr 1 = t then 1 else if 2 < nf ∧ fr 2 = t then 2 else 3
def tq_ds (nf : Nat) (fr : Nat → Nat) : Prop := nf ≤ 3 ∧ ∀ i j, i < j → j < nf → fr i ≠ fr j
theorem tq_pc_of {nf : Nat} {fr : Nat → Nat} {t p : Nat} (d : tq_ds nf fr) (hp : p < nf) (e : fr p = t) : tq_pc nf fr t = p := by
  obtain ⟨h3, h⟩ := d
  unfold tq_pc
  have h01 := h 0 1 (by omega)
  have h02 := h 0 2 (by omega)
  have h12 := h 1 2 (by omega)
  have : p = 0 ∨ p = 1 ∨ p = 2 := by omega
  rcases this with rfl | rfl | rfl
  · rw [if_pos ⟨hp, e⟩]
  · rw [if_neg (fun z => h01 hp (z.2.trans e.symm)), if_pos ⟨hp, e⟩]
  · rw [if_neg (fun z => h02 hp (z.2.trans e.symm)), if_neg (fun z => h12 hp (z.2.trans e.symm)), if_pos ⟨hp, e⟩]
theorem tq_pc_lt {nf : Nat} {fr : Nat → Nat} {t : Nat} (h : tq_pc nf fr t < 3) : tq_pc nf fr t < nf ∧ fr (tq_pc nf fr t) = t := by
  unfold tq_pc at h ⊢
  split
  · rename_i z; exact z
  · split
    · rename_i z; exact z
    · split
      · rename_i z; exact z
      · rename_i z0 z1 z2
        rw [if_neg z0, if_neg z1, if_neg z2] at h
        omega
theorem tq_pc_le (nf : Nat) (fr : Nat → Nat) (t : Nat) : tq_pc nf fr t ≤ 3 := by
  unfold tq_pc
  split
  · omega
  · split
    · omega
    · split <;> omega
theorem tq_pc_no {nf : Nat} {fr : Nat → Nat} {t : Nat} (d : tq_ds nf fr) (h : ¬ tq_pc nf fr t < 3) : ∀ p, p < nf → fr p ≠ t := fun p hp e => h (by rw [tq_pc_of d hp e]; have := d.1; omega)
theorem tq_pl_no {fr : Nat → Nat} {t : Nat} : ∀ m, (∀ p, p < m → fr p ≠ t) → tq_pl fr t m = -1
  | 0, _ => rfl
  | m + 1, h => by
    show (if fr m = t then nI m else tq_pl fr t m) = -1
    rw [if_neg (h m (by omega))]
    exact tq_pl_no m (fun p hp => h p (by omega))
theorem tq_pl_yes {fr : Nat → Nat} {t p : Nat} (e : fr p = t) : ∀ m, p < m → (∀ q, q < m → fr q = t → q = p) → tq_pl fr t m = nI p
  | 0, h, _ => by omega
  | m + 1, h, u => by
    show (if fr m = t then nI m else tq_pl fr t m) = nI p
    by_cases z : fr m = t
    · rw [if_pos z, u m (by omega) z]
    · rw [if_neg z]
      exact tq_pl_yes e m (by
        rcases Nat.lt_or_ge p m with y | y
        · exact y
        · have : p = m := by omega
          subst this; exact absurd e z) (fun q hq => u q (by omega))
theorem tq_pl_t {nf : Nat} {fr : Nat → Nat} {t : Nat} (d : tq_ds nf fr) (h : tq_pc nf fr t < 3) : tq_pl fr t nf = nI (tq_pc nf fr t) :=
  tq_pl_yes (tq_pc_lt h).2 nf (tq_pc_lt h).1 (fun q hq e => (tq_pc_of d hq e).symm)
theorem tq_pl_f {nf : Nat} {fr : Nat → Nat} {t : Nat} (d : tq_ds nf fr) (h : ¬ tq_pc nf fr t < 3) : tq_pl fr t nf = -1 := tq_pl_no nf (tq_pc_no d h)
section
variable {nf ni nt : Nat} {fr ik ic tk rn : Nat → Nat} {f_group f_distinct f_orderItem f_orderDown f_limit f_nodes f_waitingNodes f_waitingWords f_broken f_top f_parts f_combos f_nextCombos f_placed f_results : Int32} {a_cells a_kind a_left a_right a_needs a_truth a_waitNode a_waitWord a_part a_canCount a_can a_combo a_nextCombo a_current a_stays a_result a_index a_sorted a_key a_table : Nat → Int32}
theorem xw_place1 {post : Int32 → Prop} {t : Nat} (hf : nf ≤ 3) (ht : t < 3) (fl : ∀ i, fr i < 3) (hp : post (tq_pl fr t nf)) : ∀ d j, j + d = nf → ∀ n, d < n → wX_placeOf_4 post (nI t) (nI nf) (nI ni) (nI nt) f_group f_distinct f_orderItem f_orderDown f_limit f_nodes f_waitingNodes f_waitingWords f_broken f_top f_parts f_combos f_nextCombos f_placed f_results (tq_n rn) a_cells (tq_n fr) (tq_n ik) (tq_n ic) (tq_n tk) a_kind a_left a_right a_needs a_truth a_waitNode a_waitWord a_part a_canCount a_can a_combo a_nextCombo a_current a_stays a_result a_index a_sorted a_key a_table n (tq_pl fr t j) (nI j) := by
  intro d
  induction d with
  | zero =>
    intro j hj n hn
    obtain ⟨m, rfl⟩ : ∃ m, n = m + 1 := ⟨n - 1, by omega⟩
    have : j = nf := by omega
    subst this
    exact br_t (nI_le (by omega) (by omega)) hp
  | succ d ih =>
    intro j hj n hn
    obtain ⟨m, rfl⟩ : ∃ m, n = m + 1 := ⟨n - 1, by omega⟩
    have i1 := ih (j + 1) (by omega) m (by omega)
    have fj := fl j
    refine br_f (nI_ge (by omega) (by omega)) ⟨vp_in_nI (by omega) (by decide), ?_⟩
    rw [nI_clamp (show j < 2 ^ 31 by omega)]
    by_cases z : fr j = t
    · have e : tq_pl fr t (j + 1) = nI j := if_pos z
      rw [e] at i1
      refine br_t (by show nI (fr j) = nI t; rw [z]) (nm_r (nI_1 j) i1)
    · have e : tq_pl fr t (j + 1) = tq_pl fr t j := if_neg z
      rw [e] at i1
      refine br_f (by show ¬ nI (fr j) = nI t; rw [nI_eq (by omega) (by omega)]; exact z) (nm_r (nI_1 j) i1)
theorem xw_placeOf {post : Int32 → Prop} {t : Nat} (hf : nf ≤ 3) (ht : t < 3) (fl : ∀ i, fr i < 3) (hp : post (tq_pl fr t nf)) : wpX_placeOf post ((nI nf), (nI ni), (nI nt), f_group, f_distinct, f_orderItem, f_orderDown, f_limit, f_nodes, f_waitingNodes, f_waitingWords, f_broken, f_top, f_parts, f_combos, f_nextCombos, f_placed, f_results, (tq_n rn), a_cells, (tq_n fr), (tq_n ik), (tq_n ic), (tq_n tk), a_kind, a_left, a_right, a_needs, a_truth, a_waitNode, a_waitWord, a_part, a_canCount, a_can, a_combo, a_nextCombo, a_current, a_stays, a_result, a_index, a_sorted, a_key, a_table) (nI t) :=
  ⟨nf + 1, xw_place1 hf ht fl hp nf 0 (by omega) (nf + 1) (by omega)⟩
theorem xw_at {post : Int32 → Prop} {u : SX} {k r : Nat} (hk : k < 9) (hr : r < 10) (hp : post (nI (30 * (k / 3) + 3 * r + k % 3))) : wpX_at post u (nI k) (nI r) := by
  obtain ⟨_, _, _, _, _, _, _, _, _, _, _, _, _, _, _, _, _, _, _, _, _, _, _, _, _, _, _, _, _, _, _, _, _, _, _, _, _, _, _, _, _, _, _⟩ := u
  refine ⟨by decide, by decide, ?_⟩
  have e : ((30 * (nI k / 3)) + (3 * nI r)) + (nI k - nI k / 3 * 3) = nI (30 * (k / 3) + 3 * r + k % 3) := by
    have a : nI k / 3 = nI (k / 3) := pk_div (d := 3) (by omega) (by omega) (by decide)
    have b : nI k - nI k / 3 * 3 = nI (k % 3) := pk_rem (d := 3) (by omega) (by omega) (by decide)
    rw [b, a]
    show nI 30 * nI (k / 3) + nI 3 * nI r + nI (k % 3) = _
    rw [pk_mul, pk_mul, nI_add, nI_add]
  rw [e]
  exact hp
end
section
variable {nf ni nt : Nat} {fr ik ic tk rn : Nat → Nat} {g_grouped g_distinct g_orderItem g_orderDown g_most g_truthCount g_openCount g_chosenCount g_resultCount : Int32} {b_cells b_at b_truths b_open b_chosen b_results : Nat → Int32}
theorem yw_isFrom1 {post : Int32 → Prop} {t : Nat} (hf : nf ≤ 3) (ht : t < 3) (fl : ∀ i, fr i < 3) (h1 : (∃ p, p < nf ∧ fr p = t) → post 1) (h0 : (∀ p, p < nf → fr p ≠ t) → post 0) : ∀ d j, j + d = nf → (∀ p, p < j → fr p ≠ t) → ∀ n, d < n → wY_isFrom_2 post (nI t) (nI nf) (nI ni) (nI nt) g_grouped g_distinct g_orderItem g_orderDown g_most g_truthCount g_openCount g_chosenCount g_resultCount b_cells (tq_n rn) (tq_n fr) (tq_n ik) (tq_n ic) (tq_n tk) b_at b_truths b_open b_chosen b_results n (nI j) := by
  intro d
  induction d with
  | zero =>
    intro j hj hb n hn
    obtain ⟨m, rfl⟩ : ∃ m, n = m + 1 := ⟨n - 1, by omega⟩
    have : j = nf := by omega
    subst this
    exact br_t (nI_le (by omega) (by omega)) (h0 hb)
  | succ d ih =>
    intro j hj hb n hn
    obtain ⟨m, rfl⟩ : ∃ m, n = m + 1 := ⟨n - 1, by omega⟩
    have fj := fl j
    refine br_f (nI_ge (by omega) (by omega)) ⟨vp_in_nI (by omega) (by decide), ?_⟩
    rw [nI_clamp (show j < 2 ^ 31 by omega)]
    by_cases z : fr j = t
    · exact br_t (by show nI (fr j) = nI t; rw [z]) (h1 ⟨j, by omega, z⟩)
    · refine br_f (by show ¬ nI (fr j) = nI t; rw [nI_eq (by omega) (by omega)]; exact z) (nm_r (nI_1 j) (ih (j + 1) (by omega) (fun p hp => ?_) m (by omega)))
      rcases Nat.lt_or_ge p j with y | y
      · exact hb p y
      · have : p = j := by omega
        rw [this]; exact z
theorem yw_isFrom {post : Int32 → Prop} {t : Nat} (d : tq_ds nf fr) (ht : t < 3) (fl : ∀ i, fr i < 3) (h1 : tq_pc nf fr t < 3 → post 1) (h0 : ¬ tq_pc nf fr t < 3 → post 0) : wpY_isFrom post ((nI nf), (nI ni), (nI nt), g_grouped, g_distinct, g_orderItem, g_orderDown, g_most, g_truthCount, g_openCount, g_chosenCount, g_resultCount, b_cells, (tq_n rn), (tq_n fr), (tq_n ik), (tq_n ic), (tq_n tk), b_at, b_truths, b_open, b_chosen, b_results) (nI t) :=
  ⟨nf + 1, yw_isFrom1 d.1 ht fl (fun ⟨p, hp, e⟩ => h1 (by rw [tq_pc_of d hp e]; have := d.1; omega)) (fun h => h0 (fun z => h _ (tq_pc_lt z).1 (tq_pc_lt z).2)) nf 0 (by omega) (fun p hp => absurd hp (by omega)) (nf + 1) (by omega)⟩
end
end
section

theorem tq_ix (x : Int32) (n : Nat) (hn : n < 2 ^ 31) : (x < 0 ∨ nI n ≤ x) ∨ ∃ j, j < n ∧ x = nI j := by
  rcases pk_ix x hn with h | h | h
  · exact Or.inl (Or.inl h)
  · exact Or.inl (Or.inr h)
  · exact Or.inr h
theorem tq_K (t r : Nat) : 30 * nI t + 3 * nI r = nI (30 * t + 3 * r) := by
  show nI 30 * nI t + nI 3 * nI r = _
  rw [pk_mul, pk_mul, nI_add]
/-! the tables' cells -/
def tq_ag (rn : Nat → Nat) (cx cy : Nat → Int32) : Prop := ∀ t r c, t < 3 → r < rn t → c < 3 → cx (30 * t + 3 * r + c) = cy (30 * t + 3 * r + c)
theorem tq_ag_ins {rn : Nat → Nat} {cx cy : Nat → Int32} {t : Nat} {a b c : Int32} (hr : ∀ i, rn i ≤ 10) (ht : t < 3) (h9 : rn t ≠ 10) (h : tq_ag rn cx cy) :
    tq_ag (tq_u rn t (rn t + 1)) (upd (upd (upd cx (30 * t + 3 * rn t) a) (30 * t + 3 * rn t + 1) b) (30 * t + 3 * rn t + 2) c) (upd (upd (upd cy (30 * t + 3 * rn t) a) (30 * t + 3 * rn t + 1) b) (30 * t + 3 * rn t + 2) c) := by
  intro t' r' c' h1 h2 h3
  have k1 := hr t
  have k2 := hr t'
  by_cases e : t' = t
  · subst e
    rw [tq_us] at h2
    by_cases e2 : r' = rn t'
    · subst e2
      have : c' = 0 ∨ c' = 1 ∨ c' = 2 := by omega
      rcases this with rfl | rfl | rfl
      · simp only [Nat.add_zero]
        rw [pk_un (by omega), pk_un (by omega), pk_us, pk_un (by omega), pk_un (by omega), pk_us]
      · rw [pk_un (by omega), pk_us, pk_un (by omega), pk_us]
      · rw [pk_us, pk_us]
    · rw [pk_un (by omega), pk_un (by omega), pk_un (by omega), pk_un (by omega), pk_un (by omega), pk_un (by omega)]
      exact h t' r' c' h1 (by omega) h3
  · rw [tq_un e] at h2
    rw [pk_un (by omega), pk_un (by omega), pk_un (by omega), pk_un (by omega), pk_un (by omega), pk_un (by omega)]
    exact h t' r' c' h1 h2 h3
theorem tq_ag_put {rn : Nat → Nat} {cx cy : Nat → Int32} {j : Nat} {v : Int32} (h : tq_ag rn cx cy) : tq_ag rn (upd cx j v) (upd cy j v) := by
  intro t r c h1 h2 h3
  by_cases e : 30 * t + 3 * r + c = j
  · rw [e, pk_us, pk_us]
  · rw [pk_un e, pk_un e]; exact h t r c h1 h2 h3
def tq_sh (lo hi : Nat) (c : Nat → Int32) : Nat → Int32 := fun j => if lo ≤ j ∧ j < hi then c (j + 3) else c j
theorem tq_sh0 (lo : Nat) (c : Nat → Int32) : tq_sh lo lo c = c := by
  funext j
  exact if_neg (by omega)
theorem tq_shs {lo x : Nat} (h : lo ≤ x) (c : Nat → Int32) : upd (tq_sh lo x c) x (tq_sh lo x c (x + 3)) = tq_sh lo (x + 1) c := by
  have e : tq_sh lo x c (x + 3) = c (x + 3) := if_neg (by omega)
  rw [e]
  funext j
  by_cases z : j = x
  · subst z
    rw [pk_us]
    exact (if_pos (by omega)).symm
  · rw [pk_un z]
    unfold tq_sh
    by_cases y : lo ≤ j ∧ j < x
    · rw [if_pos y, if_pos (by omega)]
    · rw [if_neg y, if_neg (by omega)]
theorem tq_sh_rg {lo hi : Nat} {c : Nat → Int32} (h : ∀ i, tq_rg (c i)) (i : Nat) : tq_rg (tq_sh lo hi c i) := by
  unfold tq_sh
  split
  · exact h _
  · exact h _
theorem tq_ag_rem {rn : Nat → Nat} {cx cy : Nat → Int32} {t r : Nat} (hr : ∀ i, rn i ≤ 10) (ht : t < 3) (h9 : r < rn t) (h : tq_ag rn cx cy) :
    tq_ag (tq_u rn t (rn t - 1)) (tq_sh (30 * t + 3 * r) (30 * t + 27) cx) (tq_sh (30 * t + 3 * r) (30 * t + 3 * (rn t - 1)) cy) := by
  intro t' r' c' h1 h2 h3
  have k1 := hr t
  have k2 := hr t'
  unfold tq_sh
  by_cases e : t' = t
  · subst e
    rw [tq_us] at h2
    by_cases e2 : r' < r
    · rw [if_neg (by omega), if_neg (by omega)]
      exact h t' r' c' h1 (by omega) h3
    · rw [if_pos (by omega), if_pos (by omega)]
      have := h t' (r' + 1) c' h1 (by omega) h3
      rw [show 30 * t' + 3 * (r' + 1) + c' = 30 * t' + 3 * r' + c' + 3 by omega] at this
      exact this
  · rw [tq_un e] at h2
    rw [if_neg (by omega), if_neg (by omega)]
    exact h t' r' c' h1 h2 h3
theorem tq_Qag {nf ni nt : Nat} {fr ik ic tk rn : Nat → Nat} {grp dst oi od lim : Int32} {cx cy : Nat → Int32} (q : tq_Q nf ni nt fr ik ic tk rn grp dst oi od lim cx cy) {rn' : Nat → Nat} {cx' cy' : Nat → Int32} (h1 : ∀ i, rn' i ≤ 10) (h2 : ∀ i, tq_rg (cx' i)) (h3 : ∀ i, tq_rg (cy' i)) (h4 : tq_ag rn' cx' cy') : tq_Q nf ni nt fr ik ic tk rn' grp dst oi od lim cx' cy' := by
  obtain ⟨a1, a2, a3, a4, a5, a6, a7, a8, a9, a10, a11, a12, a13, a14, a15, a16, a17⟩ := q
  exact ⟨a1, a2, a3, a4, a5, a6, a7, a8, h1, a10, a11, a12, a13, a14, h2, h3, h4⟩
theorem i_vc_insert {k : Nat} {u : SX} {v : SY} (I : i_Rel k u v) (hk : k + 5 ≤ 2560) (v1 : Int32) (v2 : Int32) (v3 : Int32) (v4 : Int32) : wpX_insert (fun r u' => wpY_insert (fun r' v' => r' = r ∧ i_Rel (k + 5) u' v') v v1 v2 v3 v4) u v1 v2 v3 v4 := by
  refine tq_el (P := fun u v => wpX_insert (fun r u' => wpY_insert (fun r' v' => r' = r ∧ i_Rel (k + 5) u' v') v v1 v2 v3 v4) u v1 v2 v3 v4) ?_ I
  intro nf ni nt fr ik ic tk rn f_group f_distinct f_orderItem f_orderDown f_limit f_nodes f_waitingNodes f_waitingWords f_broken f_top f_parts f_combos f_nextCombos f_placed f_results a_cells a_kind a_left a_right a_needs a_truth a_waitNode a_waitWord a_part a_canCount a_can a_combo a_nextCombo a_current a_stays a_result a_index a_sorted a_key a_table g_truthCount g_openCount g_chosenCount g_resultCount b_cells b_at b_truths b_open b_chosen b_results q
  unfold wpX_insert
  rcases tq_ix v1 3 (by decide) with h | ⟨t, ht, rfl⟩
  · refine xw_bT1 h (br_f (by decide) ?_)
    unfold wpY_insert
    exact yw_iT0 h (br_t rfl ⟨rfl, tq_in q⟩)
  refine xw_bT0 ht (br_t rfl ?_)
  by_cases r1 : tq_rg v2
  rotate_left
  · refine xw_bN1 r1 (br_f (by decide) ?_)
    unfold wpY_insert
    exact yw_iT1 ht (br_f (by decide) (yw_iN0 r1 (br_t rfl ⟨rfl, tq_in q⟩)))
  refine xw_bN0 r1 (br_t rfl ?_)
  by_cases r2 : tq_rg v3
  rotate_left
  · refine xw_bN1 r2 (br_f (by decide) ?_)
    unfold wpY_insert
    exact yw_iT1 ht (br_f (by decide) (yw_iN1 r1 (br_f (by decide) (yw_iN0 r2 (br_t rfl ⟨rfl, tq_in q⟩)))))
  refine xw_bN0 r2 (br_t rfl ?_)
  by_cases r3 : tq_rg v4
  rotate_left
  · refine xw_bN1 r3 (br_f (by decide) ?_)
    unfold wpY_insert
    exact yw_iT1 ht (br_f (by decide) (yw_iN1 r1 (br_f (by decide) (yw_iN1 r2 (br_f (by decide) (yw_iN0 r3 (br_t rfl ⟨rfl, tq_in q⟩)))))))
  refine xw_bN0 r3 (br_t rfl ⟨vp_in_nI ht (by decide), ?_⟩)
  rw [nI_clamp (show t < 2 ^ 31 by omega)]
  have hr := q.2.2.2.2.2.2.2.2.1
  have hrt := hr t
  have yy : ∀ P : Prop, P → P := fun _ h => h
  refine pk_eq (rn t) 10 (fun e => ?_) (fun e => ?_)
  · unfold wpY_insert
    refine yw_iT1 ht (br_f (by decide) (yw_iN1 r1 (br_f (by decide) (yw_iN1 r2 (br_f (by decide) (yw_iN1 r3 (br_f (by decide) ⟨vp_in_nI ht (by decide), ?_⟩)))))))
    rw [nI_clamp (show t < 2 ^ 31 by omega)]
    exact br_t (by show nI (rn t) = 10; rw [e]; rfl) ⟨rfl, tq_in q⟩
  · have e1 : nI (30 * t + 3 * rn t) + 1 = nI (30 * t + 3 * rn t + 1) := nI_1 _
    have e2 : nI (30 * t + 3 * rn t) + 2 = nI (30 * t + 3 * rn t + 2) := nI_add _ 2
    have e3 : upd (tq_n rn) t (tq_n rn t + 1) = tq_n (tq_u rn t (rn t + 1)) := by
      rw [show tq_n rn t + 1 = nI (rn t + 1) from nI_1 _, tq_nu]
    refine ⟨vp_in_nI ht (by decide), nm_r (e' := nI (30 * t + 3 * rn t)) (tq_K _ _) ⟨vp_in_nI (by omega) (by decide), nm_e ?_⟩⟩
    rw [e1, e2, nI_clamp (show 30 * t + 3 * rn t < 2 ^ 31 by omega), nI_clamp (show 30 * t + 3 * rn t + 1 < 2 ^ 31 by omega), nI_clamp (show 30 * t + 3 * rn t + 2 < 2 ^ 31 by omega)]
    refine ⟨vp_in_nI (by omega) (by decide), nm_e ⟨vp_in_nI (by omega) (by decide), nm_e ⟨vp_in_nI ht (by decide), vp_in_nI ht (by decide), nm_r e3 ⟨vp_in_nI ht (by decide), ?_⟩⟩⟩⟩
    unfold wpY_insert
    refine yw_iT1 ht (br_f (by decide) (yw_iN1 r1 (br_f (by decide) (yw_iN1 r2 (br_f (by decide) (yw_iN1 r3 (br_f (by decide) ⟨vp_in_nI ht (by decide), ?_⟩)))))))
    rw [nI_clamp (show t < 2 ^ 31 by omega)]
    refine br_f (by show ¬ nI (rn t) = nI 10; rw [nI_eq (by omega) (by omega)]; exact e) ?_
    refine ⟨vp_in_nI ht (by decide), nm_r (e' := nI (30 * t + 3 * rn t)) (tq_K _ _) ⟨vp_in_nI (by omega) (by decide), nm_e ?_⟩⟩
    rw [e1, e2, nI_clamp (show 30 * t + 3 * rn t < 2 ^ 31 by omega), nI_clamp (show 30 * t + 3 * rn t + 1 < 2 ^ 31 by omega), nI_clamp (show 30 * t + 3 * rn t + 2 < 2 ^ 31 by omega)]
    refine ⟨vp_in_nI (by omega) (by decide), nm_e ⟨vp_in_nI (by omega) (by decide), nm_e ⟨vp_in_nI ht (by decide), vp_in_nI ht (by decide), nm_r e3 ⟨vp_in_nI ht (by decide), rfl, ?_⟩⟩⟩⟩
    refine tq_in (tq_Qag q (tq_uall (P := fun x => x ≤ 10) hr (by omega)) ?_ ?_ (tq_ag_ins hr ht e q.2.2.2.2.2.2.2.2.2.2.2.2.2.2.2.2))
    · exact tq_updall (tq_updall (tq_updall q.2.2.2.2.2.2.2.2.2.2.2.2.2.2.1 r1) r2) r3
    · exact tq_updall (tq_updall (tq_updall q.2.2.2.2.2.2.2.2.2.2.2.2.2.2.2.1 r1) r2) r3
section
variable {nf ni nt : Nat} {fr ik ic tk rn : Nat → Nat} {f_group f_distinct f_orderItem f_orderDown f_limit f_nodes f_waitingNodes f_waitingWords f_broken f_top f_parts f_combos f_nextCombos f_placed f_results : Int32} {a_cells a_kind a_left a_right a_needs a_truth a_waitNode a_waitWord a_part a_canCount a_can a_combo a_nextCombo a_current a_stays a_result a_index a_sorted a_key a_table : Nat → Int32}
theorem xw_remove {post : Int32 → SX → Prop} {t lo : Nat} (ht : t < 3) (hrt : 0 < rn t) (hp : post (nI (rn t - 1)) ((nI nf), (nI ni), (nI nt), f_group, f_distinct, f_orderItem, f_orderDown, f_limit, f_nodes, f_waitingNodes, f_waitingWords, f_broken, f_top, f_parts, f_combos, f_nextCombos, f_placed, f_results, (tq_n (tq_u rn t (rn t - 1))), (tq_sh lo (30 * t + 27) a_cells), (tq_n fr), (tq_n ik), (tq_n ic), (tq_n tk), a_kind, a_left, a_right, a_needs, a_truth, a_waitNode, a_waitWord, a_part, a_canCount, a_can, a_combo, a_nextCombo, a_current, a_stays, a_result, a_index, a_sorted, a_key, a_table)) : ∀ d x, lo ≤ x → x + d = 30 * t + 27 → ∀ n, d < n → wX_remove_39 post (nI t) (nI nf) (nI ni) (nI nt) f_group f_distinct f_orderItem f_orderDown f_limit f_nodes f_waitingNodes f_waitingWords f_broken f_top f_parts f_combos f_nextCombos f_placed f_results n (nI x) (tq_n rn) (tq_sh lo x a_cells) (tq_n fr) (tq_n ik) (tq_n ic) (tq_n tk) a_kind a_left a_right a_needs a_truth a_waitNode a_waitWord a_part a_canCount a_can a_combo a_nextCombo a_current a_stays a_result a_index a_sorted a_key a_table := by
  have eT : 30 * nI t + 27 = nI (30 * t + 27) := by
    show nI 30 * nI t + nI 27 = _
    rw [pk_mul, nI_add]
  have e3 : upd (tq_n rn) t (tq_n rn t - 1) = tq_n (tq_u rn t (rn t - 1)) := by
    rw [show tq_n rn t - 1 = nI (rn t - 1) from pk_sub (b := 1) hrt, tq_nu]
  intro d
  induction d with
  | zero =>
    intro x hlo hx n hn
    obtain ⟨m, rfl⟩ : ∃ m, n = m + 1 := ⟨n - 1, by omega⟩
    have : x = 30 * t + 27 := by omega
    subst this
    refine br_t (by rw [eT]; exact nI_le (by omega) (by omega)) ⟨vp_in_nI ht (by decide), vp_in_nI ht (by decide), ?_⟩
    rw [nI_clamp (show t < 2 ^ 31 by omega)]
    refine nm_r e3 ⟨vp_in_nI ht (by decide), ?_⟩
    rw [show tq_n (tq_u rn t (rn t - 1)) t = nI (rn t - 1) from congrArg nI tq_us]
    exact hp
  | succ d ih =>
    intro x hlo hx n hn
    obtain ⟨m, rfl⟩ : ∃ m, n = m + 1 := ⟨n - 1, by omega⟩
    have e4 : nI x + 3 = nI (x + 3) := nI_add _ 3
    refine br_f (by rw [eT]; exact nI_ge (by omega) (by omega)) ?_
    rw [e4, nI_clamp (show x < 2 ^ 31 by omega), nI_clamp (show x + 3 < 2 ^ 31 by omega)]
    refine ⟨vp_in_nI (by omega) (by decide), vp_in_nI (by omega) (by decide), nm_r (tq_shs hlo _) (nm_r (nI_1 x) ?_)⟩
    exact ih (x + 1) (by omega) (by omega) m (by omega)
theorem xw_remove0 {post : Int32 → SX → Prop} {t lo n : Nat} (ht : t < 3) (hrt : 0 < rn t) (hlo : lo ≤ 30 * t + 27) (hn : 30 * t + 27 - lo < n) (hp : post (nI (rn t - 1)) ((nI nf), (nI ni), (nI nt), f_group, f_distinct, f_orderItem, f_orderDown, f_limit, f_nodes, f_waitingNodes, f_waitingWords, f_broken, f_top, f_parts, f_combos, f_nextCombos, f_placed, f_results, (tq_n (tq_u rn t (rn t - 1))), (tq_sh lo (30 * t + 27) a_cells), (tq_n fr), (tq_n ik), (tq_n ic), (tq_n tk), a_kind, a_left, a_right, a_needs, a_truth, a_waitNode, a_waitWord, a_part, a_canCount, a_can, a_combo, a_nextCombo, a_current, a_stays, a_result, a_index, a_sorted, a_key, a_table)) : wX_remove_39 post (nI t) (nI nf) (nI ni) (nI nt) f_group f_distinct f_orderItem f_orderDown f_limit f_nodes f_waitingNodes f_waitingWords f_broken f_top f_parts f_combos f_nextCombos f_placed f_results n (nI lo) (tq_n rn) a_cells (tq_n fr) (tq_n ik) (tq_n ic) (tq_n tk) a_kind a_left a_right a_needs a_truth a_waitNode a_waitWord a_part a_canCount a_can a_combo a_nextCombo a_current a_stays a_result a_index a_sorted a_key a_table := by
  have K := xw_remove ht hrt hp (30 * t + 27 - lo) lo (Nat.le_refl _) (by omega) n hn
  rw [tq_sh0] at K
  exact K
end
section
variable {nf ni nt : Nat} {fr ik ic tk rn : Nat → Nat} {g_grouped g_distinct g_orderItem g_orderDown g_most g_truthCount g_openCount g_chosenCount g_resultCount : Int32} {b_cells b_at b_truths b_open b_chosen b_results : Nat → Int32}
theorem yw_remove {post : Int32 → SY → Prop} {t lo : Nat} (ht : t < 3) (hrt : rn t < 10) (hp : post (nI (rn t)) ((nI nf), (nI ni), (nI nt), g_grouped, g_distinct, g_orderItem, g_orderDown, g_most, g_truthCount, g_openCount, g_chosenCount, g_resultCount, (tq_sh lo (30 * t + 3 * rn t) b_cells), (tq_n rn), (tq_n fr), (tq_n ik), (tq_n ic), (tq_n tk), b_at, b_truths, b_open, b_chosen, b_results)) : ∀ d x, lo ≤ x → x + d = 30 * t + 3 * rn t → ∀ n, d < n → wY_remove_49 post (nI t) (nI nf) (nI ni) (nI nt) g_grouped g_distinct g_orderItem g_orderDown g_most g_truthCount g_openCount g_chosenCount g_resultCount n (nI x) (tq_sh lo x b_cells) (tq_n rn) (tq_n fr) (tq_n ik) (tq_n ic) (tq_n tk) b_at b_truths b_open b_chosen b_results := by
  intro d
  induction d with
  | zero =>
    intro x hlo hx n hn
    obtain ⟨m, rfl⟩ : ∃ m, n = m + 1 := ⟨n - 1, by omega⟩
    have : x = 30 * t + 3 * rn t := by omega
    subst this
    refine ⟨vp_in_nI ht (by decide), ?_⟩
    rw [nI_clamp (show t < 2 ^ 31 by omega)]
    exact br_t (by rw [show 30 * nI t + 3 * tq_n rn t = nI (30 * t + 3 * rn t) from tq_K _ _]; exact nI_le (by omega) (by omega)) ⟨vp_in_nI ht (by decide), hp⟩
  | succ d ih =>
    intro x hlo hx n hn
    obtain ⟨m, rfl⟩ : ∃ m, n = m + 1 := ⟨n - 1, by omega⟩
    have e4 : nI x + 3 = nI (x + 3) := nI_add _ 3
    refine ⟨vp_in_nI ht (by decide), ?_⟩
    rw [nI_clamp (show t < 2 ^ 31 by omega)]
    refine br_f (by rw [show 30 * nI t + 3 * tq_n rn t = nI (30 * t + 3 * rn t) from tq_K _ _]; exact nI_ge (by omega) (by omega)) ?_
    rw [e4, nI_clamp (show x < 2 ^ 31 by omega), nI_clamp (show x + 3 < 2 ^ 31 by omega)]
    refine ⟨vp_in_nI (by omega) (by decide), vp_in_nI (by omega) (by decide), nm_r (tq_shs hlo _) (nm_r (nI_1 x) ?_)⟩
    exact ih (x + 1) (by omega) (by omega) m (by omega)
theorem yw_remove0 {post : Int32 → SY → Prop} {t lo n : Nat} (ht : t < 3) (hrt : rn t < 10) (hlo : lo ≤ 30 * t + 3 * rn t) (hn : 30 * t + 3 * rn t - lo < n) (hp : post (nI (rn t)) ((nI nf), (nI ni), (nI nt), g_grouped, g_distinct, g_orderItem, g_orderDown, g_most, g_truthCount, g_openCount, g_chosenCount, g_resultCount, (tq_sh lo (30 * t + 3 * rn t) b_cells), (tq_n rn), (tq_n fr), (tq_n ik), (tq_n ic), (tq_n tk), b_at, b_truths, b_open, b_chosen, b_results)) : wY_remove_49 post (nI t) (nI nf) (nI ni) (nI nt) g_grouped g_distinct g_orderItem g_orderDown g_most g_truthCount g_openCount g_chosenCount g_resultCount n (nI lo) b_cells (tq_n rn) (tq_n fr) (tq_n ik) (tq_n ic) (tq_n tk) b_at b_truths b_open b_chosen b_results := by
  have K := yw_remove ht hrt hp (30 * t + 3 * rn t - lo) lo (Nat.le_refl _) (by omega) n hn
  rw [tq_sh0] at K
  exact K
end
end
section

theorem i_vc_remove {k : Nat} {u : SX} {v : SY} (I : i_Rel k u v) (hk : k + 5 ≤ 2560) (v1 : Int32) (v2 : Int32) : wpX_remove (fun r u' => wpY_remove (fun r' v' => r' = r ∧ i_Rel (k + 5) u' v') v v1 v2) u v1 v2 := by
  refine tq_el (P := fun u v => wpX_remove (fun r u' => wpY_remove (fun r' v' => r' = r ∧ i_Rel (k + 5) u' v') v v1 v2) u v1 v2) ?_ I
  intro nf ni nt fr ik ic tk rn f_group f_distinct f_orderItem f_orderDown f_limit f_nodes f_waitingNodes f_waitingWords f_broken f_top f_parts f_combos f_nextCombos f_placed f_results a_cells a_kind a_left a_right a_needs a_truth a_waitNode a_waitWord a_part a_canCount a_can a_combo a_nextCombo a_current a_stays a_result a_index a_sorted a_key a_table g_truthCount g_openCount g_chosenCount g_resultCount b_cells b_at b_truths b_open b_chosen b_results q
  have hr := q.2.2.2.2.2.2.2.2.1
  unfold wpX_remove
  rcases tq_ix v1 3 (by decide) with h | ⟨t, ht, rfl⟩
  · refine xw_bT1 h (br_f (by decide) ?_)
    unfold wpY_remove
    exact yw_iT0 h (br_t rfl ⟨rfl, tq_in q⟩)
  have hrt := hr t
  refine xw_bT0 ht (br_t rfl ?_)
  by_cases h0 : v2 < 0
  · refine br_t h0 ?_
    unfold wpY_remove
    exact yw_iT1 ht (br_f (by decide) (br_t h0 ⟨rfl, tq_in q⟩))
  refine br_f h0 ⟨vp_in_nI ht (by decide), ?_⟩
  rw [nI_clamp (show t < 2 ^ 31 by omega)]
  obtain ⟨r, hr2, rfl⟩ := nI_of h0
  refine pk_lt r (rn t) (fun e => ?_) (fun e => ?_)
  · refine nm_r (e' := nI (30 * t + 3 * r)) (tq_K _ _) ⟨27 - 3 * r + 1, ?_⟩
    refine xw_remove0 ht (by omega) (by omega) (by omega) ?_
    unfold wpY_remove
    refine yw_iT1 ht (br_f (by decide) (br_f h0 ⟨vp_in_nI ht (by decide), ?_⟩))
    rw [nI_clamp (show t < 2 ^ 31 by omega)]
    have e3 : upd (tq_n rn) t (tq_n rn t - 1) = tq_n (tq_u rn t (rn t - 1)) := by
      rw [show tq_n rn t - 1 = nI (rn t - 1) from pk_sub (b := 1) (by omega), tq_nu]
    have e5 : tq_u rn t (rn t - 1) t = rn t - 1 := tq_us
    refine br_t (nI_lt e (by omega)) ⟨vp_in_nI ht (by decide), vp_in_nI ht (by decide), nm_r e3 (nm_r (e' := nI (30 * t + 3 * r)) (tq_K _ _) ⟨3 * (rn t - 1) - 3 * r + 1, ?_⟩)⟩
    refine yw_remove0 ht (by rw [e5]; omega) (by rw [e5]; omega) (by rw [e5]; omega) ?_
    rw [e5]
    refine ⟨rfl, tq_in (tq_Qag q (tq_uall (P := fun x => x ≤ 10) hr (by omega)) (tq_sh_rg q.2.2.2.2.2.2.2.2.2.2.2.2.2.2.1) (tq_sh_rg q.2.2.2.2.2.2.2.2.2.2.2.2.2.2.2.1) (tq_ag_rem hr ht e q.2.2.2.2.2.2.2.2.2.2.2.2.2.2.2.2))⟩
  · unfold wpY_remove
    refine yw_iT1 ht (br_f (by decide) (br_f h0 ⟨vp_in_nI ht (by decide), ?_⟩))
    rw [nI_clamp (show t < 2 ^ 31 by omega)]
    exact br_f (nI_nlt e (by omega)) ⟨rfl, tq_in q⟩
theorem tq_d3 {k : Nat} (hk : k < 9) : nI k / 3 = nI (k / 3) := pk_div (d := 3) (by omega) (by omega) (by decide)
theorem tq_at9 {k r : Nat} (hk : k < 9) : ((30 * (nI k / 3)) + (3 * nI r)) + (nI k - nI k / 3 * 3) = nI (30 * (k / 3) + 3 * r + k % 3) := by
  have b : nI k - nI k / 3 * 3 = nI (k % 3) := pk_rem (d := 3) (by omega) (by omega) (by decide)
  rw [b, tq_d3 hk]
  show nI 30 * nI (k / 3) + nI 3 * nI r + nI (k % 3) = _
  rw [pk_mul, pk_mul, nI_add, nI_add]
theorem i_vc_put {k : Nat} {u : SX} {v : SY} (I : i_Rel k u v) (hk : k + 5 ≤ 2560) (v1 : Int32) (v2 : Int32) (v3 : Int32) : wpX_put (fun r u' => wpY_put (fun r' v' => r' = r ∧ i_Rel (k + 5) u' v') v v1 v2 v3) u v1 v2 v3 := by
  refine tq_el (P := fun u v => wpX_put (fun r u' => wpY_put (fun r' v' => r' = r ∧ i_Rel (k + 5) u' v') v v1 v2 v3) u v1 v2 v3) ?_ I
  intro nf ni nt fr ik ic tk rn f_group f_distinct f_orderItem f_orderDown f_limit f_nodes f_waitingNodes f_waitingWords f_broken f_top f_parts f_combos f_nextCombos f_placed f_results a_cells a_kind a_left a_right a_needs a_truth a_waitNode a_waitWord a_part a_canCount a_can a_combo a_nextCombo a_current a_stays a_result a_index a_sorted a_key a_table g_truthCount g_openCount g_chosenCount g_resultCount b_cells b_at b_truths b_open b_chosen b_results q
  have hr := q.2.2.2.2.2.2.2.2.1
  unfold wpX_put
  rcases tq_ix v1 9 (by decide) with h | ⟨c, hc, rfl⟩
  · refine xw_bC1 h (br_f (by decide) ?_)
    unfold wpY_put
    exact yw_iC0 h (br_t rfl ⟨rfl, tq_in q⟩)
  refine xw_bC0 hc (br_t rfl ?_)
  by_cases r1 : tq_rg v3
  rotate_left
  · refine xw_bN1 r1 (br_f (by decide) ?_)
    unfold wpY_put
    exact yw_iC1 hc (br_f (by decide) (yw_iN0 r1 (br_t rfl ⟨rfl, tq_in q⟩)))
  refine xw_bN0 r1 (br_t rfl ?_)
  by_cases h0 : v2 < 0
  · refine br_t h0 ?_
    unfold wpY_put
    exact yw_iC1 hc (br_f (by decide) (yw_iN1 r1 (br_f (by decide) (br_t h0 ⟨rfl, tq_in q⟩))))
  have hrt := hr (c / 3)
  refine br_f h0 ⟨by decide, ?_⟩
  rw [tq_d3 hc]
  refine ⟨vp_in_nI (by omega) (by decide), ?_⟩
  rw [nI_clamp (show c / 3 < 2 ^ 31 by omega)]
  obtain ⟨r, hr2, rfl⟩ := nI_of h0
  refine pk_lt r (rn (c / 3)) (fun e => ?_) (fun e => ?_)
  · refine xw_at hc (by omega) ⟨vp_in_nI (by omega) (by decide), nm_e (xw_at hc (by omega) ⟨vp_in_nI (by omega) (by decide), nm_e ?_⟩)⟩
    rw [nI_clamp (show 30 * (c / 3) + 3 * r + c % 3 < 2 ^ 31 by omega)]
    unfold wpY_put
    refine yw_iC1 hc (br_f (by decide) (yw_iN1 r1 (br_f (by decide) (br_f h0 ⟨by decide, ?_⟩))))
    rw [tq_at9 hc, tq_d3 hc]
    refine ⟨vp_in_nI (by omega) (by decide), ?_⟩
    rw [nI_clamp (show c / 3 < 2 ^ 31 by omega)]
    refine br_t (nI_lt e (by omega)) ⟨by decide, by decide, nm_e ⟨vp_in_nI (by omega) (by decide), nm_e ⟨vp_in_nI (by omega) (by decide), nm_e ?_⟩⟩⟩
    rw [nI_clamp (show 30 * (c / 3) + 3 * r + c % 3 < 2 ^ 31 by omega)]
    have ag := q.2.2.2.2.2.2.2.2.2.2.2.2.2.2.2.2
    refine ⟨(ag (c / 3) r (c % 3) (by omega) e (by omega)).symm, tq_in (tq_Qag q hr ?_ ?_ (tq_ag_put ag))⟩
    · exact tq_updall q.2.2.2.2.2.2.2.2.2.2.2.2.2.2.1 r1
    · exact tq_updall q.2.2.2.2.2.2.2.2.2.2.2.2.2.2.2.1 r1
  · unfold wpY_put
    refine yw_iC1 hc (br_f (by decide) (yw_iN1 r1 (br_f (by decide) (br_f h0 ⟨by decide, ?_⟩))))
    rw [tq_d3 hc]
    refine ⟨vp_in_nI (by omega) (by decide), ?_⟩
    rw [nI_clamp (show c / 3 < 2 ^ 31 by omega)]
    exact br_f (nI_nlt e (by omega)) ⟨rfl, tq_in q⟩
theorem i_vc_get {k : Nat} {u : SX} {v : SY} (I : i_Rel k u v) (hk : k + 5 ≤ 2560) (v1 : Int32) (v2 : Int32) : wpX_get (fun r => wpY_get (fun r' => r' = r ∧ i_Rel (k + 5) u v) v v1 v2) u v1 v2 := by
  refine tq_el (P := fun u v => wpX_get (fun r => wpY_get (fun r' => r' = r ∧ i_Rel (k + 5) u v) v v1 v2) u v1 v2) ?_ I
  intro nf ni nt fr ik ic tk rn f_group f_distinct f_orderItem f_orderDown f_limit f_nodes f_waitingNodes f_waitingWords f_broken f_top f_parts f_combos f_nextCombos f_placed f_results a_cells a_kind a_left a_right a_needs a_truth a_waitNode a_waitWord a_part a_canCount a_can a_combo a_nextCombo a_current a_stays a_result a_index a_sorted a_key a_table g_truthCount g_openCount g_chosenCount g_resultCount b_cells b_at b_truths b_open b_chosen b_results q
  have hr := q.2.2.2.2.2.2.2.2.1
  unfold wpX_get
  rcases tq_ix v1 9 (by decide) with h | ⟨c, hc, rfl⟩
  · refine xw_bC1 h (br_f (by decide) ?_)
    unfold wpY_get
    exact yw_iC0 h (br_t rfl ⟨rfl, tq_in q⟩)
  refine xw_bC0 hc (br_t rfl ?_)
  by_cases h0 : v2 < 0
  · refine br_t h0 ?_
    unfold wpY_get
    exact yw_iC1 hc (br_f (by decide) (br_t h0 ⟨rfl, tq_in q⟩))
  have hrt := hr (c / 3)
  refine br_f h0 ⟨by decide, ?_⟩
  rw [tq_d3 hc]
  refine ⟨vp_in_nI (by omega) (by decide), ?_⟩
  rw [nI_clamp (show c / 3 < 2 ^ 31 by omega)]
  obtain ⟨r, hr2, rfl⟩ := nI_of h0
  refine pk_lt r (rn (c / 3)) (fun e => ?_) (fun e => ?_)
  · refine xw_at hc (by omega) ⟨vp_in_nI (by omega) (by decide), ?_⟩
    rw [nI_clamp (show 30 * (c / 3) + 3 * r + c % 3 < 2 ^ 31 by omega)]
    unfold wpY_get
    refine yw_iC1 hc (br_f (by decide) (br_f h0 ⟨by decide, ?_⟩))
    rw [tq_at9 hc, tq_d3 hc]
    refine ⟨vp_in_nI (by omega) (by decide), ?_⟩
    rw [nI_clamp (show c / 3 < 2 ^ 31 by omega)]
    refine br_t (nI_lt e (by omega)) ⟨by decide, by decide, vp_in_nI (by omega) (by decide), ?_⟩
    rw [nI_clamp (show 30 * (c / 3) + 3 * r + c % 3 < 2 ^ 31 by omega)]
    exact ⟨(q.2.2.2.2.2.2.2.2.2.2.2.2.2.2.2.2 (c / 3) r (c % 3) (by omega) e (by omega)).symm, tq_in q⟩
  · unfold wpY_get
    refine yw_iC1 hc (br_f (by decide) (br_f h0 ⟨by decide, ?_⟩))
    rw [tq_d3 hc]
    refine ⟨vp_in_nI (by omega) (by decide), ?_⟩
    rw [nI_clamp (show c / 3 < 2 ^ 31 by omega)]
    exact br_f (nI_nlt e (by omega)) ⟨rfl, tq_in q⟩
theorem i_vc_rows {k : Nat} {u : SX} {v : SY} (I : i_Rel k u v) (hk : k + 5 ≤ 2560) (v1 : Int32) : wpX_rows (fun r => wpY_rows (fun r' => r' = r ∧ i_Rel (k + 5) u v) v v1) u v1 := by
  refine tq_el (P := fun u v => wpX_rows (fun r => wpY_rows (fun r' => r' = r ∧ i_Rel (k + 5) u v) v v1) u v1) ?_ I
  intro nf ni nt fr ik ic tk rn f_group f_distinct f_orderItem f_orderDown f_limit f_nodes f_waitingNodes f_waitingWords f_broken f_top f_parts f_combos f_nextCombos f_placed f_results a_cells a_kind a_left a_right a_needs a_truth a_waitNode a_waitWord a_part a_canCount a_can a_combo a_nextCombo a_current a_stays a_result a_index a_sorted a_key a_table g_truthCount g_openCount g_chosenCount g_resultCount b_cells b_at b_truths b_open b_chosen b_results q
  unfold wpX_rows
  rcases tq_ix v1 3 (by decide) with h | ⟨t, ht, rfl⟩
  · refine xw_bT1 h (br_f (by decide) ?_)
    unfold wpY_rows
    exact yw_iT0 h (br_t rfl ⟨rfl, tq_in q⟩)
  · refine xw_bT0 ht (br_t rfl ⟨vp_in_nI ht (by decide), ?_⟩)
    unfold wpY_rows
    exact yw_iT1 ht (br_f (by decide) ⟨vp_in_nI ht (by decide), rfl, tq_in q⟩)
theorem i_vc_reset {k : Nat} {u : SX} {v : SY} (I : i_Rel k u v) (hk : k + 5 ≤ 2560) : wpX_reset (fun u' => wpY_reset (fun v' => i_Rel (k + 5) u' v') v) u := by
  refine tq_el (P := fun u v => wpX_reset (fun u' => wpY_reset (fun v' => i_Rel (k + 5) u' v') v) u) ?_ I
  intro nf ni nt fr ik ic tk rn f_group f_distinct f_orderItem f_orderDown f_limit f_nodes f_waitingNodes f_waitingWords f_broken f_top f_parts f_combos f_nextCombos f_placed f_results a_cells a_kind a_left a_right a_needs a_truth a_waitNode a_waitWord a_part a_canCount a_can a_combo a_nextCombo a_current a_stays a_result a_index a_sorted a_key a_table g_truthCount g_openCount g_chosenCount g_resultCount b_cells b_at b_truths b_open b_chosen b_results q
  obtain ⟨a1, a2, a3, a4, a5, a6, a7, a8, a9, a10, a11, a12, a13, a14, a15, a16, a17⟩ := q
  unfold wpX_reset wpY_reset
  exact tq_in (nf := 0) (ni := 0) (nt := 0) ⟨by omega, by omega, by omega, a4, fun _ _ _ h => absurd h (by omega), a6, a7, a8, a9, Or.inl rfl, Or.inl rfl, Or.inl rfl, Or.inl rfl, Or.inl rfl, a15, a16, a17⟩
theorem i_vc_from {k : Nat} {u : SX} {v : SY} (I : i_Rel k u v) (hk : k + 5 ≤ 2560) (v1 : Int32) : wpX_from (fun r u' => wpY_from (fun r' v' => r' = r ∧ i_Rel (k + 5) u' v') v v1) u v1 := by
  refine tq_el (P := fun u v => wpX_from (fun r u' => wpY_from (fun r' v' => r' = r ∧ i_Rel (k + 5) u' v') v v1) u v1) ?_ I
  intro nf ni nt fr ik ic tk rn f_group f_distinct f_orderItem f_orderDown f_limit f_nodes f_waitingNodes f_waitingWords f_broken f_top f_parts f_combos f_nextCombos f_placed f_results a_cells a_kind a_left a_right a_needs a_truth a_waitNode a_waitWord a_part a_canCount a_can a_combo a_nextCombo a_current a_stays a_result a_index a_sorted a_key a_table g_truthCount g_openCount g_chosenCount g_resultCount b_cells b_at b_truths b_open b_chosen b_results q
  have q0 := q
  obtain ⟨a1, a2, a3, a4, a5, a6, a7, a8, a9, a10, a11, a12, a13, a14, a15, a16, a17⟩ := q
  unfold wpX_from
  rcases tq_ix v1 3 (by decide) with h | ⟨t, ht, rfl⟩
  · refine xw_bT1 h (br_f (by decide) ?_)
    unfold wpY_from
    exact yw_iT0 h (br_t rfl ⟨rfl, tq_in q0⟩)
  refine xw_bT0 ht (br_t rfl (xw_placeOf a1 ht a4 ?_))
  by_cases z : tq_pc nf fr t < 3
  · rw [tq_pl_t ⟨a1, a5⟩ z]
    refine br_f (nI_pos (by omega)) ?_
    unfold wpY_from
    exact yw_iT1 ht (br_f (by decide) (yw_isFrom ⟨a1, a5⟩ ht a4 (fun _ => br_f (by decide) ⟨rfl, tq_in q0⟩) (fun y => absurd z y)))
  · rw [tq_pl_f ⟨a1, a5⟩ z]
    have no := tq_pc_no ⟨a1, a5⟩ z
    have hn : nf < 3 := by
      rcases Nat.lt_or_ge nf 3 with y | y
      · exact y
      · have n0 := no 0 (by omega)
        have n1 := no 1 (by omega)
        have n2 := no 2 (by omega)
        have f0 := a4 0
        have f1 := a4 1
        have f2 := a4 2
        have d01 := a5 0 1 (by omega) (by omega)
        have d02 := a5 0 2 (by omega) (by omega)
        have d12 := a5 1 2 (by omega) (by omega)
        omega
    refine br_t tq_m1' ⟨vp_in_nI hn (by decide), ?_⟩
    rw [nI_clamp (show nf < 2 ^ 31 by omega), tq_nu, nI_1]
    refine nm_e (nm_e ?_)
    unfold wpY_from
    refine yw_iT1 ht (br_f (by decide) (yw_isFrom ⟨a1, a5⟩ ht a4 (fun y => absurd y z) (fun _ => br_t rfl ⟨vp_in_nI hn (by decide), ?_⟩)))
    rw [nI_clamp (show nf < 2 ^ 31 by omega), tq_nu, nI_1]
    refine nm_e (nm_e ⟨rfl, tq_in ⟨by omega, a2, a3, tq_uall (P := fun x => x < 3) a4 ht, ?_, a6, a7, a8, a9, a10, a11, a12, a13, a14, a15, a16, a17⟩⟩)
    intro i j hij hj
    rcases Nat.lt_or_ge j nf with y | y
    · rw [tq_un (by omega), tq_un (by omega)]; exact a5 i j hij y
    · have : j = nf := by omega
      subst this
      rw [tq_us, tq_un (by omega)]
      exact no i hij
theorem i_vc_item {k : Nat} {u : SX} {v : SY} (I : i_Rel k u v) (hk : k + 5 ≤ 2560) (v1 : Int32) (v2 : Int32) : wpX_item (fun r u' => wpY_item (fun r' v' => r' = r ∧ i_Rel (k + 5) u' v') v v1 v2) u v1 v2 := by
  refine tq_el (P := fun u v => wpX_item (fun r u' => wpY_item (fun r' v' => r' = r ∧ i_Rel (k + 5) u' v') v v1 v2) u v1 v2) ?_ I
  intro nf ni nt fr ik ic tk rn f_group f_distinct f_orderItem f_orderDown f_limit f_nodes f_waitingNodes f_waitingWords f_broken f_top f_parts f_combos f_nextCombos f_placed f_results a_cells a_kind a_left a_right a_needs a_truth a_waitNode a_waitWord a_part a_canCount a_can a_combo a_nextCombo a_current a_stays a_result a_index a_sorted a_key a_table g_truthCount g_openCount g_chosenCount g_resultCount b_cells b_at b_truths b_open b_chosen b_results q
  have q0 := q
  obtain ⟨a1, a2, a3, a4, a5, a6, a7, a8, a9, a10, a11, a12, a13, a14, a15, a16, a17⟩ := q
  unfold wpX_item
  by_cases h0 : v1 < 0
  · refine br_t h0 ?_
    unfold wpY_item
    exact br_t h0 ⟨rfl, tq_in q0⟩
  refine br_f h0 ?_
  by_cases h4 : 4 < v1
  · refine br_t h4 ?_
    unfold wpY_item
    exact br_f h0 (br_t h4 ⟨rfl, tq_in q0⟩)
  refine br_f h4 ?_
  obtain ⟨j, hj, rfl⟩ := nI_of2 (n := 4) (by decide) h0 (Int32.not_lt.mp h4)
  rcases tq_ix v2 9 (by decide) with h | ⟨c, hc, rfl⟩
  · refine xw_bC1 h (br_f (by decide) ?_)
    unfold wpY_item
    exact br_f h0 (br_f h4 (yw_iC0 h (br_t rfl ⟨rfl, tq_in q0⟩)))
  refine xw_bC0 hc (br_t rfl ?_)
  refine pk_eq ni 4 (fun e => ?_) (fun e => ?_)
  · unfold wpY_item
    refine br_f h0 (br_f h4 (yw_iC1 hc (br_f (by decide) (br_t (by rw [e]; rfl) ⟨rfl, tq_in q0⟩))))
  · refine ⟨vp_in_nI (by omega) (by decide), ?_⟩
    rw [nI_clamp (show ni < 2 ^ 31 by omega), tq_nu, tq_nu, nI_1]
    refine nm_e ⟨vp_in_nI (by omega) (by decide), nm_e (nm_e ?_)⟩
    unfold wpY_item
    refine br_f h0 (br_f h4 (yw_iC1 hc (br_f (by decide) (br_f (by rw [show (4 : Int32) = nI 4 from rfl, nI_eq (by omega) (by omega)]; exact e) ⟨vp_in_nI (by omega) (by decide), ?_⟩))))
    rw [nI_clamp (show ni < 2 ^ 31 by omega), tq_nu, tq_nu, nI_1]
    exact nm_e ⟨vp_in_nI (by omega) (by decide), nm_e (nm_e ⟨rfl, tq_in ⟨a1, by omega, a3, a4, a5, tq_uall (P := fun x => x ≤ 4) a6 hj, tq_uall (P := fun x => x ≤ 8) a7 (by omega), a8, a9, a10, a11, a12, a13, a14, a15, a16, a17⟩⟩)⟩
theorem i_vc_token {k : Nat} {u : SX} {v : SY} (I : i_Rel k u v) (hk : k + 5 ≤ 2560) (v1 : Int32) : wpX_token (fun r u' => wpY_token (fun r' v' => r' = r ∧ i_Rel (k + 5) u' v') v v1) u v1 := by
  refine tq_el (P := fun u v => wpX_token (fun r u' => wpY_token (fun r' v' => r' = r ∧ i_Rel (k + 5) u' v') v v1) u v1) ?_ I
  intro nf ni nt fr ik ic tk rn f_group f_distinct f_orderItem f_orderDown f_limit f_nodes f_waitingNodes f_waitingWords f_broken f_top f_parts f_combos f_nextCombos f_placed f_results a_cells a_kind a_left a_right a_needs a_truth a_waitNode a_waitWord a_part a_canCount a_can a_combo a_nextCombo a_current a_stays a_result a_index a_sorted a_key a_table g_truthCount g_openCount g_chosenCount g_resultCount b_cells b_at b_truths b_open b_chosen b_results q
  have q0 := q
  obtain ⟨a1, a2, a3, a4, a5, a6, a7, a8, a9, a10, a11, a12, a13, a14, a15, a16, a17⟩ := q
  unfold wpX_token
  by_cases h0 : v1 < 0
  · refine br_t h0 ?_
    unfold wpY_token
    exact br_t h0 ⟨rfl, tq_in q0⟩
  refine br_f h0 ?_
  by_cases h4 : v1 ≤ 36
  rotate_left
  · refine br_f h4 ?_
    unfold wpY_token
    exact br_f h0 (br_f h4 ⟨rfl, tq_in q0⟩)
  refine br_t h4 ?_
  obtain ⟨j, hj, rfl⟩ := nI_of2 (n := 36) (by decide) h0 h4
  refine pk_eq nt 24 (fun e => ?_) (fun e => ?_)
  · unfold wpY_token
    refine br_f h0 (br_t h4 (br_t (by rw [e]; rfl) ⟨rfl, tq_in q0⟩))
  · refine ⟨vp_in_nI (by omega) (by decide), ?_⟩
    rw [nI_clamp (show nt < 2 ^ 31 by omega), tq_nu, nI_1]
    refine nm_e (nm_e ?_)
    unfold wpY_token
    refine br_f h0 (br_t h4 (br_f (by rw [show (24 : Int32) = nI 24 from rfl, nI_eq (by omega) (by omega)]; exact e) ⟨vp_in_nI (by omega) (by decide), ?_⟩))
    rw [nI_clamp (show nt < 2 ^ 31 by omega), tq_nu, nI_1]
    exact nm_e (nm_e ⟨rfl, tq_in ⟨a1, a2, by omega, a4, a5, a6, a7, tq_uall (P := fun x => x ≤ 36) a8 hj, a9, a10, a11, a12, a13, a14, a15, a16, a17⟩⟩)
theorem i_vc_untoken {k : Nat} {u : SX} {v : SY} (I : i_Rel k u v) (hk : k + 5 ≤ 2560) : wpX_untoken (fun r u' => wpY_untoken (fun r' v' => r' = r ∧ i_Rel (k + 5) u' v') v) u := by
  refine tq_el (P := fun u v => wpX_untoken (fun r u' => wpY_untoken (fun r' v' => r' = r ∧ i_Rel (k + 5) u' v') v) u) ?_ I
  intro nf ni nt fr ik ic tk rn f_group f_distinct f_orderItem f_orderDown f_limit f_nodes f_waitingNodes f_waitingWords f_broken f_top f_parts f_combos f_nextCombos f_placed f_results a_cells a_kind a_left a_right a_needs a_truth a_waitNode a_waitWord a_part a_canCount a_can a_combo a_nextCombo a_current a_stays a_result a_index a_sorted a_key a_table g_truthCount g_openCount g_chosenCount g_resultCount b_cells b_at b_truths b_open b_chosen b_results q
  have q0 := q
  obtain ⟨a1, a2, a3, a4, a5, a6, a7, a8, a9, a10, a11, a12, a13, a14, a15, a16, a17⟩ := q
  unfold wpX_untoken
  refine pk_eq nt 0 (fun e => ?_) (fun e => ?_)
  · unfold wpY_untoken
    refine br_t (by rw [e]; rfl) ⟨rfl, tq_in q0⟩
  · have e1 : nI nt - 1 = nI (nt - 1) := pk_sub (b := 1) (by omega)
    rw [e1]
    refine nm_e ⟨vp_in_nI (by omega) (by decide), ?_⟩
    unfold wpY_untoken
    refine br_f (nI_ne0 (by omega) (by omega)) ?_
    rw [e1]
    exact nm_e ⟨vp_in_nI (by omega) (by decide), rfl, tq_in ⟨a1, a2, by omega, a4, a5, a6, a7, a8, a9, a10, a11, a12, a13, a14, a15, a16, a17⟩⟩
theorem tq_m1of {x M : Int32} {n : Nat} (hM : M.toInt = n) (h : ¬ x < -1) (h8 : x ≤ M) : x = -1 ∨ ∃ g, g ≤ n ∧ x = nI g := by
  by_cases z : x < 0
  · left
    apply Int32.toInt_inj.mp
    rw [Int32.lt_iff_toInt_lt] at h z
    have e1 : (-1 : Int32).toInt = -1 := by decide
    have e2 : (0 : Int32).toInt = 0 := by decide
    omega
  · exact Or.inr (nI_of2 hM z h8)
theorem i_vc_group {k : Nat} {u : SX} {v : SY} (I : i_Rel k u v) (hk : k + 5 ≤ 2560) (v1 : Int32) : wpX_group (fun r u' => wpY_group (fun r' v' => r' = r ∧ i_Rel (k + 5) u' v') v v1) u v1 := by
  refine tq_el (P := fun u v => wpX_group (fun r u' => wpY_group (fun r' v' => r' = r ∧ i_Rel (k + 5) u' v') v v1) u v1) ?_ I
  intro nf ni nt fr ik ic tk rn f_group f_distinct f_orderItem f_orderDown f_limit f_nodes f_waitingNodes f_waitingWords f_broken f_top f_parts f_combos f_nextCombos f_placed f_results a_cells a_kind a_left a_right a_needs a_truth a_waitNode a_waitWord a_part a_canCount a_can a_combo a_nextCombo a_current a_stays a_result a_index a_sorted a_key a_table g_truthCount g_openCount g_chosenCount g_resultCount b_cells b_at b_truths b_open b_chosen b_results q
  have q0 := q
  obtain ⟨a1, a2, a3, a4, a5, a6, a7, a8, a9, a10, a11, a12, a13, a14, a15, a16, a17⟩ := q
  unfold wpX_group
  by_cases h0 : v1 < -1
  · refine br_t h0 ?_
    unfold wpY_group
    exact br_t h0 ⟨rfl, tq_in q0⟩
  refine br_f h0 ?_
  by_cases h8 : v1 ≤ 8
  · refine br_t h8 ?_
    unfold wpY_group
    exact br_f h0 (br_t h8 ⟨rfl, tq_in ⟨a1, a2, a3, a4, a5, a6, a7, a8, a9, tq_m1of (n := 8) (by decide) h0 h8, a11, a12, a13, a14, a15, a16, a17⟩⟩)
  · refine br_f h8 ?_
    unfold wpY_group
    exact br_f h0 (br_f h8 ⟨rfl, tq_in q0⟩)
theorem i_vc_different {k : Nat} {u : SX} {v : SY} (I : i_Rel k u v) (hk : k + 5 ≤ 2560) (v1 : Int32) : wpX_different (fun r u' => wpY_different (fun r' v' => r' = r ∧ i_Rel (k + 5) u' v') v v1) u v1 := by
  refine tq_el (P := fun u v => wpX_different (fun r u' => wpY_different (fun r' v' => r' = r ∧ i_Rel (k + 5) u' v') v v1) u v1) ?_ I
  intro nf ni nt fr ik ic tk rn f_group f_distinct f_orderItem f_orderDown f_limit f_nodes f_waitingNodes f_waitingWords f_broken f_top f_parts f_combos f_nextCombos f_placed f_results a_cells a_kind a_left a_right a_needs a_truth a_waitNode a_waitWord a_part a_canCount a_can a_combo a_nextCombo a_current a_stays a_result a_index a_sorted a_key a_table g_truthCount g_openCount g_chosenCount g_resultCount b_cells b_at b_truths b_open b_chosen b_results q
  obtain ⟨a1, a2, a3, a4, a5, a6, a7, a8, a9, a10, a11, a12, a13, a14, a15, a16, a17⟩ := q
  unfold wpX_different
  by_cases h0 : v1 = 0
  · refine br_t h0 ?_
    unfold wpY_different
    exact br_t h0 ⟨rfl, tq_in ⟨a1, a2, a3, a4, a5, a6, a7, a8, a9, a10, Or.inl rfl, a12, a13, a14, a15, a16, a17⟩⟩
  · refine br_f h0 ?_
    unfold wpY_different
    exact br_f h0 ⟨rfl, tq_in ⟨a1, a2, a3, a4, a5, a6, a7, a8, a9, a10, Or.inr rfl, a12, a13, a14, a15, a16, a17⟩⟩
theorem i_vc_order {k : Nat} {u : SX} {v : SY} (I : i_Rel k u v) (hk : k + 5 ≤ 2560) (v1 : Int32) (v2 : Int32) : wpX_order (fun r u' => wpY_order (fun r' v' => r' = r ∧ i_Rel (k + 5) u' v') v v1 v2) u v1 v2 := by
  refine tq_el (P := fun u v => wpX_order (fun r u' => wpY_order (fun r' v' => r' = r ∧ i_Rel (k + 5) u' v') v v1 v2) u v1 v2) ?_ I
  intro nf ni nt fr ik ic tk rn f_group f_distinct f_orderItem f_orderDown f_limit f_nodes f_waitingNodes f_waitingWords f_broken f_top f_parts f_combos f_nextCombos f_placed f_results a_cells a_kind a_left a_right a_needs a_truth a_waitNode a_waitWord a_part a_canCount a_can a_combo a_nextCombo a_current a_stays a_result a_index a_sorted a_key a_table g_truthCount g_openCount g_chosenCount g_resultCount b_cells b_at b_truths b_open b_chosen b_results q
  have q0 := q
  obtain ⟨a1, a2, a3, a4, a5, a6, a7, a8, a9, a10, a11, a12, a13, a14, a15, a16, a17⟩ := q
  unfold wpX_order
  by_cases h0 : v1 < -1
  · refine br_t h0 ?_
    unfold wpY_order
    exact br_t h0 ⟨rfl, tq_in q0⟩
  refine br_f h0 ?_
  by_cases h8 : v1 ≤ 3
  · refine br_t h8 ?_
    have hv := tq_m1of (n := 3) (by decide) h0 h8
    by_cases hz : v2 = 0
    · refine br_t hz ?_
      unfold wpY_order
      exact br_f h0 (br_t h8 (br_t hz ⟨rfl, tq_in ⟨a1, a2, a3, a4, a5, a6, a7, a8, a9, a10, a11, hv, Or.inl rfl, a14, a15, a16, a17⟩⟩))
    · refine br_f hz ?_
      unfold wpY_order
      exact br_f h0 (br_t h8 (br_f hz ⟨rfl, tq_in ⟨a1, a2, a3, a4, a5, a6, a7, a8, a9, a10, a11, hv, Or.inr rfl, a14, a15, a16, a17⟩⟩))
  · refine br_f h8 ?_
    unfold wpY_order
    exact br_f h0 (br_f h8 ⟨rfl, tq_in q0⟩)
theorem i_vc_limit {k : Nat} {u : SX} {v : SY} (I : i_Rel k u v) (hk : k + 5 ≤ 2560) (v1 : Int32) : wpX_limit (fun r u' => wpY_limit (fun r' v' => r' = r ∧ i_Rel (k + 5) u' v') v v1) u v1 := by
  refine tq_el (P := fun u v => wpX_limit (fun r u' => wpY_limit (fun r' v' => r' = r ∧ i_Rel (k + 5) u' v') v v1) u v1) ?_ I
  intro nf ni nt fr ik ic tk rn f_group f_distinct f_orderItem f_orderDown f_limit f_nodes f_waitingNodes f_waitingWords f_broken f_top f_parts f_combos f_nextCombos f_placed f_results a_cells a_kind a_left a_right a_needs a_truth a_waitNode a_waitWord a_part a_canCount a_can a_combo a_nextCombo a_current a_stays a_result a_index a_sorted a_key a_table g_truthCount g_openCount g_chosenCount g_resultCount b_cells b_at b_truths b_open b_chosen b_results q
  have q0 := q
  obtain ⟨a1, a2, a3, a4, a5, a6, a7, a8, a9, a10, a11, a12, a13, a14, a15, a16, a17⟩ := q
  unfold wpX_limit
  by_cases h0 : v1 < -1
  · refine br_t h0 ?_
    unfold wpY_limit
    exact br_t h0 ⟨rfl, tq_in q0⟩
  refine br_f h0 ?_
  by_cases h8 : v1 ≤ 50
  · refine br_t h8 ?_
    unfold wpY_limit
    exact br_f h0 (br_t h8 ⟨rfl, tq_in ⟨a1, a2, a3, a4, a5, a6, a7, a8, a9, a10, a11, a12, a13, tq_m1of (n := 50) (by decide) h0 h8, a15, a16, a17⟩⟩)
  · refine br_f h8 ?_
    unfold wpY_limit
    exact br_f h0 (br_f h8 ⟨rfl, tq_in q0⟩)
end
section
/-! the condition: a machine of two stacks -/
abbrev tq_V : Type := (Nat → Int32) → Bool
def tq_cmp (o a b : Nat) : tq_V := fun v => if o = 29 then decide (v a = v b) else if o = 30 then decide (v a < v b) else decide (v b < v a)
def tq_not (f : tq_V) : tq_V := fun v => !(f v)
def tq_bin (o : Nat) (f g : tq_V) : tq_V := fun v => if o = 32 then (f v && g v) else (f v || g v)
def tq_ap2 (o : Nat) (g : tq_V) : List tq_V → List tq_V
  | [] => [g]
  | f :: r => tq_bin o f g :: r
def tq_app (o : Nat) : List tq_V → List tq_V
  | [] => []
  | f :: r => if o = 34 then tq_not f :: r else tq_ap2 o f r
def tq_jn (w o : Nat) : Bool := decide (o = 34 ∨ o = 32 ∨ (o = 33 ∧ w ≠ 32))
def tq_jd (w : Nat) : List tq_V → List Nat → List tq_V × List Nat
  | vs, [] => (vs, [])
  | vs, o :: ws => if tq_jn w o = true then tq_jd w (tq_app o vs) ws else (vs, o :: ws)
theorem tq_jd_t {w o : Nat} {vs : List tq_V} {ws : List Nat} (h : tq_jn w o = true) : tq_jd w vs (o :: ws) = tq_jd w (tq_app o vs) ws := if_pos h
theorem tq_jd_f {w o : Nat} {vs : List tq_V} {ws : List Nat} (h : ¬ tq_jn w o = true) : tq_jd w vs (o :: ws) = (vs, o :: ws) := if_neg h
def tq_cb : List Nat → Nat
  | [] => 0
  | o :: ws => (if o = 32 ∨ o = 33 then 1 else 0) + tq_cb ws
def tq_dp : List Nat → Nat
  | [] => 0
  | o :: ws => (if o = 35 then 1 else 0) + tq_dp ws
def tq_wk (ws : List Nat) : Prop := ∀ o, o ∈ ws → 32 ≤ o ∧ o ≤ 35
theorem tq_wk_t {o : Nat} {ws : List Nat} (h : tq_wk (o :: ws)) : tq_wk ws := fun x hx => h x (List.mem_cons_of_mem _ hx)
theorem tq_wk_h {o : Nat} {ws : List Nat} (h : tq_wk (o :: ws)) : 32 ≤ o ∧ o ≤ 35 := h o (List.mem_cons_self)
theorem tq_wk_c {o : Nat} {ws : List Nat} (h0 : 32 ≤ o ∧ o ≤ 35) (h : tq_wk ws) : tq_wk (o :: ws) := by
  intro x hx
  rcases List.mem_cons.mp hx with rfl | z
  · exact h0
  · exact h x z
theorem tq_jn_iff {w o : Nat} : tq_jn w o = true ↔ (o = 34 ∨ o = 32 ∨ (o = 33 ∧ w ≠ 32)) := decide_eq_true_iff
theorem tq_app_len {o : Nat} {vs : List tq_V} {ws : List Nat} (hj : o = 34 ∨ o = 32 ∨ o = 33) (h : vs.length = tq_cb (o :: ws) + 1) : (tq_app o vs).length = tq_cb ws + 1 := by
  unfold tq_cb at h
  cases vs with
  | nil => simp at h
  | cons f r =>
    show (if o = 34 then tq_not f :: r else tq_ap2 o f r).length = _
    simp only [List.length_cons] at h
    by_cases z : o = 34
    · rw [if_pos z]
      rw [if_neg (by omega)] at h
      simp only [List.length_cons]
      omega
    · rw [if_neg z]
      rw [if_pos (by omega)] at h
      cases r with
      | nil => simp at h
      | cons g r' =>
        show (tq_bin o g f :: r').length = _
        simp only [List.length_cons] at h ⊢
        omega
theorem tq_jd_len {w : Nat} : ∀ (ws : List Nat) (vs : List tq_V), vs.length = tq_cb ws + 1 → (tq_jd w vs ws).1.length = tq_cb (tq_jd w vs ws).2 + 1
  | [], vs, h => h
  | o :: ws, vs, h => by
    by_cases z : tq_jn w o = true
    · rw [tq_jd_t z]
      exact tq_jd_len ws _ (tq_app_len (by rw [tq_jn_iff] at z; omega) h)
    · rw [tq_jd_f z]
      exact h
theorem tq_jd_dp {w : Nat} : ∀ (ws : List Nat) (vs : List tq_V), tq_dp (tq_jd w vs ws).2 = tq_dp ws
  | [], _ => rfl
  | o :: ws, vs => by
    by_cases z : tq_jn w o = true
    · rw [tq_jd_t z, tq_jd_dp ws]
      show _ = (if o = 35 then 1 else 0) + tq_dp ws
      rw [if_neg (by rw [tq_jn_iff] at z; omega)]
      omega
    · rw [tq_jd_f z]
theorem tq_jd_wk {w : Nat} : ∀ (ws : List Nat) (vs : List tq_V), tq_wk ws → tq_wk (tq_jd w vs ws).2
  | [], _, h => h
  | o :: ws, vs, h => by
    by_cases z : tq_jn w o = true
    · rw [tq_jd_t z]; exact tq_jd_wk ws _ (tq_wk_t h)
    · rw [tq_jd_f z]; exact h
/-- behind a join down to a closing bracket an opening one is on top, or nothing -/
theorem tq_jd_top : ∀ (ws : List Nat) (vs : List tq_V), tq_wk ws → (tq_jd 36 vs ws).2 = [] ∨ ∃ r, (tq_jd 36 vs ws).2 = 35 :: r
  | [], _, _ => Or.inl rfl
  | o :: ws, vs, h => by
    by_cases z : tq_jn 36 o = true
    · rw [tq_jd_t z]; exact tq_jd_top ws _ (tq_wk_t h)
    · rw [tq_jd_f z]
      have := tq_wk_h h
      have e : o = 35 := by
        rcases Nat.lt_or_ge o 35 with y | y
        · exact absurd (tq_jn_iff.mpr (by omega)) z
        · omega
      exact Or.inr ⟨ws, by rw [e]⟩
def tq_fin (vs : List tq_V) (ws : List Nat) : Option tq_V := if ws = [] then vs.head? else none
def tq_cok (nt : Nat) (tk : Nat → Nat) (ok : Nat → Bool) (i : Nat) : Bool := decide (ok (tk i) = true ∧ i + 2 < nt ∧ 29 ≤ tk (i + 1) ∧ tk (i + 1) ≤ 31 ∧ ok (tk (i + 2)) = true)
def tq_rd (nt : Nat) (tk : Nat → Nat) (ok : Nat → Bool) : Nat → Nat → Bool → List tq_V → List Nat → Option tq_V
  | 0, _, _, _, _ => none
  | n + 1, i, b, vs, ws =>
    if nt ≤ i then (if b = true then tq_fin (tq_jd 36 vs ws).1 (tq_jd 36 vs ws).2 else none)
    else if b = true then
      (if tk i = 36 then (if (tq_jd 36 vs ws).2 = [] then none else tq_rd nt tk ok n (i + 1) true (tq_jd 36 vs ws).1 (tq_jd 36 vs ws).2.tail)
       else if tk i = 32 ∨ tk i = 33 then tq_rd nt tk ok n (i + 1) false (tq_jd (tk i) vs ws).1 (tk i :: (tq_jd (tk i) vs ws).2)
       else none)
    else if tk i = 34 ∨ tk i = 35 then tq_rd nt tk ok n (i + 1) false vs (tk i :: ws)
    else if tq_cok nt tk ok i = true then tq_rd nt tk ok n (i + 3) true (tq_cmp (tk (i + 1)) (tk i) (tk (i + 2)) :: vs) ws
    else none
section
variable {nt : Nat} {tk : Nat → Nat} {ok : Nat → Bool} {n i : Nat} {vs : List tq_V} {ws : List Nat}
theorem tq_rd_e1 (h : nt ≤ i) : tq_rd nt tk ok (n + 1) i true vs ws = tq_fin (tq_jd 36 vs ws).1 (tq_jd 36 vs ws).2 := by
  rw [tq_rd, if_pos h, if_pos rfl]
theorem tq_rd_e0 (h : nt ≤ i) : tq_rd nt tk ok (n + 1) i false vs ws = none := by
  rw [tq_rd, if_pos h, if_neg (by decide)]
theorem tq_rd_36 (h : ¬ nt ≤ i) (z : tk i = 36) : tq_rd nt tk ok (n + 1) i true vs ws = if (tq_jd 36 vs ws).2 = [] then none else tq_rd nt tk ok n (i + 1) true (tq_jd 36 vs ws).1 (tq_jd 36 vs ws).2.tail := by
  rw [tq_rd, if_neg h, if_pos rfl, if_pos z]
theorem tq_rd_op (h : ¬ nt ≤ i) (z : tk i = 32 ∨ tk i = 33) : tq_rd nt tk ok (n + 1) i true vs ws = tq_rd nt tk ok n (i + 1) false (tq_jd (tk i) vs ws).1 (tk i :: (tq_jd (tk i) vs ws).2) := by
  rw [tq_rd, if_neg h, if_pos rfl, if_neg (by omega), if_pos z]
theorem tq_rd_b1 (h : ¬ nt ≤ i) (z : tk i ≠ 36) (z2 : ¬ (tk i = 32 ∨ tk i = 33)) : tq_rd nt tk ok (n + 1) i true vs ws = none := by
  rw [tq_rd, if_neg h, if_pos rfl, if_neg z, if_neg z2]
theorem tq_rd_no (h : ¬ nt ≤ i) (z : tk i = 34 ∨ tk i = 35) : tq_rd nt tk ok (n + 1) i false vs ws = tq_rd nt tk ok n (i + 1) false vs (tk i :: ws) := by
  rw [tq_rd, if_neg h, if_neg (by decide), if_pos z]
theorem tq_rd_c (h : ¬ nt ≤ i) (z : ¬ (tk i = 34 ∨ tk i = 35)) (z2 : tq_cok nt tk ok i = true) : tq_rd nt tk ok (n + 1) i false vs ws = tq_rd nt tk ok n (i + 3) true (tq_cmp (tk (i + 1)) (tk i) (tk (i + 2)) :: vs) ws := by
  rw [tq_rd, if_neg h, if_neg (by decide), if_neg z, if_pos z2]
theorem tq_rd_b0 (h : ¬ nt ≤ i) (z : ¬ (tk i = 34 ∨ tk i = 35)) (z2 : ¬ tq_cok nt tk ok i = true) : tq_rd nt tk ok (n + 1) i false vs ws = none := by
  rw [tq_rd, if_neg h, if_neg (by decide), if_neg z, if_neg z2]
end
/-! nodes: kind, left, right, needs, meaning, size -/
abbrev tq_Nd : Type := Nat × Nat × Nat × Nat × tq_V × Nat
def tq_ok (nf : Nat) (fr : Nat → Nat) (x : Nat) : Bool := decide (x ≤ 28 ∧ (8 < x ∨ tq_pc nf fr (x / 3) < 3))
def tq_nd (nf : Nat) (fr : Nat → Nat) (x : Nat) : Nat := if x < 9 ∧ tq_pc nf fr (x / 3) < 3 then 2 ^ (tq_pc nf fr (x / 3)) else 0
theorem tq_nd8 (nf : Nat) (fr : Nat → Nat) (x : Nat) : tq_nd nf fr x < 8 := by
  unfold tq_nd
  split
  · rename_i h; exact tq_one8 h.2
  · omega
def tq_NS (nf : Nat) (fr : Nat → Nat) (G : Nat → tq_Nd) (i : Nat) : Prop :=
  (29 ≤ (G i).1 ∧ (G i).1 ≤ 31 ∧ tq_ok nf fr (G i).2.1 = true ∧ tq_ok nf fr (G i).2.2.1 = true ∧ (G i).2.2.2.1 = tq_nd nf fr (G i).2.1 ||| tq_nd nf fr (G i).2.2.1 ∧ (G i).2.2.2.2.1 = tq_cmp (G i).1 (G i).2.1 (G i).2.2.1 ∧ (G i).2.2.2.2.2 = 1) ∨
  ((G i).1 = 34 ∧ (G i).2.1 < i ∧ (G i).2.2.1 = (G i).2.1 ∧ (G i).2.2.2.1 = (G (G i).2.1).2.2.2.1 ∧ (G i).2.2.2.2.1 = tq_not (G (G i).2.1).2.2.2.2.1 ∧ (G i).2.2.2.2.2 = 1 + (G (G i).2.1).2.2.2.2.2) ∨
  (((G i).1 = 32 ∨ (G i).1 = 33) ∧ (G i).2.1 < i ∧ (G i).2.2.1 < i ∧ (G i).2.2.2.1 = (G (G i).2.1).2.2.2.1 ||| (G (G i).2.2.1).2.2.2.1 ∧ (G i).2.2.2.2.1 = tq_bin (G i).1 (G (G i).2.1).2.2.2.2.1 (G (G i).2.2.1).2.2.2.2.1 ∧ (G i).2.2.2.2.2 = 1 + (G (G i).2.1).2.2.2.2.2 + (G (G i).2.2.1).2.2.2.2.2)
def tq_NA (N : Nat) (G : Nat → tq_Nd) (ak al ar an : Nat → Int32) : Prop := ∀ i, i < N → ak i = nI (G i).1 ∧ al i = nI (G i).2.1 ∧ ar i = nI (G i).2.2.1 ∧ an i = nI (G i).2.2.2.1 ∧ (G i).2.2.2.1 < 8
def tq_NI (nf : Nat) (fr : Nat → Nat) (N : Nat) (G : Nat → tq_Nd) (ak al ar an : Nat → Int32) : Prop := tq_NA N G ak al ar an ∧ ∀ i, i < N → tq_NS nf fr G i
theorem tq_NS_cg {nf : Nat} {fr : Nat → Nat} {G G' : Nat → tq_Nd} {i : Nat} (h : ∀ j, j ≤ i → G' j = G j) (s : tq_NS nf fr G i) : tq_NS nf fr G' i := by
  unfold tq_NS at s ⊢
  rw [h i (Nat.le_refl _)]
  rcases s with s | s | s
  · exact Or.inl s
  · obtain ⟨a, b, c, d, e, f⟩ := s
    refine Or.inr (Or.inl ⟨a, b, c, ?_⟩)
    rw [h _ (Nat.le_of_lt b)]
    exact ⟨d, e, f⟩
  · obtain ⟨a, b, c, d, e, f⟩ := s
    refine Or.inr (Or.inr ⟨a, b, c, ?_⟩)
    rw [h _ (Nat.le_of_lt b), h _ (Nat.le_of_lt c)]
    exact ⟨d, e, f⟩
/-- a node is added -/
theorem tq_NI_add {nf : Nat} {fr : Nat → Nat} {N : Nat} {G : Nat → tq_Nd} {ak al ar an : Nat → Int32} (h : tq_NI nf fr N G ak al ar an) (k l r m : Nat) (f : tq_V) (z : Nat) (hm : m < 8) (s : tq_NS nf fr (tq_u G N (k, l, r, m, f, z)) N) :
    tq_NI nf fr (N + 1) (tq_u G N (k, l, r, m, f, z)) (upd ak N (nI k)) (upd al N (nI l)) (upd ar N (nI r)) (upd an N (nI m)) := by
  refine ⟨fun i hi => ?_, fun i hi => ?_⟩
  · by_cases e : i = N
    · subst e
      rw [tq_us, pk_us, pk_us, pk_us, pk_us]
      exact ⟨rfl, rfl, rfl, rfl, hm⟩
    · rw [tq_un e, pk_un e, pk_un e, pk_un e, pk_un e]
      exact h.1 i (by omega)
  · by_cases e : i = N
    · subst e; exact s
    · exact tq_NS_cg (fun j hj => tq_un (by omega)) (h.2 i (by omega))
/-! stacks -/
def tq_st (a : Nat → Int32) : List Nat → Prop
  | [] => True
  | x :: l => a l.length = nI x ∧ tq_st a l
theorem tq_st_cg {a a' : Nat → Int32} : ∀ (l : List Nat), (∀ j, j < l.length → a' j = a j) → tq_st a l → tq_st a' l
  | [], _, _ => trivial
  | x :: l, h, s => by
    refine ⟨?_, tq_st_cg l (fun j hj => h j (by simp only [List.length_cons]; omega)) s.2⟩
    rw [h l.length (by simp only [List.length_cons]; omega)]
    exact s.1
theorem tq_st_push {a : Nat → Int32} {x : Nat} {l : List Nat} (s : tq_st a l) : tq_st (upd a l.length (nI x)) (x :: l) :=
  ⟨pk_us, tq_st_cg l (fun _ hj => pk_un (by omega)) s⟩
def tq_sz (G : Nat → tq_Nd) : List Nat → Nat
  | [] => 0
  | x :: l => (G x).2.2.2.2.2 + tq_sz G l
def tq_ms (G : Nat → tq_Nd) (ns : List Nat) : List tq_V := ns.map (fun j => (G j).2.2.2.2.1)
def tq_bl (N : Nat) (ns : List Nat) : Prop := ∀ j, j ∈ ns → j < N
theorem tq_sz_cg {G G' : Nat → tq_Nd} : ∀ (l : List Nat), (∀ j, j ∈ l → G' j = G j) → tq_sz G' l = tq_sz G l
  | [], _ => rfl
  | x :: l, h => by
    show (G' x).2.2.2.2.2 + tq_sz G' l = (G x).2.2.2.2.2 + tq_sz G l
    rw [h x List.mem_cons_self, tq_sz_cg l (fun j hj => h j (List.mem_cons_of_mem _ hj))]
theorem tq_ms_cg {G G' : Nat → tq_Nd} (l : List Nat) (h : ∀ j, j ∈ l → G' j = G j) : tq_ms G' l = tq_ms G l := by
  unfold tq_ms
  exact List.map_congr_left (fun j hj => by rw [h j hj])
theorem tq_sz1 {nf : Nat} {fr : Nat → Nat} {G : Nat → tq_Nd} {i : Nat} (s : tq_NS nf fr G i) : 1 ≤ (G i).2.2.2.2.2 := by
  rcases s with s | s | s
  · omega
  · omega
  · omega
theorem tq_sz_len {nf : Nat} {fr : Nat → Nat} {G : Nat → tq_Nd} : ∀ (l : List Nat), (∀ j, j ∈ l → tq_NS nf fr G j) → l.length ≤ tq_sz G l
  | [], _ => Nat.le_refl _
  | x :: l, h => by
    have a := tq_sz1 (h x List.mem_cons_self)
    have b := tq_sz_len l (fun j hj => h j (List.mem_cons_of_mem _ hj))
    show l.length + 1 ≤ (G x).2.2.2.2.2 + tq_sz G l
    omega
/-- the parse's state: nodes, waiting nodes, waiting words -/
def tq_PI (nf : Nat) (fr : Nat → Nat) (N : Nat) (G : Nat → tq_Nd) (ns ws : List Nat) (ak al ar an wn ww : Nat → Int32) : Prop :=
  tq_NI nf fr N G ak al ar an ∧ tq_st wn ns ∧ tq_st ww ws ∧ tq_bl N ns ∧ tq_sz G ns = N ∧ tq_wk ws
theorem tq_PI_len {nf : Nat} {fr : Nat → Nat} {N : Nat} {G : Nat → tq_Nd} {ns ws : List Nat} {ak al ar an wn ww : Nat → Int32} (h : tq_PI nf fr N G ns ws ak al ar an wn ww) : ns.length ≤ N := by
  obtain ⟨a, b, c, d, e, f⟩ := h
  rw [← e]
  exact tq_sz_len ns (fun j hj => a.2 j (d j hj))
end
section
section
variable {nf ni nt : Nat} {fr ik ic tk rn : Nat → Nat} {f_group f_distinct f_orderItem f_orderDown f_limit f_nodes f_waitingNodes f_waitingWords f_broken f_top f_parts f_combos f_nextCombos f_placed f_results : Int32} {a_cells a_kind a_left a_right a_needs a_truth a_waitNode a_waitWord a_part a_canCount a_can a_combo a_nextCombo a_current a_stays a_result a_index a_sorted a_key a_table : Nat → Int32}
theorem xw_makeNode {post : Int32 → SX → Prop} {N : Nat} {p0 p1 p2 p3 : Int32} (hN : N < 24) (hp : post (nI N) ((nI nf), (nI ni), (nI nt), f_group, f_distinct, f_orderItem, f_orderDown, f_limit, (nI (N + 1)), f_waitingNodes, f_waitingWords, f_broken, f_top, f_parts, f_combos, f_nextCombos, f_placed, f_results, (tq_n rn), a_cells, (tq_n fr), (tq_n ik), (tq_n ic), (tq_n tk), (upd a_kind N p0), (upd a_left N p1), (upd a_right N p2), (upd a_needs N p3), a_truth, a_waitNode, a_waitWord, a_part, a_canCount, a_can, a_combo, a_nextCombo, a_current, a_stays, a_result, a_index, a_sorted, a_key, a_table)) : wpX_makeNode post ((nI nf), (nI ni), (nI nt), f_group, f_distinct, f_orderItem, f_orderDown, f_limit, (nI N), f_waitingNodes, f_waitingWords, f_broken, f_top, f_parts, f_combos, f_nextCombos, f_placed, f_results, (tq_n rn), a_cells, (tq_n fr), (tq_n ik), (tq_n ic), (tq_n tk), a_kind, a_left, a_right, a_needs, a_truth, a_waitNode, a_waitWord, a_part, a_canCount, a_can, a_combo, a_nextCombo, a_current, a_stays, a_result, a_index, a_sorted, a_key, a_table) p0 p1 p2 p3 := by
  unfold wpX_makeNode
  dsimp only
  rw [nI_clamp (show N < 2 ^ 31 by omega), nI_1]
  refine ⟨vp_in_nI hN (by decide), nm_e ⟨vp_in_nI hN (by decide), nm_e ⟨vp_in_nI hN (by decide), nm_e ⟨vp_in_nI hN (by decide), nm_e (nm_e ?_)⟩⟩⟩⟩
  rw [nI_pred]
  exact hp
theorem xw_putNode {post : SX → Prop} {m : Nat} {p0 : Int32} (hN : m < 24) (hp : post ((nI nf), (nI ni), (nI nt), f_group, f_distinct, f_orderItem, f_orderDown, f_limit, f_nodes, (nI (m + 1)), f_waitingWords, f_broken, f_top, f_parts, f_combos, f_nextCombos, f_placed, f_results, (tq_n rn), a_cells, (tq_n fr), (tq_n ik), (tq_n ic), (tq_n tk), a_kind, a_left, a_right, a_needs, a_truth, (upd a_waitNode m p0), a_waitWord, a_part, a_canCount, a_can, a_combo, a_nextCombo, a_current, a_stays, a_result, a_index, a_sorted, a_key, a_table)) : wpX_putNode post ((nI nf), (nI ni), (nI nt), f_group, f_distinct, f_orderItem, f_orderDown, f_limit, f_nodes, (nI m), f_waitingWords, f_broken, f_top, f_parts, f_combos, f_nextCombos, f_placed, f_results, (tq_n rn), a_cells, (tq_n fr), (tq_n ik), (tq_n ic), (tq_n tk), a_kind, a_left, a_right, a_needs, a_truth, a_waitNode, a_waitWord, a_part, a_canCount, a_can, a_combo, a_nextCombo, a_current, a_stays, a_result, a_index, a_sorted, a_key, a_table) p0 := by
  unfold wpX_putNode
  dsimp only
  rw [nI_clamp (show m < 2 ^ 31 by omega), nI_1]
  exact ⟨vp_in_nI hN (by decide), nm_e (nm_e hp)⟩
theorem xw_putWord {post : SX → Prop} {m : Nat} {p0 : Int32} (hN : m < 24) (hp : post ((nI nf), (nI ni), (nI nt), f_group, f_distinct, f_orderItem, f_orderDown, f_limit, f_nodes, f_waitingNodes, (nI (m + 1)), f_broken, f_top, f_parts, f_combos, f_nextCombos, f_placed, f_results, (tq_n rn), a_cells, (tq_n fr), (tq_n ik), (tq_n ic), (tq_n tk), a_kind, a_left, a_right, a_needs, a_truth, a_waitNode, (upd a_waitWord m p0), a_part, a_canCount, a_can, a_combo, a_nextCombo, a_current, a_stays, a_result, a_index, a_sorted, a_key, a_table)) : wpX_putWord post ((nI nf), (nI ni), (nI nt), f_group, f_distinct, f_orderItem, f_orderDown, f_limit, f_nodes, f_waitingNodes, (nI m), f_broken, f_top, f_parts, f_combos, f_nextCombos, f_placed, f_results, (tq_n rn), a_cells, (tq_n fr), (tq_n ik), (tq_n ic), (tq_n tk), a_kind, a_left, a_right, a_needs, a_truth, a_waitNode, a_waitWord, a_part, a_canCount, a_can, a_combo, a_nextCombo, a_current, a_stays, a_result, a_index, a_sorted, a_key, a_table) p0 := by
  unfold wpX_putWord
  dsimp only
  rw [nI_clamp (show m < 2 ^ 31 by omega), nI_1]
  exact ⟨vp_in_nI hN (by decide), nm_e (nm_e hp)⟩
theorem xw_needOf {post : Int32 → SX → Prop} {x : Nat} {bk : Bool} (d : tq_ds nf fr) (fl : ∀ i, fr i < 3) (hx : x ≤ 28) (hp : post (nI (tq_nd nf fr x)) ((nI nf), (nI ni), (nI nt), f_group, f_distinct, f_orderItem, f_orderDown, f_limit, f_nodes, f_waitingNodes, f_waitingWords, (tq_b (bk || !(tq_ok nf fr x))), f_top, f_parts, f_combos, f_nextCombos, f_placed, f_results, (tq_n rn), a_cells, (tq_n fr), (tq_n ik), (tq_n ic), (tq_n tk), a_kind, a_left, a_right, a_needs, a_truth, a_waitNode, a_waitWord, a_part, a_canCount, a_can, a_combo, a_nextCombo, a_current, a_stays, a_result, a_index, a_sorted, a_key, a_table)) : wpX_needOf post ((nI nf), (nI ni), (nI nt), f_group, f_distinct, f_orderItem, f_orderDown, f_limit, f_nodes, f_waitingNodes, f_waitingWords, (tq_b bk), f_top, f_parts, f_combos, f_nextCombos, f_placed, f_results, (tq_n rn), a_cells, (tq_n fr), (tq_n ik), (tq_n ic), (tq_n tk), a_kind, a_left, a_right, a_needs, a_truth, a_waitNode, a_waitWord, a_part, a_canCount, a_can, a_combo, a_nextCombo, a_current, a_stays, a_result, a_index, a_sorted, a_key, a_table) (nI x) := by
  unfold wpX_needOf
  dsimp only
  refine pk_lt x 9 (fun h => ⟨by decide, ?_⟩) (fun h => ?_)
  · rw [show nI x / 3 = nI (x / 3) from pk_div (d := 3) (by omega) (by omega) (by decide)]
    refine xw_placeOf d.1 (by omega) fl ?_
    by_cases z : tq_pc nf fr (x / 3) < 3
    · rw [tq_pl_t d z]
      have e1 : tq_nd nf fr x = 2 ^ tq_pc nf fr (x / 3) := if_pos ⟨h, z⟩
      have e2 : tq_ok nf fr x = true := decide_eq_true ⟨hx, Or.inr z⟩
      rw [e1, e2] at hp
      cases bk with
      | false =>
        refine br_t rfl (br_t (nI_pos' (by omega)) ?_)
        refine ⟨rfl, rfl, br_t (nI_pos' (by omega)) ?_⟩
        rw [tq_one z]
        exact hp
      | true =>
        refine br_f (by decide) ⟨rfl, rfl, br_t (nI_pos' (by omega)) ?_⟩
        rw [tq_one z]
        exact hp
    · rw [tq_pl_f d z]
      have e1 : tq_nd nf fr x = 0 := if_neg (fun y => z y.2)
      have e2 : tq_ok nf fr x = false := decide_eq_false (fun y => by rcases y.2 with q | q <;> omega)
      rw [e1, e2] at hp
      cases bk with
      | false => exact br_t rfl (br_f tq_m1 ⟨rfl, rfl, br_f tq_m1 hp⟩)
      | true => exact br_f (by decide) ⟨rfl, rfl, br_f tq_m1 hp⟩
  · have e1 : tq_nd nf fr x = 0 := if_neg (fun y => by omega)
    have e2 : tq_ok nf fr x = true := decide_eq_true ⟨hx, Or.inl (by omega)⟩
    rw [e1, e2] at hp
    cases bk with
    | false => exact hp
    | true => exact hp
theorem xw_isValue {post : Int32 → Prop} {i : Nat} (h24 : nt ≤ 24) (hi : i < 2 ^ 30) (tl : ∀ i, tk i ≤ 36) (h1 : i < nt → tk i ≤ 28 → post 1) (h0 : ¬ (i < nt ∧ tk i ≤ 28) → post 0) : wpX_isValue post ((nI nf), (nI ni), (nI nt), f_group, f_distinct, f_orderItem, f_orderDown, f_limit, f_nodes, f_waitingNodes, f_waitingWords, f_broken, f_top, f_parts, f_combos, f_nextCombos, f_placed, f_results, (tq_n rn), a_cells, (tq_n fr), (tq_n ik), (tq_n ic), (tq_n tk), a_kind, a_left, a_right, a_needs, a_truth, a_waitNode, a_waitWord, a_part, a_canCount, a_can, a_combo, a_nextCombo, a_current, a_stays, a_result, a_index, a_sorted, a_key, a_table) (nI i) := by
  unfold wpX_isValue
  dsimp only
  have t := tl i
  refine pk_le nt i (fun h => h0 (by omega)) (fun h => ⟨vp_in_nI (by omega) (by decide), ?_⟩)
  rw [nI_clamp (show i < 2 ^ 31 by omega)]
  exact pk_lt 28 (tk i) (fun z => h0 (by omega)) (fun z => h1 h z)
theorem xw_readComparison {post : SX → Prop} {i N m : Nat} (d : tq_ds nf fr) (fl : ∀ i, fr i < 3) (h24 : nt ≤ 24) (tl : ∀ i, tk i ≤ 36) (hi : i < nt) (hN : N < 24) (hm : m < 24)
    (h0 : ¬ tq_cok nt tk (tq_ok nf fr) i = true → ∀ (f_nodes f_waitingNodes : Int32) (a_kind a_left a_right a_needs a_waitNode : Nat → Int32), post ((nI nf), (nI ni), (nI nt), f_group, f_distinct, f_orderItem, f_orderDown, f_limit, f_nodes, f_waitingNodes, f_waitingWords, 1, f_top, f_parts, f_combos, f_nextCombos, f_placed, f_results, (tq_n rn), a_cells, (tq_n fr), (tq_n ik), (tq_n ic), (tq_n tk), a_kind, a_left, a_right, a_needs, a_truth, a_waitNode, a_waitWord, a_part, a_canCount, a_can, a_combo, a_nextCombo, a_current, a_stays, a_result, a_index, a_sorted, a_key, a_table))
    (h1 : tq_cok nt tk (tq_ok nf fr) i = true → post ((nI nf), (nI ni), (nI nt), f_group, f_distinct, f_orderItem, f_orderDown, f_limit, (nI (N + 1)), (nI (m + 1)), f_waitingWords, 0, f_top, f_parts, f_combos, f_nextCombos, f_placed, f_results, (tq_n rn), a_cells, (tq_n fr), (tq_n ik), (tq_n ic), (tq_n tk), (upd a_kind N (nI (tk (i + 1)))), (upd a_left N (nI (tk i))), (upd a_right N (nI (tk (i + 2)))), (upd a_needs N (nI (tq_nd nf fr (tk i) ||| tq_nd nf fr (tk (i + 2))))), a_truth, (upd a_waitNode m (nI N)), a_waitWord, a_part, a_canCount, a_can, a_combo, a_nextCombo, a_current, a_stays, a_result, a_index, a_sorted, a_key, a_table)) :
    wpX_readComparison post ((nI nf), (nI ni), (nI nt), f_group, f_distinct, f_orderItem, f_orderDown, f_limit, (nI N), (nI m), f_waitingWords, 0, f_top, f_parts, f_combos, f_nextCombos, f_placed, f_results, (tq_n rn), a_cells, (tq_n fr), (tq_n ik), (tq_n ic), (tq_n tk), a_kind, a_left, a_right, a_needs, a_truth, a_waitNode, a_waitWord, a_part, a_canCount, a_can, a_combo, a_nextCombo, a_current, a_stays, a_result, a_index, a_sorted, a_key, a_table) (nI i) := by
  have t1 := tl (i + 1)
  have e1 : nI i + 1 = nI (i + 1) := nI_1 _
  have e2 : nI i + 2 = nI (i + 2) := nI_add _ 2
  have no : ∀ (P : Prop), (¬ (i < nt ∧ tk i ≤ 28) ∨ ¬ (i + 2 < nt ∧ tk (i + 2) ≤ 28) ∨ tk (i + 1) < 29 ∨ 31 < tk (i + 1)) → (¬ tq_cok nt tk (tq_ok nf fr) i = true → P) → P := by
    intro P h k
    refine k (fun z => ?_)
    have z' := of_decide_eq_true z
    have k1 := of_decide_eq_true z'.1
    have k2 := of_decide_eq_true z'.2.2.2.2
    omega
  have bad : (¬ tq_cok nt tk (tq_ok nf fr) i = true) → wX_readComparison_48 post (nI i) (nI nf) (nI ni) (nI nt) f_group f_distinct f_orderItem f_orderDown f_limit (nI N) (nI m) f_waitingWords 0 f_top f_parts f_combos f_nextCombos f_placed f_results (tq_n rn) a_cells (tq_n fr) (tq_n ik) (tq_n ic) (tq_n tk) a_kind a_left a_right a_needs a_truth a_waitNode a_waitWord a_part a_canCount a_can a_combo a_nextCombo a_current a_stays a_result a_index a_sorted a_key a_table := fun z => br_t rfl (h0 z _ _ _ _ _ _ _)
  unfold wpX_readComparison
  dsimp only
  rw [e1, e2]
  refine xw_isValue h24 (by omega) tl (fun _ v1 => br_f (by decide) ?_) (fun v1 => br_t rfl (no _ (Or.inl v1) bad))
  refine xw_isValue h24 (by omega) tl (fun l2 v2 => br_f (by decide) ?_) (fun v2 => br_t rfl (no _ (Or.inr (Or.inl v2)) bad))
  refine ⟨vp_in_nI (by omega) (by decide), ?_⟩
  rw [nI_clamp (show i + 1 < 2 ^ 31 by omega)]
  refine pk_lt (tk (i + 1)) 29 (fun z => no _ (by omega) bad) (fun z => ⟨vp_in_nI (by omega) (by decide), pk_lt 31 (tk (i + 1)) (fun z => no _ (by omega) bad) (fun z2 => ?_)⟩)
  unfold wX_readComparison_49
  rw [e1, e2, nI_clamp (show i < 2 ^ 31 by omega)]
  refine br_f (by decide) ⟨vp_in_nI (by omega) (by decide), ?_⟩
  refine xw_needOf (bk := false) d fl v1 ?_
  refine ⟨vp_in_nI (by omega) (by decide), ?_⟩
  rw [nI_clamp (show i + 2 < 2 ^ 31 by omega)]
  refine xw_needOf d fl v2 ?_
  refine ⟨vp_in_nI (by omega) (by decide), vp_in_nI (by omega) (by decide), vp_in_nI (by omega) (by decide), ?_⟩
  rw [nI_clamp (show i + 1 < 2 ^ 31 by omega)]
  refine xw_makeNode hN ?_
  refine xw_putNode hm ?_
  rw [tq_or (tq_nd8 _ _ _) (tq_nd8 _ _ _)]
  by_cases y : tq_cok nt tk (tq_ok nf fr) i = true
  · have z' := of_decide_eq_true y
    rw [z'.1, z'.2.2.2.2]
    exact h1 y
  · have e : (false || !(tq_ok nf fr (tk i)) || !(tq_ok nf fr (tk (i + 2)))) = true := by
      cases k1 : tq_ok nf fr (tk i)
      · rfl
      · cases k2 : tq_ok nf fr (tk (i + 2))
        · rfl
        · exact absurd (decide_eq_true ⟨k1, l2, by omega, by omega, k2⟩) y
    rw [e]
    exact h0 y _ _ _ _ _ _ _
end
end
section
section
variable {nf ni nt : Nat} {fr ik ic tk rn : Nat → Nat} {f_group f_distinct f_orderItem f_orderDown f_limit f_nodes f_waitingNodes f_waitingWords f_broken f_top f_parts f_combos f_nextCombos f_placed f_results : Int32} {a_cells a_kind a_left a_right a_needs a_truth a_waitNode a_waitWord a_part a_canCount a_can a_combo a_nextCombo a_current a_stays a_result a_index a_sorted a_key a_table : Nat → Int32}
theorem xw_joinTop {post : SX → Prop} {N o : Nat} {G : Nat → tq_Nd} {ns ws : List Nat} (h : tq_PI nf fr N G ns (o :: ws) a_kind a_left a_right a_needs a_waitNode a_waitWord) (hj : o = 34 ∨ o = 32 ∨ o = 33) (hl : ns.length = tq_cb (o :: ws) + 1) (hN : N + ws.length < 24)
    (hp : ∀ (G' : Nat → tq_Nd) (ns' : List Nat) (ak' al' ar' an' wn' : Nat → Int32), tq_PI nf fr (N + 1) G' ns' ws ak' al' ar' an' wn' a_waitWord → tq_ms G' ns' = tq_app o (tq_ms G ns) → ns'.length = tq_cb ws + 1 → post ((nI nf), (nI ni), (nI nt), f_group, f_distinct, f_orderItem, f_orderDown, f_limit, (nI (N + 1)), (nI ns'.length), (nI ws.length), f_broken, f_top, f_parts, f_combos, f_nextCombos, f_placed, f_results, (tq_n rn), a_cells, (tq_n fr), (tq_n ik), (tq_n ic), (tq_n tk), ak', al', ar', an', a_truth, wn', a_waitWord, a_part, a_canCount, a_can, a_combo, a_nextCombo, a_current, a_stays, a_result, a_index, a_sorted, a_key, a_table)) :
    wpX_joinTop post ((nI nf), (nI ni), (nI nt), f_group, f_distinct, f_orderItem, f_orderDown, f_limit, (nI N), (nI ns.length), (nI (ws.length + 1)), f_broken, f_top, f_parts, f_combos, f_nextCombos, f_placed, f_results, (tq_n rn), a_cells, (tq_n fr), (tq_n ik), (tq_n ic), (tq_n tk), a_kind, a_left, a_right, a_needs, a_truth, a_waitNode, a_waitWord, a_part, a_canCount, a_can, a_combo, a_nextCombo, a_current, a_stays, a_result, a_index, a_sorted, a_key, a_table) := by
  have hlen := tq_PI_len h
  have hal : (tq_app o (tq_ms G ns)).length = tq_cb ws + 1 := tq_app_len hj (by unfold tq_ms; rw [List.length_map]; exact hl)
  obtain ⟨hI, sn, sw, bl, sz, wk⟩ := h
  unfold wpX_joinTop
  dsimp only
  refine nm_r (nI_pred _) ⟨vp_in_nI (by omega) (by decide), nm_r (e' := nI o) (by rw [nI_clamp (by omega)]; exact sw.1) ?_⟩
  cases ns with
  | nil => simp at hl
  | cons b r =>
    simp only [List.length_cons] at hl hlen ⊢
    have bb : b < N := bl b List.mem_cons_self
    have blr : ∀ j, j ∈ r → j < N := fun j hj => bl j (List.mem_cons_of_mem _ hj)
    have eb := hI.1 b bb
    have hsz : (G b).2.2.2.2.2 + tq_sz G r = N := sz
    rw [nI_pred]
    refine ⟨vp_in_nI (by omega) (by decide), nm_r (e' := nI b) (by rw [nI_clamp (by omega)]; exact sn.1) ?_⟩
    refine pk_eq o 34 (fun e => ?_) (fun e => ?_)
    · subst e
      refine ⟨vp_in_nI (by omega) (by decide), ?_⟩
      rw [nI_clamp (show b < 2 ^ 31 by omega), eb.2.2.2.1, show (34 : Int32) = nI 34 from rfl]
      refine xw_makeNode (by omega) ?_
      refine ⟨vp_in_nI (by omega) (by decide), ?_⟩
      rw [nI_clamp (show r.length < 2 ^ 31 by omega)]
      have g1 : ∀ j, j ∈ r → tq_u G N (34, b, b, (G b).2.2.2.1, tq_not (G b).2.2.2.2.1, 1 + (G b).2.2.2.2.2) j = G j := fun j hj => tq_un (by have := blr j hj; omega)
      have gN : tq_u G N (34, b, b, (G b).2.2.2.1, tq_not (G b).2.2.2.2.1, 1 + (G b).2.2.2.2.2) N = (34, b, b, (G b).2.2.2.1, tq_not (G b).2.2.2.2.1, 1 + (G b).2.2.2.2.2) := tq_us
      have gb : tq_u G N (34, b, b, (G b).2.2.2.1, tq_not (G b).2.2.2.2.1, 1 + (G b).2.2.2.2.2) b = G b := tq_un (by omega)
      have K := hp (tq_u G N (34, b, b, (G b).2.2.2.1, tq_not (G b).2.2.2.2.1, 1 + (G b).2.2.2.2.2)) (N :: r) _ _ _ _ (upd a_waitNode r.length (nI N)) ⟨tq_NI_add hI 34 b b (G b).2.2.2.1 (tq_not (G b).2.2.2.2.1) (1 + (G b).2.2.2.2.2) eb.2.2.2.2 ?_, tq_st_push sn.2, ?_, ?_, ?_, tq_wk_t wk⟩ ?_ ?_
      · exact nm_e K
      · unfold tq_NS
        rw [gN, gb]
        exact Or.inr (Or.inl ⟨rfl, bb, rfl, rfl, rfl, rfl⟩)
      · exact sw.2
      · intro j hj
        rcases List.mem_cons.mp hj with y | y
        · omega
        · have := blr j y; omega
      · show (tq_u G N _ N).2.2.2.2.2 + tq_sz _ r = N + 1
        rw [gN, tq_sz_cg r g1]
        show 1 + (G b).2.2.2.2.2 + tq_sz G r = N + 1
        omega
      · show (tq_u G N _ N).2.2.2.2.1 :: tq_ms _ r = tq_not (G b).2.2.2.2.1 :: tq_ms G r
        rw [gN, tq_ms_cg r g1]
      · have e5 : (tq_app 34 (tq_ms G (b :: r))).length = r.length + 1 := by
          show (tq_not (G b).2.2.2.2.1 :: tq_ms G r).length = _
          unfold tq_ms
          rw [List.length_cons, List.length_map]
        rw [e5] at hal
        exact hal
    · cases r with
      | nil =>
        unfold tq_cb at hl
        rw [if_pos (by omega)] at hl
        simp at hl
      | cons a r' =>
        simp only [List.length_cons] at hl hlen sn ⊢
        have ba : a < N := blr a List.mem_cons_self
        have bl' : ∀ j, j ∈ r' → j < N := fun j hj => blr j (List.mem_cons_of_mem _ hj)
        have ea := hI.1 a ba
        have hsz' : (G b).2.2.2.2.2 + ((G a).2.2.2.2.2 + tq_sz G r') = N := hsz
        rw [show nI (r'.length + 1 + 1) - 2 = nI r'.length from pk_sub (b := 2) (by omega)]
        refine ⟨vp_in_nI (by omega) (by decide), nm_r (e' := nI a) (by rw [nI_clamp (by omega)]; exact sn.2.1) (nm_e ⟨vp_in_nI (by omega) (by decide), vp_in_nI (by omega) (by decide), ?_⟩)⟩
        rw [nI_clamp (show a < 2 ^ 31 by omega), nI_clamp (show b < 2 ^ 31 by omega), ea.2.2.2.1, eb.2.2.2.1, tq_or ea.2.2.2.2 eb.2.2.2.2]
        refine xw_makeNode (by omega) ?_
        rw [nI_pred]
        refine ⟨vp_in_nI (by omega) (by decide), ?_⟩
        rw [nI_clamp (show r'.length < 2 ^ 31 by omega)]
        have gN : tq_u G N (o, a, b, (G a).2.2.2.1 ||| (G b).2.2.2.1, tq_bin o (G a).2.2.2.2.1 (G b).2.2.2.2.1, 1 + (G a).2.2.2.2.2 + (G b).2.2.2.2.2) N = (o, a, b, (G a).2.2.2.1 ||| (G b).2.2.2.1, tq_bin o (G a).2.2.2.2.1 (G b).2.2.2.2.1, 1 + (G a).2.2.2.2.2 + (G b).2.2.2.2.2) := tq_us
        have gb : tq_u G N (o, a, b, (G a).2.2.2.1 ||| (G b).2.2.2.1, tq_bin o (G a).2.2.2.2.1 (G b).2.2.2.2.1, 1 + (G a).2.2.2.2.2 + (G b).2.2.2.2.2) b = G b := tq_un (by omega)
        have ga : tq_u G N (o, a, b, (G a).2.2.2.1 ||| (G b).2.2.2.1, tq_bin o (G a).2.2.2.2.1 (G b).2.2.2.2.1, 1 + (G a).2.2.2.2.2 + (G b).2.2.2.2.2) a = G a := tq_un (by omega)
        have g1 : ∀ j, j ∈ r' → tq_u G N (o, a, b, (G a).2.2.2.1 ||| (G b).2.2.2.1, tq_bin o (G a).2.2.2.2.1 (G b).2.2.2.2.1, 1 + (G a).2.2.2.2.2 + (G b).2.2.2.2.2) j = G j := fun j hj => tq_un (by have := bl' j hj; omega)
        have K := hp (tq_u G N (o, a, b, (G a).2.2.2.1 ||| (G b).2.2.2.1, tq_bin o (G a).2.2.2.2.1 (G b).2.2.2.2.1, 1 + (G a).2.2.2.2.2 + (G b).2.2.2.2.2)) (N :: r') _ _ _ _ (upd a_waitNode r'.length (nI N)) ⟨tq_NI_add hI o a b ((G a).2.2.2.1 ||| (G b).2.2.2.1) (tq_bin o (G a).2.2.2.2.1 (G b).2.2.2.2.1) (1 + (G a).2.2.2.2.2 + (G b).2.2.2.2.2) (tq_or8 ea.2.2.2.2 eb.2.2.2.2) ?_, tq_st_push sn.2.2, ?_, ?_, ?_, tq_wk_t wk⟩ ?_ ?_
        · exact nm_e K
        · unfold tq_NS
          rw [gN]
          refine Or.inr (Or.inr ⟨by show o = 32 ∨ o = 33; omega, ba, bb, ?_⟩)
          show _ = (tq_u G N _ a).2.2.2.1 ||| (tq_u G N _ b).2.2.2.1 ∧ _ = tq_bin o (tq_u G N _ a).2.2.2.2.1 (tq_u G N _ b).2.2.2.2.1 ∧ _ = 1 + (tq_u G N _ a).2.2.2.2.2 + (tq_u G N _ b).2.2.2.2.2
          rw [ga, gb]
          exact ⟨rfl, rfl, rfl⟩
        · exact sw.2
        · intro j hj
          rcases List.mem_cons.mp hj with y | y
          · omega
          · have := bl' j y; omega
        · show (tq_u G N _ N).2.2.2.2.2 + tq_sz _ r' = N + 1
          rw [gN, tq_sz_cg r' g1]
          show 1 + (G a).2.2.2.2.2 + (G b).2.2.2.2.2 + tq_sz G r' = N + 1
          omega
        · show (tq_u G N _ N).2.2.2.2.1 :: tq_ms _ r' = (if o = 34 then _ else tq_bin o (G a).2.2.2.2.1 (G b).2.2.2.2.1 :: tq_ms G r')
          rw [gN, tq_ms_cg r' g1, if_neg e]
        · have e5 : (tq_app o (tq_ms G (b :: a :: r'))).length = r'.length + 1 := by
            show (if o = 34 then _ else tq_bin o (G a).2.2.2.2.1 (G b).2.2.2.2.1 :: tq_ms G r').length = _
            rw [if_neg e]
            unfold tq_ms
            rw [List.length_cons, List.length_map]
          rw [e5] at hal
          exact hal
end
section
variable {nf ni nt : Nat} {fr ik ic tk rn : Nat → Nat} {f_group f_distinct f_orderItem f_orderDown f_limit f_nodes f_waitingNodes f_waitingWords f_broken f_top f_parts f_combos f_nextCombos f_placed f_results : Int32} {a_cells a_truth a_waitWord a_part a_canCount a_can a_combo a_nextCombo a_current a_stays a_result a_index a_sorted a_key a_table : Nat → Int32}
theorem xw_jd1 {post : SX → Prop} {w : Nat} (hw : w < 100) : ∀ (ws ns : List Nat) (N : Nat) (G : Nat → tq_Nd) (a_kind a_left a_right a_needs a_waitNode : Nat → Int32) (x2 n : Nat), tq_PI nf fr N G ns ws a_kind a_left a_right a_needs a_waitNode a_waitWord → ns.length = tq_cb ws + 1 → N + ws.length ≤ 24 → x2 + ws.length ≤ 24 → ws.length < n →
    (∀ (N' : Nat) (G' : Nat → tq_Nd) (ns' ws' : List Nat) (ak' al' ar' an' wn' : Nat → Int32), tq_PI nf fr N' G' ns' ws' ak' al' ar' an' wn' a_waitWord → N' + ws'.length = N + ws.length → tq_jd w (tq_ms G ns) ws = (tq_ms G' ns', ws') → ns'.length = tq_cb ws' + 1 → post ((nI nf), (nI ni), (nI nt), f_group, f_distinct, f_orderItem, f_orderDown, f_limit, (nI N'), (nI ns'.length), (nI ws'.length), f_broken, f_top, f_parts, f_combos, f_nextCombos, f_placed, f_results, (tq_n rn), a_cells, (tq_n fr), (tq_n ik), (tq_n ic), (tq_n tk), ak', al', ar', an', a_truth, wn', a_waitWord, a_part, a_canCount, a_can, a_combo, a_nextCombo, a_current, a_stays, a_result, a_index, a_sorted, a_key, a_table)) →
    wX_joinDownTo_2 post (nI w) n (nI x2) (nI nf) (nI ni) (nI nt) f_group f_distinct f_orderItem f_orderDown f_limit (nI N) (nI ns.length) (nI ws.length) f_broken f_top f_parts f_combos f_nextCombos f_placed f_results (tq_n rn) a_cells (tq_n fr) (tq_n ik) (tq_n ic) (tq_n tk) a_kind a_left a_right a_needs a_truth a_waitNode a_waitWord a_part a_canCount a_can a_combo a_nextCombo a_current a_stays a_result a_index a_sorted a_key a_table := by
  intro ws
  induction ws with
  | nil =>
    intro ns N G a_kind a_left a_right a_needs a_waitNode x2 n h hl hN hx hn hp
    obtain ⟨m, rfl⟩ : ∃ m, n = m + 1 := ⟨n - 1, by omega⟩
    have K := hp N G ns [] _ _ _ _ _ h rfl rfl hl
    exact br_c (fun _ => K) (fun _ => br_t (Int32.le_refl _) K)
  | cons o ws ih =>
    intro ns N G a_kind a_left a_right a_needs a_waitNode x2 n h hl hN hx hn hp
    obtain ⟨m, rfl⟩ : ∃ m, n = m + 1 := ⟨n - 1, by omega⟩
    simp only [List.length_cons] at hN hx hn
    have ho := tq_wk_h h.2.2.2.2.2
    have stay : (¬ tq_jn w o = true) → wX_joinDownTo_55 post (wX_joinDownTo_2 post (nI w) m) (nI w) (nI x2) (nI nf) (nI ni) (nI nt) f_group f_distinct f_orderItem f_orderDown f_limit (nI N) (nI ns.length) (nI (ws.length + 1)) f_broken f_top f_parts f_combos f_nextCombos f_placed f_results (tq_n rn) a_cells (tq_n fr) (tq_n ik) (tq_n ic) (tq_n tk) a_kind a_left a_right a_needs a_truth a_waitNode a_waitWord a_part a_canCount a_can a_combo a_nextCombo a_current a_stays a_result a_index a_sorted a_key a_table := fun z => br_t rfl (hp N G ns (o :: ws) _ _ _ _ _ h rfl (tq_jd_f z) hl)
    have go : (tq_jn w o = true) → wX_joinDownTo_51 post (wX_joinDownTo_2 post (nI w) m) (nI w) (nI x2) (nI nf) (nI ni) (nI nt) f_group f_distinct f_orderItem f_orderDown f_limit (nI N) (nI ns.length) (nI (ws.length + 1)) f_broken f_top f_parts f_combos f_nextCombos f_placed f_results (tq_n rn) a_cells (tq_n fr) (tq_n ik) (tq_n ic) (tq_n tk) a_kind a_left a_right a_needs a_truth a_waitNode a_waitWord a_part a_canCount a_can a_combo a_nextCombo a_current a_stays a_result a_index a_sorted a_key a_table := by
      intro z
      refine br_f (by decide) ?_
      refine xw_joinTop h (by rw [tq_jn_iff] at z; omega) hl (by omega) (fun G' ns' ak' al' ar' an' wn' h' e' l' => ?_)
      refine nm_r (nI_1 x2) (ih ns' (N + 1) G' ak' al' ar' an' wn' (x2 + 1) m h' l' (by omega) (by omega) (by omega) (fun N2 G2 ns2 ws2 ak2 al2 ar2 an2 wn2 h2 n2 j2 l2 => hp N2 G2 ns2 ws2 ak2 al2 ar2 an2 wn2 h2 (by simp only [List.length_cons]; omega) ?_ l2))
      rw [tq_jd_t z, ← e']
      exact j2
    refine br_f (nI_ge (b := 24) (by omega) (by decide)) (br_f (nI_nle (by simp only [List.length_cons]; omega) (by simp only [List.length_cons]; omega)) ?_)
    rw [show nI (o :: ws).length - 1 = nI ws.length from nI_pred _]
    refine ⟨vp_in_nI (by omega) (by decide), nm_r (e' := nI o) (by rw [nI_clamp (by omega)]; exact h.2.2.1.1) ?_⟩
    refine pk_eq o 34 (fun e => go (tq_jn_iff.mpr (by omega))) (fun e1 => pk_eq o 32 (fun e => go (tq_jn_iff.mpr (by omega))) (fun e2 => pk_eq o 33 (fun e3 => pk_eq w 32 (fun e => stay (fun z => by rw [tq_jn_iff] at z; omega)) (fun e => go (tq_jn_iff.mpr (by omega)))) (fun e3 => stay (fun z => by rw [tq_jn_iff] at z; omega))))
theorem xw_joinDownTo {post : SX → Prop} {w N : Nat} {G : Nat → tq_Nd} {ns ws : List Nat} {a_kind a_left a_right a_needs a_waitNode : Nat → Int32} (hw : w < 100) (h : tq_PI nf fr N G ns ws a_kind a_left a_right a_needs a_waitNode a_waitWord) (hl : ns.length = tq_cb ws + 1) (hN : N + ws.length ≤ 24)
    (hp : ∀ (N' : Nat) (G' : Nat → tq_Nd) (ns' ws' : List Nat) (ak' al' ar' an' wn' : Nat → Int32), tq_PI nf fr N' G' ns' ws' ak' al' ar' an' wn' a_waitWord → N' + ws'.length = N + ws.length → tq_jd w (tq_ms G ns) ws = (tq_ms G' ns', ws') → ns'.length = tq_cb ws' + 1 → post ((nI nf), (nI ni), (nI nt), f_group, f_distinct, f_orderItem, f_orderDown, f_limit, (nI N'), (nI ns'.length), (nI ws'.length), f_broken, f_top, f_parts, f_combos, f_nextCombos, f_placed, f_results, (tq_n rn), a_cells, (tq_n fr), (tq_n ik), (tq_n ic), (tq_n tk), ak', al', ar', an', a_truth, wn', a_waitWord, a_part, a_canCount, a_can, a_combo, a_nextCombo, a_current, a_stays, a_result, a_index, a_sorted, a_key, a_table)) :
    wpX_joinDownTo post ((nI nf), (nI ni), (nI nt), f_group, f_distinct, f_orderItem, f_orderDown, f_limit, (nI N), (nI ns.length), (nI ws.length), f_broken, f_top, f_parts, f_combos, f_nextCombos, f_placed, f_results, (tq_n rn), a_cells, (tq_n fr), (tq_n ik), (tq_n ic), (tq_n tk), a_kind, a_left, a_right, a_needs, a_truth, a_waitNode, a_waitWord, a_part, a_canCount, a_can, a_combo, a_nextCombo, a_current, a_stays, a_result, a_index, a_sorted, a_key, a_table) (nI w) :=
  ⟨25, xw_jd1 hw ws ns N G _ _ _ _ _ 0 25 h hl hN (by omega) (by omega) hp⟩
end
end
section
section
variable {nf ni nt : Nat} {fr ik ic tk rn : Nat → Nat} {f_group f_distinct f_orderItem f_orderDown f_limit f_broken f_parts f_combos f_nextCombos f_placed f_results : Int32} {a_cells a_truth a_part a_canCount a_can a_combo a_nextCombo a_current a_stays a_result a_index a_sorted a_key a_table : Nat → Int32}
theorem xw_closeBracket {post : SX → Prop} {N : Nat} {f_top : Int32} {G : Nat → tq_Nd} {ns ws : List Nat} {a_kind a_left a_right a_needs a_waitNode a_waitWord : Nat → Int32} (h : tq_PI nf fr N G ns ws a_kind a_left a_right a_needs a_waitNode a_waitWord) (hl : ns.length = tq_cb ws + 1) (hN : N + ws.length ≤ 24)
    (h0 : (tq_jd 36 (tq_ms G ns) ws).2 = [] → ∀ (f_nodes f_waitingNodes f_waitingWords f_top : Int32) (a_kind a_left a_right a_needs a_waitNode a_waitWord : Nat → Int32), post ((nI nf), (nI ni), (nI nt), f_group, f_distinct, f_orderItem, f_orderDown, f_limit, f_nodes, f_waitingNodes, f_waitingWords, 1, f_top, f_parts, f_combos, f_nextCombos, f_placed, f_results, (tq_n rn), a_cells, (tq_n fr), (tq_n ik), (tq_n ic), (tq_n tk), a_kind, a_left, a_right, a_needs, a_truth, a_waitNode, a_waitWord, a_part, a_canCount, a_can, a_combo, a_nextCombo, a_current, a_stays, a_result, a_index, a_sorted, a_key, a_table))
    (h1 : ∀ (N' : Nat) (G' : Nat → tq_Nd) (ns' ws' : List Nat) (ak' al' ar' an' wn' : Nat → Int32), tq_PI nf fr N' G' ns' ws' ak' al' ar' an' wn' a_waitWord → N' + ws'.length + 1 = N + ws.length → tq_jd 36 (tq_ms G ns) ws = (tq_ms G' ns', 35 :: ws') → ns'.length = tq_cb ws' + 1 → post ((nI nf), (nI ni), (nI nt), f_group, f_distinct, f_orderItem, f_orderDown, f_limit, (nI N'), (nI ns'.length), (nI ws'.length), 0, f_top, f_parts, f_combos, f_nextCombos, f_placed, f_results, (tq_n rn), a_cells, (tq_n fr), (tq_n ik), (tq_n ic), (tq_n tk), ak', al', ar', an', a_truth, wn', a_waitWord, a_part, a_canCount, a_can, a_combo, a_nextCombo, a_current, a_stays, a_result, a_index, a_sorted, a_key, a_table)) :
    wpX_closeBracket post ((nI nf), (nI ni), (nI nt), f_group, f_distinct, f_orderItem, f_orderDown, f_limit, (nI N), (nI ns.length), (nI ws.length), 0, f_top, f_parts, f_combos, f_nextCombos, f_placed, f_results, (tq_n rn), a_cells, (tq_n fr), (tq_n ik), (tq_n ic), (tq_n tk), a_kind, a_left, a_right, a_needs, a_truth, a_waitNode, a_waitWord, a_part, a_canCount, a_can, a_combo, a_nextCombo, a_current, a_stays, a_result, a_index, a_sorted, a_key, a_table) := by
  unfold wpX_closeBracket
  dsimp only
  refine xw_joinDownTo (w := 36) (by decide) h hl hN (fun N' G' ns' ws' ak' al' ar' an' wn' h' n' j' l' => ?_)
  have top := tq_jd_top ws (tq_ms G ns) h.2.2.2.2.2
  rcases top with t | ⟨r, t⟩
  · have e : ws' = [] := by rw [← t, j']
    subst e
    exact br_t rfl (h0 t _ _ _ _ _ _ _ _ _ _)
  · have e : ws' = 35 :: r := by rw [← t, j']
    subst e
    have hr : (35 :: r).length = r.length + 1 := rfl
    have hw := h'.2.2.2.2.2
    refine br_f (nI_ne0 (by omega) (by omega)) (nm_r (nI_pred r.length) (h1 N' G' ns' r ak' al' ar' an' wn' ⟨h'.1, h'.2.1, h'.2.2.1.2, h'.2.2.2.1, h'.2.2.2.2.1, tq_wk_t hw⟩ (by omega) j' ?_))
    rw [l']
    show (if 35 = 32 ∨ 35 = 33 then 1 else 0) + tq_cb r + 1 = tq_cb r + 1
    rw [if_neg (by omega)]
    omega
/-- a broken condition ends the loop -/
theorem xw_rcbad {post : SX → Prop} {x1 x2 x3 : Int32} {n : Nat} {f_nodes f_waitingNodes f_waitingWords f_top : Int32} {a_kind a_left a_right a_needs a_waitNode a_waitWord : Nat → Int32} (hp : post ((nI nf), (nI ni), (nI nt), f_group, f_distinct, f_orderItem, f_orderDown, f_limit, f_nodes, f_waitingNodes, f_waitingWords, 1, f_top, f_parts, f_combos, f_nextCombos, f_placed, f_results, (tq_n rn), a_cells, (tq_n fr), (tq_n ik), (tq_n ic), (tq_n tk), a_kind, a_left, a_right, a_needs, a_truth, a_waitNode, a_waitWord, a_part, a_canCount, a_can, a_combo, a_nextCombo, a_current, a_stays, a_result, a_index, a_sorted, a_key, a_table)) : wX_readCondition_26 post (n + 1) x1 x2 x3 (nI nf) (nI ni) (nI nt) f_group f_distinct f_orderItem f_orderDown f_limit f_nodes f_waitingNodes f_waitingWords 1 f_top f_parts f_combos f_nextCombos f_placed f_results (tq_n rn) a_cells (tq_n fr) (tq_n ik) (tq_n ic) (tq_n tk) a_kind a_left a_right a_needs a_truth a_waitNode a_waitWord a_part a_canCount a_can a_combo a_nextCombo a_current a_stays a_result a_index a_sorted a_key a_table := by
  have K : wX_readCondition_161 post x1 (nI nf) (nI ni) (nI nt) f_group f_distinct f_orderItem f_orderDown f_limit f_nodes f_waitingNodes f_waitingWords 1 f_top f_parts f_combos f_nextCombos f_placed f_results (tq_n rn) a_cells (tq_n fr) (tq_n ik) (tq_n ic) (tq_n tk) a_kind a_left a_right a_needs a_truth a_waitNode a_waitWord a_part a_canCount a_can a_combo a_nextCombo a_current a_stays a_result a_index a_sorted a_key a_table := br_f (by decide) hp
  exact br_c (fun _ => K) (fun _ => br_c (fun _ => K) (fun _ => br_f (by decide) K))
theorem xw_rcend {post : SX → Prop} {N n i : Nat} {b : Bool} {f_top : Int32} {G : Nat → tq_Nd} {ns ws : List Nat} {a_kind a_left a_right a_needs a_waitNode a_waitWord : Nat → Int32} (h : tq_PI nf fr N G ns ws a_kind a_left a_right a_needs a_waitNode a_waitWord) (hl : ns.length = tq_cb ws + (if b = true then 1 else 0)) (hN : N + ws.length ≤ 24) (ht : 0 < nt) (ht2 : nt ≤ 24) (hi : nt ≤ i)
    (h0 : tq_rd nt tk (tq_ok nf fr) (n + 1) i b (tq_ms G ns) ws = none → ∀ (f_nodes f_waitingNodes f_waitingWords f_top : Int32) (a_kind a_left a_right a_needs a_waitNode a_waitWord : Nat → Int32), post ((nI nf), (nI ni), (nI nt), f_group, f_distinct, f_orderItem, f_orderDown, f_limit, f_nodes, f_waitingNodes, f_waitingWords, 1, f_top, f_parts, f_combos, f_nextCombos, f_placed, f_results, (tq_n rn), a_cells, (tq_n fr), (tq_n ik), (tq_n ic), (tq_n tk), a_kind, a_left, a_right, a_needs, a_truth, a_waitNode, a_waitWord, a_part, a_canCount, a_can, a_combo, a_nextCombo, a_current, a_stays, a_result, a_index, a_sorted, a_key, a_table))
    (h1 : ∀ f, tq_rd nt tk (tq_ok nf fr) (n + 1) i b (tq_ms G ns) ws = some f → ∀ (N top : Nat) (G : Nat → tq_Nd) (f_waitingNodes f_waitingWords : Int32) (a_kind a_left a_right a_needs a_waitNode a_waitWord : Nat → Int32), tq_NI nf fr N G a_kind a_left a_right a_needs → N ≤ 24 → top < N → (G top).2.2.2.2.2 ≤ 24 → (G top).2.2.2.2.1 = f → post ((nI nf), (nI ni), (nI nt), f_group, f_distinct, f_orderItem, f_orderDown, f_limit, (nI N), f_waitingNodes, f_waitingWords, 0, (nI top), f_parts, f_combos, f_nextCombos, f_placed, f_results, (tq_n rn), a_cells, (tq_n fr), (tq_n ik), (tq_n ic), (tq_n tk), a_kind, a_left, a_right, a_needs, a_truth, a_waitNode, a_waitWord, a_part, a_canCount, a_can, a_combo, a_nextCombo, a_current, a_stays, a_result, a_index, a_sorted, a_key, a_table)) :
    wX_readCondition_161 post (tq_b b) (nI nf) (nI ni) (nI nt) f_group f_distinct f_orderItem f_orderDown f_limit (nI N) (nI ns.length) (nI ws.length) 0 f_top f_parts f_combos f_nextCombos f_placed f_results (tq_n rn) a_cells (tq_n fr) (tq_n ik) (tq_n ic) (tq_n tk) a_kind a_left a_right a_needs a_truth a_waitNode a_waitWord a_part a_canCount a_can a_combo a_nextCombo a_current a_stays a_result a_index a_sorted a_key a_table := by
  refine br_t rfl (br_f (nI_nle (by omega) (by omega)) ?_)
  cases b with
  | false =>
    exact br_t rfl ⟨rfl, rfl, br_t rfl (br_f (by decide) ⟨rfl, rfl, nm_e (h0 (tq_rd_e0 hi) _ _ _ _ _ _ _ _ _ _)⟩)⟩
  | true =>
    rw [if_pos rfl] at hl
    refine br_f (by decide) ⟨rfl, rfl, br_f (by decide) ?_⟩
    refine xw_joinDownTo (w := 36) (by decide) h hl hN (fun N' G' ns' ws' ak' al' ar' an' wn' h' n' j' l' => ?_)
    have e := tq_rd_e1 (tk := tk) (ok := tq_ok nf fr) (n := n) (vs := tq_ms G ns) (ws := ws) hi
    rw [j'] at e
    cases ws' with
    | nil =>
      cases ns' with
      | nil => simp [tq_cb] at l'
      | cons top r =>
        have er : r = [] := by
          have l2 : r.length + 1 = 0 + 1 := l'
          have : r.length = 0 := by omega
          exact List.length_eq_zero_iff.mp this
        subst er
        have e2 : tq_rd nt tk (tq_ok nf fr) (n + 1) i true (tq_ms G ns) ws = some (G' top).2.2.2.2.1 := e
        have bt := h'.2.2.2.1 top List.mem_cons_self
        have sz : (G' top).2.2.2.2.2 + 0 = N' := h'.2.2.2.2.1
        have en : N' + 0 = N + ws.length := n'
        refine br_t rfl (br_t (Int32.le_refl _) ⟨rfl, rfl, nm_r (e' := nI top) h'.2.1.1 (h1 _ e2 N' top G' _ _ _ _ _ _ _ _ h'.1 (by omega) bt (by omega) rfl)⟩)
    | cons o r =>
      have e2 : tq_rd nt tk (tq_ok nf fr) (n + 1) i true (tq_ms G ns) ws = none := by
        rw [e]
        exact if_neg (by simp)
      have en : N' + (r.length + 1) = N + ws.length := n'
      refine br_t rfl (br_f (nI_nle (by simp) (by simp only [List.length_cons]; omega)) ⟨rfl, rfl, nm_e (h0 e2 _ _ _ _ _ _ _ _ _ _)⟩)
end
section
variable {nf ni nt : Nat} {fr ik ic tk rn : Nat → Nat} {f_group f_distinct f_orderItem f_orderDown f_limit f_parts f_combos f_nextCombos f_placed f_results : Int32} {a_cells a_truth a_part a_canCount a_can a_combo a_nextCombo a_current a_stays a_result a_index a_sorted a_key a_table : Nat → Int32}
theorem xw_rc1 {post : SX → Prop} (d : tq_ds nf fr) (fl : ∀ i, fr i < 3) (tl : ∀ i, tk i ≤ 36) (ht : 0 < nt) (ht2 : nt ≤ 24) : ∀ (n i rd N : Nat) (b : Bool) (G : Nat → tq_Nd) (ns ws : List Nat) (f_top : Int32) (a_kind a_left a_right a_needs a_waitNode a_waitWord : Nat → Int32), nt < n + i → rd ≤ i → i ≤ nt → tq_PI nf fr N G ns ws a_kind a_left a_right a_needs a_waitNode a_waitWord → ns.length = tq_cb ws + (if b = true then 1 else 0) → N + ws.length ≤ i →
    (tq_rd nt tk (tq_ok nf fr) n i b (tq_ms G ns) ws = none → ∀ (f_nodes f_waitingNodes f_waitingWords f_top : Int32) (a_kind a_left a_right a_needs a_waitNode a_waitWord : Nat → Int32), post ((nI nf), (nI ni), (nI nt), f_group, f_distinct, f_orderItem, f_orderDown, f_limit, f_nodes, f_waitingNodes, f_waitingWords, 1, f_top, f_parts, f_combos, f_nextCombos, f_placed, f_results, (tq_n rn), a_cells, (tq_n fr), (tq_n ik), (tq_n ic), (tq_n tk), a_kind, a_left, a_right, a_needs, a_truth, a_waitNode, a_waitWord, a_part, a_canCount, a_can, a_combo, a_nextCombo, a_current, a_stays, a_result, a_index, a_sorted, a_key, a_table)) →
    (∀ f, tq_rd nt tk (tq_ok nf fr) n i b (tq_ms G ns) ws = some f → ∀ (N top : Nat) (G : Nat → tq_Nd) (f_waitingNodes f_waitingWords : Int32) (a_kind a_left a_right a_needs a_waitNode a_waitWord : Nat → Int32), tq_NI nf fr N G a_kind a_left a_right a_needs → N ≤ 24 → top < N → (G top).2.2.2.2.2 ≤ 24 → (G top).2.2.2.2.1 = f → post ((nI nf), (nI ni), (nI nt), f_group, f_distinct, f_orderItem, f_orderDown, f_limit, (nI N), f_waitingNodes, f_waitingWords, 0, (nI top), f_parts, f_combos, f_nextCombos, f_placed, f_results, (tq_n rn), a_cells, (tq_n fr), (tq_n ik), (tq_n ic), (tq_n tk), a_kind, a_left, a_right, a_needs, a_truth, a_waitNode, a_waitWord, a_part, a_canCount, a_can, a_combo, a_nextCombo, a_current, a_stays, a_result, a_index, a_sorted, a_key, a_table)) →
    wX_readCondition_26 post n (tq_b b) (nI i) (nI rd) (nI nf) (nI ni) (nI nt) f_group f_distinct f_orderItem f_orderDown f_limit (nI N) (nI ns.length) (nI ws.length) 0 f_top f_parts f_combos f_nextCombos f_placed f_results (tq_n rn) a_cells (tq_n fr) (tq_n ik) (tq_n ic) (tq_n tk) a_kind a_left a_right a_needs a_truth a_waitNode a_waitWord a_part a_canCount a_can a_combo a_nextCombo a_current a_stays a_result a_index a_sorted a_key a_table := by
  intro n
  induction n with
  | zero => intro i rd N b G ns ws f_top a_kind a_left a_right a_needs a_waitNode a_waitWord hf _ hi; omega
  | succ n ih =>
    intro i rd N b G ns ws f_top a_kind a_left a_right a_needs a_waitNode a_waitWord hf hr hi h hl hN h0 h1
    rcases Nat.lt_or_ge i nt with z | z
    rotate_left
    · have K := xw_rcend (ni := ni) (ik := ik) (ic := ic) (rn := rn) (f_top := f_top) h hl (by omega) ht ht2 z h0 h1
      exact br_c (fun _ => K) (fun _ => br_t (nI_le z (by omega)) K)
    have nl : ¬ nt ≤ i := by omega
    obtain ⟨n', rfl⟩ : ∃ m, n = m + 1 := ⟨n - 1, by omega⟩
    have tli := tl i
    have hlen := tq_PI_len h
    refine br_f (nI_ge (b := 24) (by omega) (by decide)) (br_f (nI_ge z (by omega)) (br_t rfl ⟨vp_in_nI (by omega) (by decide), nm_r (e' := nI (tk i)) (by rw [nI_clamp (by omega)]; rfl) (nm_r (nI_1 i) ?_)⟩))
    cases b with
    | false =>
      rw [if_neg (by decide)] at hl
      refine br_t rfl ?_
      have push : (tk i = 34 ∨ tk i = 35) → wX_readCondition_76 post (wX_readCondition_26 post (n' + 1)) (tq_b false) (nI (i + 1)) (nI rd) (nI (tk i)) (nI nf) (nI ni) (nI nt) f_group f_distinct f_orderItem f_orderDown f_limit (nI N) (nI ns.length) (nI ws.length) 0 f_top f_parts f_combos f_nextCombos f_placed f_results (tq_n rn) a_cells (tq_n fr) (tq_n ik) (tq_n ic) (tq_n tk) a_kind a_left a_right a_needs a_truth a_waitNode a_waitWord a_part a_canCount a_can a_combo a_nextCombo a_current a_stays a_result a_index a_sorted a_key a_table := by
        intro y
        rw [tq_rd_no nl y] at h0 h1
        refine xw_putWord (by omega) (nm_r (nI_1 rd) ?_)
        refine ih (i + 1) (rd + 1) N false G ns (tk i :: ws) f_top _ _ _ _ _ _ (by omega) (by omega) (by omega) ⟨h.1, h.2.1, tq_st_push h.2.2.1, h.2.2.2.1, h.2.2.2.2.1, tq_wk_c (by omega) h.2.2.2.2.2⟩ ?_ ?_ h0 h1
        · rw [if_neg (by decide), hl]
          show tq_cb ws + 0 = (if tk i = 32 ∨ tk i = 33 then 1 else 0) + tq_cb ws + 0
          rw [if_neg (by omega)]
          omega
        · simp only [List.length_cons]; omega
      refine pk_eq (tk i) 34 (fun e => push (Or.inl e)) (fun e1 => pk_eq (tk i) 35 (fun e => push (Or.inr e)) (fun e2 => ?_))
      refine br_t rfl ?_
      rw [show nI (i + 1) - 1 = nI i from nI_pred i]
      refine xw_readComparison d fl ht2 tl z (by omega) (by omega) (fun y => ?_) (fun y => ?_)
      · intro f_nodes f_waitingNodes a_kind a_left a_right a_needs a_waitNode
        exact nm_e (nm_e (xw_rcbad (h0 (tq_rd_b0 nl (by omega) y) _ _ _ _ _ _ _ _ _ _)))
      · rw [tq_rd_c nl (by omega) y] at h0 h1
        have y' := of_decide_eq_true y
        have e3 : nI (i + 1) + 2 = nI (i + 3) := nI_add _ 2
        refine nm_r e3 (nm_r (nI_1 rd) ?_)
        have gN : tq_u G N (tk (i + 1), tk i, tk (i + 2), tq_nd nf fr (tk i) ||| tq_nd nf fr (tk (i + 2)), tq_cmp (tk (i + 1)) (tk i) (tk (i + 2)), 1) N = (tk (i + 1), tk i, tk (i + 2), tq_nd nf fr (tk i) ||| tq_nd nf fr (tk (i + 2)), tq_cmp (tk (i + 1)) (tk i) (tk (i + 2)), 1) := tq_us
        have g1 : ∀ j, j ∈ ns → tq_u G N (tk (i + 1), tk i, tk (i + 2), tq_nd nf fr (tk i) ||| tq_nd nf fr (tk (i + 2)), tq_cmp (tk (i + 1)) (tk i) (tk (i + 2)), 1) j = G j := fun j hj => tq_un (by have := h.2.2.2.1 j hj; omega)
        have em : tq_ms (tq_u G N (tk (i + 1), tk i, tk (i + 2), tq_nd nf fr (tk i) ||| tq_nd nf fr (tk (i + 2)), tq_cmp (tk (i + 1)) (tk i) (tk (i + 2)), 1)) (N :: ns) = tq_cmp (tk (i + 1)) (tk i) (tk (i + 2)) :: tq_ms G ns := by
          show (tq_u G N _ N).2.2.2.2.1 :: tq_ms _ ns = _
          rw [gN, tq_ms_cg ns g1]
        rw [← em] at h0 h1
        refine ih (i + 3) (rd + 1) (N + 1) true _ (N :: ns) ws f_top _ _ _ _ _ _ (by omega) (by omega) (by omega) ⟨tq_NI_add h.1 _ _ _ _ _ 1 (tq_or8 (tq_nd8 _ _ _) (tq_nd8 _ _ _)) ?_, tq_st_push h.2.1, h.2.2.1, ?_, ?_, h.2.2.2.2.2⟩ ?_ (by omega) h0 h1
        · unfold tq_NS
          rw [gN]
          exact Or.inl ⟨y'.2.2.1, y'.2.2.2.1, y'.1, y'.2.2.2.2, rfl, rfl, rfl⟩
        · intro j hj
          rcases List.mem_cons.mp hj with q | q
          · omega
          · have := h.2.2.2.1 j q; omega
        · show (tq_u G N _ N).2.2.2.2.2 + tq_sz _ ns = N + 1
          rw [gN, tq_sz_cg ns g1, h.2.2.2.2.1]
          show 1 + N = N + 1
          omega
        · rw [if_pos rfl]
          simp only [List.length_cons]
          omega
    | true =>
      rw [if_pos rfl] at hl
      refine br_f (by decide) (br_f (by decide) ?_)
      refine pk_eq (tk i) 36 (fun e => ?_) (fun e1 => ?_)
      · rw [tq_rd_36 nl e] at h0 h1
        refine xw_closeBracket h hl (by omega) (fun y => ?_) (fun N' G' ns' ws' ak' al' ar' an' wn' h' n' j' l' => ?_)
        · intro f_nodes f_waitingNodes f_waitingWords f_top a_kind a_left a_right a_needs a_waitNode a_waitWord
          refine nm_e (xw_rcbad (h0 (if_pos y) _ _ _ _ _ _ _ _ _ _))
        · rw [j'] at h0 h1
          rw [if_neg (by simp)] at h0 h1
          refine nm_r (nI_1 rd) (ih (i + 1) (rd + 1) N' true G' ns' ws' f_top _ _ _ _ _ _ (by omega) (by omega) (by omega) h' ?_ (by omega) h0 h1)
          rw [if_pos rfl]
          exact l'
      · have op : (tk i = 32 ∨ tk i = 33) → wX_readCondition_133 post (wX_readCondition_26 post (n' + 1)) (nI (i + 1)) (nI rd) (nI (tk i)) (nI nf) (nI ni) (nI nt) f_group f_distinct f_orderItem f_orderDown f_limit (nI N) (nI ns.length) (nI ws.length) 0 f_top f_parts f_combos f_nextCombos f_placed f_results (tq_n rn) a_cells (tq_n fr) (tq_n ik) (tq_n ic) (tq_n tk) a_kind a_left a_right a_needs a_truth a_waitNode a_waitWord a_part a_canCount a_can a_combo a_nextCombo a_current a_stays a_result a_index a_sorted a_key a_table := by
          intro y
          rw [tq_rd_op nl y] at h0 h1
          refine xw_joinDownTo (by omega) h hl (by omega) (fun N' G' ns' ws' ak' al' ar' an' wn' h' n' j' l' => ?_)
          rw [j'] at h0 h1
          have hlen' := tq_PI_len h'
          refine xw_putWord (by omega) (nm_r (nI_1 rd) ?_)
          refine ih (i + 1) (rd + 1) N' false G' ns' (tk i :: ws') f_top _ _ _ _ _ _ (by omega) (by omega) (by omega) ⟨h'.1, h'.2.1, tq_st_push h'.2.2.1, h'.2.2.2.1, h'.2.2.2.2.1, tq_wk_c (by omega) h'.2.2.2.2.2⟩ ?_ ?_ h0 h1
          · rw [if_neg (by decide), l']
            show tq_cb ws' + 1 = (if tk i = 32 ∨ tk i = 33 then 1 else 0) + tq_cb ws' + 0
            rw [if_pos y]
            omega
          · simp only [List.length_cons]; omega
        refine pk_eq (tk i) 32 (fun e => op (Or.inl e)) (fun e2 => pk_eq (tk i) 33 (fun e => op (Or.inr e)) (fun e3 => ?_))
        exact nm_e (xw_rcbad (h0 (tq_rd_b1 nl e1 (by omega)) _ _ _ _ _ _ _ _ _ _))
end
section
variable {nf ni nt : Nat} {fr ik ic tk rn : Nat → Nat} {f_group f_distinct f_orderItem f_orderDown f_limit f_nodes f_waitingNodes f_waitingWords f_broken f_top f_parts f_combos f_nextCombos f_placed f_results : Int32} {a_cells a_kind a_left a_right a_needs a_truth a_waitNode a_waitWord a_part a_canCount a_can a_combo a_nextCombo a_current a_stays a_result a_index a_sorted a_key a_table : Nat → Int32}
/-- the condition of a question -/
def tq_cnd (nt : Nat) (tk : Nat → Nat) (ok : Nat → Bool) : Option tq_V := if nt = 0 then some (fun _ => true) else tq_rd nt tk ok 25 0 false [] []
theorem xw_readCondition {post : SX → Prop} (d : tq_ds nf fr) (fl : ∀ i, fr i < 3) (tl : ∀ i, tk i ≤ 36) (ht2 : nt ≤ 24)
    (h0 : tq_cnd nt tk (tq_ok nf fr) = none → ∀ (f_nodes f_waitingNodes f_waitingWords f_top : Int32) (a_kind a_left a_right a_needs a_waitNode a_waitWord : Nat → Int32), post ((nI nf), (nI ni), (nI nt), f_group, f_distinct, f_orderItem, f_orderDown, f_limit, f_nodes, f_waitingNodes, f_waitingWords, 1, f_top, f_parts, f_combos, f_nextCombos, f_placed, f_results, (tq_n rn), a_cells, (tq_n fr), (tq_n ik), (tq_n ic), (tq_n tk), a_kind, a_left, a_right, a_needs, a_truth, a_waitNode, a_waitWord, a_part, a_canCount, a_can, a_combo, a_nextCombo, a_current, a_stays, a_result, a_index, a_sorted, a_key, a_table))
    (hz : nt = 0 → ∀ (f_nodes f_waitingNodes f_waitingWords f_top : Int32) (a_kind a_left a_right a_needs a_waitNode a_waitWord : Nat → Int32), post ((nI nf), (nI ni), (nI nt), f_group, f_distinct, f_orderItem, f_orderDown, f_limit, f_nodes, f_waitingNodes, f_waitingWords, 0, f_top, f_parts, f_combos, f_nextCombos, f_placed, f_results, (tq_n rn), a_cells, (tq_n fr), (tq_n ik), (tq_n ic), (tq_n tk), a_kind, a_left, a_right, a_needs, a_truth, a_waitNode, a_waitWord, a_part, a_canCount, a_can, a_combo, a_nextCombo, a_current, a_stays, a_result, a_index, a_sorted, a_key, a_table))
    (h1 : ∀ f, 0 < nt → tq_cnd nt tk (tq_ok nf fr) = some f → ∀ (N top : Nat) (G : Nat → tq_Nd) (f_waitingNodes f_waitingWords : Int32) (a_kind a_left a_right a_needs a_waitNode a_waitWord : Nat → Int32), tq_NI nf fr N G a_kind a_left a_right a_needs → N ≤ 24 → top < N → (G top).2.2.2.2.2 ≤ 24 → (G top).2.2.2.2.1 = f → post ((nI nf), (nI ni), (nI nt), f_group, f_distinct, f_orderItem, f_orderDown, f_limit, (nI N), f_waitingNodes, f_waitingWords, 0, (nI top), f_parts, f_combos, f_nextCombos, f_placed, f_results, (tq_n rn), a_cells, (tq_n fr), (tq_n ik), (tq_n ic), (tq_n tk), a_kind, a_left, a_right, a_needs, a_truth, a_waitNode, a_waitWord, a_part, a_canCount, a_can, a_combo, a_nextCombo, a_current, a_stays, a_result, a_index, a_sorted, a_key, a_table)) : wpX_readCondition post ((nI nf), (nI ni), (nI nt), f_group, f_distinct, f_orderItem, f_orderDown, f_limit, f_nodes, f_waitingNodes, f_waitingWords, f_broken, f_top, f_parts, f_combos, f_nextCombos, f_placed, f_results, (tq_n rn), a_cells, (tq_n fr), (tq_n ik), (tq_n ic), (tq_n tk), a_kind, a_left, a_right, a_needs, a_truth, a_waitNode, a_waitWord, a_part, a_canCount, a_can, a_combo, a_nextCombo, a_current, a_stays, a_result, a_index, a_sorted, a_key, a_table) := by
  rcases Nat.eq_zero_or_pos nt with z | z
  · refine ⟨1, ?_⟩
    have K : wX_readCondition_161 post 0 (nI nf) (nI ni) (nI nt) f_group f_distinct f_orderItem f_orderDown f_limit 0 0 0 0 f_top f_parts f_combos f_nextCombos f_placed f_results (tq_n rn) a_cells (tq_n fr) (tq_n ik) (tq_n ic) (tq_n tk) a_kind a_left a_right a_needs a_truth a_waitNode a_waitWord a_part a_canCount a_can a_combo a_nextCombo a_current a_stays a_result a_index a_sorted a_key a_table := br_t rfl (br_t (by rw [z]; exact Int32.le_refl _) (hz z _ _ _ _ _ _ _ _ _ _))
    exact br_c (fun _ => K) (fun _ => br_t (by rw [z]; exact Int32.le_refl _) K)
  · have e : tq_cnd nt tk (tq_ok nf fr) = tq_rd nt tk (tq_ok nf fr) 25 0 false [] [] := if_neg (by omega)
    rw [e] at h0
    refine ⟨25, xw_rc1 d fl tl z ht2 25 0 0 0 false (fun _ => (0, 0, 0, 0, fun _ => true, 0)) [] [] f_top a_kind a_left a_right a_needs a_waitNode a_waitWord (by omega) (by omega) (by omega) ⟨⟨fun i hi => absurd hi (by omega), fun i hi => absurd hi (by omega)⟩, trivial, trivial, fun j hj => absurd hj (by simp), rfl, fun j hj => absurd hj (by simp)⟩ rfl (by decide) h0 (fun f hf => h1 f z (e.trans hf))⟩
end
end
section
/-! values of tokens: columns by the rows at hand, and numbers -/
def tq_vv (c : Nat → Int32) (ρ : Nat → Nat) : Nat → Int32 := fun k => if k < 9 then c (30 * (k / 3) + 3 * ρ (k / 3) + k % 3) else nI k - 18
theorem tq_vv_lo {c : Nat → Int32} {ρ : Nat → Nat} {k : Nat} (h : k < 9) : tq_vv c ρ k = c (30 * (k / 3) + 3 * ρ (k / 3) + k % 3) := if_pos h
theorem tq_vv_hi {c : Nat → Int32} {ρ : Nat → Nat} {k : Nat} (h : ¬ k < 9) : tq_vv c ρ k = nI k - 18 := if_neg h
theorem tq_dpl : ∀ ws : List Nat, tq_dp ws ≤ ws.length
  | [] => Nat.le_refl _
  | o :: ws => by
    have := tq_dpl ws
    show (if o = 35 then 1 else 0) + tq_dp ws ≤ ws.length + 1
    split <;> omega
theorem tq_app_le (o : Nat) (vs : List tq_V) : (tq_app o vs).length ≤ vs.length := by
  cases vs with
  | nil => exact Nat.le_refl _
  | cons f r =>
    show (if o = 34 then tq_not f :: r else tq_ap2 o f r).length ≤ _
    split
    · simp
    · cases r with
      | nil => exact Nat.le_refl _
      | cons g r' =>
        show (tq_bin o g f :: r').length ≤ _
        simp only [List.length_cons]; omega
theorem tq_jd_sum {w : Nat} : ∀ (ws : List Nat) (vs : List tq_V), (tq_jd w vs ws).1.length + (tq_jd w vs ws).2.length ≤ vs.length + ws.length
  | [], _ => Nat.le_refl _
  | o :: ws, vs => by
    by_cases z : tq_jn w o = true
    · rw [tq_jd_t z]
      have a := tq_jd_sum (w := w) ws (tq_app o vs)
      have b := tq_app_le o vs
      simp only [List.length_cons]; omega
    · rw [tq_jd_f z]
      exact Nat.le_refl _
theorem tq_jd_wl {w : Nat} : ∀ (ws : List Nat) (vs : List tq_V), (tq_jd w vs ws).2.length ≤ ws.length
  | [], _ => Nat.le_refl _
  | o :: ws, vs => by
    by_cases z : tq_jn w o = true
    · rw [tq_jd_t z]
      have a := tq_jd_wl (w := w) ws (tq_app o vs)
      simp only [List.length_cons]; omega
    · rw [tq_jd_f z]
      exact Nat.le_refl _
def tq_tt (v : Nat → Int32) (a : Nat → Int32) : List tq_V → Prop
  | [] => True
  | f :: l => a l.length = tq_b (f v) ∧ tq_tt v a l
theorem tq_tt_cg {v a a' : Nat → Int32} : ∀ (l : List tq_V), (∀ j, j < l.length → a' j = a j) → tq_tt v a l → tq_tt v a' l
  | [], _, _ => trivial
  | x :: l, h, s => by
    refine ⟨?_, tq_tt_cg l (fun j hj => h j (by simp only [List.length_cons]; omega)) s.2⟩
    rw [h l.length (by simp only [List.length_cons]; omega)]
    exact s.1
theorem tq_tt_push {v a : Nat → Int32} {f : tq_V} {l : List tq_V} {y : Int32} (e : y = tq_b (f v)) (s : tq_tt v a l) : tq_tt v (upd a l.length y) (f :: l) :=
  ⟨by rw [pk_us]; exact e, tq_tt_cg l (fun _ hj => pk_un (by omega)) s⟩
section
variable {nf ni nt : Nat} {fr ik ic tk rn : Nat → Nat} {g_grouped g_distinct g_orderItem g_orderDown g_most g_truthCount g_openCount g_chosenCount g_resultCount : Int32} {b_cells b_at b_truths b_open b_chosen b_results : Nat → Int32}
theorem yw_isValue {post : Int32 → Prop} {i : Nat} (d : tq_ds nf fr) (fl : ∀ i, fr i < 3) (h24 : nt ≤ 24) (hi : i < 2 ^ 30) (tl : ∀ i, tk i ≤ 36) (h1 : i < nt → tq_ok nf fr (tk i) = true → post 1) (h0 : ¬ (i < nt ∧ tq_ok nf fr (tk i) = true) → post 0) : wpY_isValue post ((nI nf), (nI ni), (nI nt), g_grouped, g_distinct, g_orderItem, g_orderDown, g_most, g_truthCount, g_openCount, g_chosenCount, g_resultCount, b_cells, (tq_n rn), (tq_n fr), (tq_n ik), (tq_n ic), (tq_n tk), b_at, b_truths, b_open, b_chosen, b_results) (nI i) := by
  unfold wpY_isValue
  dsimp only
  have t := tl i
  refine pk_le nt i (fun h => h0 (by omega)) (fun h => ⟨vp_in_nI (by omega) (by decide), ?_⟩)
  rw [nI_clamp (show i < 2 ^ 31 by omega)]
  refine pk_le 29 (tk i) (fun z => h0 (fun y => by have := of_decide_eq_true y.2; omega)) (fun z => ⟨vp_in_nI (by omega) (by decide), ?_⟩)
  refine pk_lt 8 (tk i) (fun y => h1 h (decide_eq_true ⟨by omega, Or.inl y⟩)) (fun y => ⟨vp_in_nI (by omega) (by decide), by decide, ?_⟩)
  rw [show tq_n tk i / 3 = nI (tk i / 3) from pk_div (d := 3) (by omega) (by omega) (by decide)]
  refine yw_isFrom d (by omega) fl (fun p => br_f (by decide) (h1 h (decide_eq_true ⟨by omega, Or.inr p⟩))) (fun p => br_t rfl (h0 (fun q => ?_)))
  have := of_decide_eq_true q.2
  omega
theorem yw_ic1 {post : Int32 → Prop} (d : tq_ds nf fr) (fl : ∀ i, fr i < 3) (h24 : nt ≤ 24) (h00 : 0 < nt) (tl : ∀ i, tk i ≤ 36) : ∀ (n i : Nat) (b : Bool) (vs : List tq_V) (ws : List Nat), nt < n + i → i ≤ nt → tq_wk ws → vs.length = tq_cb ws + (if b = true then 1 else 0) → ws.length ≤ i →
    (tq_rd nt tk (tq_ok nf fr) n i b vs ws = none → post 0) → (∀ f, tq_rd nt tk (tq_ok nf fr) n i b vs ws = some f → post 1) → wY_isCondition_6 post (nI nf) (nI ni) (nI nt) g_grouped g_distinct g_orderItem g_orderDown g_most g_truthCount g_openCount g_chosenCount g_resultCount b_cells (tq_n rn) (tq_n fr) (tq_n ik) (tq_n ic) (tq_n tk) b_at b_truths b_open b_chosen b_results n (nI (tq_dp ws)) (tq_b (!b)) (nI i) := by
  intro n
  induction n with
  | zero => intro i b vs ws hf hi; omega
  | succ n ih =>
    intro i b vs ws hf hi wk hl hw h0 h1
    have hd := tq_dpl ws
    rcases Nat.lt_or_ge i nt with z | z
    rotate_left
    · refine br_t (nI_le z (by omega)) (br_f (nI_ne0 h00 (by omega)) ?_)
      cases b with
      | false => exact br_f (by decide) (h0 (tq_rd_e0 z))
      | true =>
        rw [if_pos rfl] at hl
        have len := tq_jd_len (w := 36) ws vs hl
        have dp := tq_jd_dp (w := 36) ws vs
        rw [tq_rd_e1 z] at h0 h1
        refine br_t rfl (pk_eq (tq_dp ws) 0 (fun e => ?_) (fun e => ?_))
        · rcases tq_jd_top ws vs wk with t | ⟨r, t⟩
          · rw [t] at len
            cases c : (tq_jd 36 vs ws).1 with
            | nil => rw [c] at len; simp [tq_cb] at len
            | cons f r => exact h1 f (by rw [t, c]; rfl)
          · rw [t] at dp
            have dp' : (if 35 = 35 then 1 else 0) + tq_dp r = tq_dp ws := dp
            rw [if_pos rfl] at dp'
            omega
        · refine h0 (if_neg (fun t => ?_))
          rw [t] at dp
          have dp' : 0 = tq_dp ws := dp
          omega
    have nl : ¬ nt ≤ i := by omega
    have tli := tl i
    have tl1 := tl (i + 1)
    have e1 : nI i + 1 = nI (i + 1) := nI_1 i
    refine br_f (nI_ge z (by omega)) ⟨vp_in_nI (by omega) (by decide), nm_r (e' := nI (tk i)) (by rw [nI_clamp (by omega)]; rfl) ?_⟩
    cases b with
    | true =>
      rw [if_pos rfl] at hl
      have len := tq_jd_len (w := 36) ws vs hl
      have dp := tq_jd_dp (w := 36) ws vs
      have wk' := tq_jd_wk (w := 36) ws vs wk
      have sm := tq_jd_sum (w := 36) ws vs
      refine br_t rfl (br_t rfl (br_t rfl ?_))
      have rest : (tk i = 36 → tq_dp ws = 0) → wY_isCondition_139 post (wY_isCondition_6 post (nI nf) (nI ni) (nI nt) g_grouped g_distinct g_orderItem g_orderDown g_most g_truthCount g_openCount g_chosenCount g_resultCount b_cells (tq_n rn) (tq_n fr) (tq_n ik) (tq_n ic) (tq_n tk) b_at b_truths b_open b_chosen b_results n) (nI (tq_dp ws)) (tq_b (!true)) (nI i) (nI (tk i)) (nI nf) (nI ni) (nI nt) g_grouped g_distinct g_orderItem g_orderDown g_most g_truthCount g_openCount g_chosenCount g_resultCount b_cells (tq_n rn) (tq_n fr) (tq_n ik) (tq_n ic) (tq_n tk) b_at b_truths b_open b_chosen b_results := by
        intro q
        have op : (tk i = 32 ∨ tk i = 33) → wY_isCondition_6 post (nI nf) (nI ni) (nI nt) g_grouped g_distinct g_orderItem g_orderDown g_most g_truthCount g_openCount g_chosenCount g_resultCount b_cells (tq_n rn) (tq_n fr) (tq_n ik) (tq_n ic) (tq_n tk) b_at b_truths b_open b_chosen b_results n (nI (tq_dp ws)) 1 (nI (i + 1)) := by
          intro y
          rw [tq_rd_op nl y] at h0 h1
          have len := tq_jd_len (w := tk i) ws vs hl
          have dp := tq_jd_dp (w := tk i) ws vs
          have sm := tq_jd_sum (w := tk i) ws vs
          have K := ih (i + 1) false (tq_jd (tk i) vs ws).1 (tk i :: (tq_jd (tk i) vs ws).2) (by omega) (by omega) (tq_wk_c (by omega) (tq_jd_wk ws vs wk)) ?_ ?_ h0 h1
          · have e5 : tq_dp (tk i :: (tq_jd (tk i) vs ws).2) = tq_dp ws := by
              show (if tk i = 35 then 1 else 0) + tq_dp (tq_jd (tk i) vs ws).2 = _
              rw [if_neg (by omega), dp]; omega
            rw [e5] at K
            exact K
          · rw [len, if_neg (by decide)]
            show tq_cb (tq_jd (tk i) vs ws).2 + 1 = (if tk i = 32 ∨ tk i = 33 then 1 else 0) + tq_cb (tq_jd (tk i) vs ws).2 + 0
            rw [if_pos y]; omega
          · simp only [List.length_cons]
            have e6 : (tq_jd (tk i) vs ws).2.length ≤ ws.length := tq_jd_wl ws vs
            omega
        refine br_t rfl (pk_eq (tk i) 32 (fun e => nm_r e1 (op (Or.inl e))) (fun y1 => pk_eq (tk i) 33 (fun e => nm_r e1 (op (Or.inr e))) (fun y2 => br_t rfl (h0 ?_))))
        by_cases y : tk i = 36
        · rw [tq_rd_36 nl y]
          refine if_pos ?_
          rcases tq_jd_top ws vs wk with t | ⟨r, t⟩
          · exact t
          · rw [t] at dp
            have dp' : (if 35 = 35 then 1 else 0) + tq_dp r = tq_dp ws := dp
            rw [if_pos rfl, q y] at dp'
            omega
        · exact tq_rd_b1 nl y (by omega)
      refine br_t rfl (pk_eq (tk i) 36 (fun e => ?_) (fun e => rest (fun y => absurd y e)))
      refine pk_le (tq_dp ws) 0 (fun y => rest (fun _ => by omega)) (fun y => ?_)
      rw [tq_rd_36 nl e] at h0 h1
      rcases tq_jd_top ws vs wk with t | ⟨r, t⟩
      · rw [t] at dp
        have dp' : 0 = tq_dp ws := dp
        omega
      · rw [if_neg (by rw [t]; simp)] at h0 h1
        rw [t] at dp len wk'
        have dp' : (if 35 = 35 then 1 else 0) + tq_dp r = tq_dp ws := dp
        rw [if_pos rfl] at dp'
        have e6 : (tq_jd 36 vs ws).2.length ≤ ws.length := tq_jd_wl ws vs
        rw [t] at e6 h0 h1
        simp only [List.length_cons] at e6
        have K := ih (i + 1) true (tq_jd 36 vs ws).1 r (by omega) (by omega) (tq_wk_t wk') ?_ (by omega) h0 h1
        · refine nm_r (e' := nI (tq_dp r)) ?_ (nm_r e1 K)
          rw [show tq_dp ws = tq_dp r + 1 by omega]
          exact pk_m1 _
        · rw [len, if_pos rfl]
          show (if 35 = 32 ∨ 35 = 33 then 1 else 0) + tq_cb r + 1 = tq_cb r + 1
          rw [if_neg (by omega)]; omega
    | false =>
      rw [if_neg (by decide)] at hl
      have e2 : nI i + 2 = nI (i + 2) := nI_add _ 2
      have no : (¬ tq_cok nt tk (tq_ok nf fr) i = true) → wY_isCondition_84 post (wY_isCondition_6 post (nI nf) (nI ni) (nI nt) g_grouped g_distinct g_orderItem g_orderDown g_most g_truthCount g_openCount g_chosenCount g_resultCount b_cells (tq_n rn) (tq_n fr) (tq_n ik) (tq_n ic) (tq_n tk) b_at b_truths b_open b_chosen b_results n) (nI (tq_dp ws)) (tq_b (!false)) (nI i) (nI (tk i)) (nI nf) (nI ni) (nI nt) g_grouped g_distinct g_orderItem g_orderDown g_most g_truthCount g_openCount g_chosenCount g_resultCount b_cells (tq_n rn) (tq_n fr) (tq_n ik) (tq_n ic) (tq_n tk) b_at b_truths b_open b_chosen b_results := by
        intro q
        have push : (tk i = 34 ∨ tk i = 35) → wY_isCondition_6 post (nI nf) (nI ni) (nI nt) g_grouped g_distinct g_orderItem g_orderDown g_most g_truthCount g_openCount g_chosenCount g_resultCount b_cells (tq_n rn) (tq_n fr) (tq_n ik) (tq_n ic) (tq_n tk) b_at b_truths b_open b_chosen b_results n (nI (tq_dp (tk i :: ws))) (tq_b (!false)) (nI (i + 1)) := by
          intro y
          rw [tq_rd_no nl y] at h0 h1
          refine ih (i + 1) false vs (tk i :: ws) (by omega) (by omega) (tq_wk_c (by omega) wk) ?_ (by simp only [List.length_cons]; omega) h0 h1
          rw [if_neg (by decide), hl]
          show tq_cb ws + 0 = (if tk i = 32 ∨ tk i = 33 then 1 else 0) + tq_cb ws + 0
          rw [if_neg (by omega)]; omega
        refine br_t rfl (br_f (by decide) (pk_eq (tk i) 35 (fun e => ?_) (fun e5 => ?_)))
        · have K := push (Or.inr e)
          have e7 : tq_dp (tk i :: ws) = tq_dp ws + 1 := by
            show (if tk i = 35 then 1 else 0) + tq_dp ws = _
            rw [if_pos e]; omega
          rw [e7] at K
          exact nm_r (nI_1 _) (nm_r e1 K)
        · refine br_f (by decide) (br_f (by decide) (br_f (by decide) (pk_eq (tk i) 34 (fun e => ?_) (fun e4 => h0 (tq_rd_b0 nl (by omega) q)))))
          have K := push (Or.inl e)
          have e7 : tq_dp (tk i :: ws) = tq_dp ws := by
            show (if tk i = 35 then 1 else 0) + tq_dp ws = _
            rw [if_neg e5]; omega
          rw [e7] at K
          exact nm_r e1 K
      refine br_f (by decide) ?_
      refine yw_isValue d fl h24 (by omega) tl (fun _ v1 => br_f (by decide) ?_) (fun q => br_t rfl (no (fun y => q ⟨z, (of_decide_eq_true y).1⟩)))
      rw [e1, e2]
      refine pk_le nt (i + 2) (fun q => no (fun y => by have := of_decide_eq_true y; omega)) (fun l2 => ⟨vp_in_nI (by omega) (by decide), ?_⟩)
      rw [nI_clamp (show i + 1 < 2 ^ 31 by omega)]
      refine pk_le (tk (i + 1)) 28 (fun q => no (fun y => by have := of_decide_eq_true y; omega)) (fun g1 => ⟨vp_in_nI (by omega) (by decide), ?_⟩)
      refine pk_le 32 (tk (i + 1)) (fun q => no (fun y => by have := of_decide_eq_true y; omega)) (fun g2 => ?_)
      refine yw_isValue d fl h24 (by omega) tl (fun _ v2 => br_f (by decide) ?_) (fun q => br_t rfl (no (fun y => q ⟨l2, (of_decide_eq_true y).2.2.2.2⟩)))
      have cok : tq_cok nt tk (tq_ok nf fr) i = true := decide_eq_true ⟨v1, l2, by omega, by omega, v2⟩
      have v1' := of_decide_eq_true v1
      rw [tq_rd_c nl (by omega) cok] at h0 h1
      refine br_f (by decide) (nm_r e2 (nm_r (e' := nI (i + 3)) (nI_1 (i + 2)) ?_))
      refine ih (i + 3) true _ ws (by omega) (by omega) wk ?_ (by omega) h0 h1
      rw [if_pos rfl]
      simp only [List.length_cons]; omega
theorem yw_isCondition {post : Int32 → Prop} (d : tq_ds nf fr) (fl : ∀ i, fr i < 3) (h24 : nt ≤ 24) (tl : ∀ i, tk i ≤ 36) (h0 : tq_cnd nt tk (tq_ok nf fr) = none → post 0) (h1 : ∀ f, tq_cnd nt tk (tq_ok nf fr) = some f → post 1) : wpY_isCondition post ((nI nf), (nI ni), (nI nt), g_grouped, g_distinct, g_orderItem, g_orderDown, g_most, g_truthCount, g_openCount, g_chosenCount, g_resultCount, b_cells, (tq_n rn), (tq_n fr), (tq_n ik), (tq_n ic), (tq_n tk), b_at, b_truths, b_open, b_chosen, b_results) := by
  rcases Nat.eq_zero_or_pos nt with z | z
  · refine ⟨1, br_t (by rw [z]; exact Int32.le_refl _) (br_t (by rw [z]; rfl) (h1 _ (if_pos z)))⟩
  · have e : tq_cnd nt tk (tq_ok nf fr) = tq_rd nt tk (tq_ok nf fr) 25 0 false [] [] := if_neg (by omega)
    rw [e] at h0 h1
    exact ⟨25, yw_ic1 d fl h24 z tl 25 0 false [] [] (by omega) (by omega) (fun o ho => absurd ho (by simp)) rfl (by decide) h0 h1⟩
end
end
section
section
variable {nf ni nt : Nat} {fr ik ic tk rn : Nat → Nat} {g_grouped g_distinct g_orderItem g_orderDown g_most g_truthCount g_openCount g_chosenCount g_resultCount : Int32} {b_cells b_at b_truths b_open b_chosen b_results : Nat → Int32}
/-- the rows at hand, by table -/
def tq_atk (nf : Nat) (fr : Nat → Nat) (at_ : Nat → Int32) (ρ : Nat → Nat) : Prop := ∀ p, p < nf → at_ (fr p) = nI (ρ (fr p)) ∧ ρ (fr p) < 10
theorem yw_valueOf {post : Int32 → Prop} {k : Nat} {ρ : Nat → Nat} (ha : tq_atk nf fr b_at ρ) (hk : tq_ok nf fr k = true) (hp : post (tq_vv b_cells ρ k)) : wpY_valueOf post ((nI nf), (nI ni), (nI nt), g_grouped, g_distinct, g_orderItem, g_orderDown, g_most, g_truthCount, g_openCount, g_chosenCount, g_resultCount, b_cells, (tq_n rn), (tq_n fr), (tq_n ik), (tq_n ic), (tq_n tk), b_at, b_truths, b_open, b_chosen, b_results) (nI k) := by
  have hk' := of_decide_eq_true hk
  unfold wpY_valueOf
  dsimp only
  refine pk_le k 8 (fun h => ?_) (fun h => ?_)
  · have pc : tq_pc nf fr (k / 3) < 3 := by rcases hk'.2 with q | q <;> omega
    obtain ⟨p1, p2⟩ := tq_pc_lt pc
    obtain ⟨q1, q2⟩ := ha _ p1
    rw [p2] at q1 q2
    have d3 : nI k / 3 = nI (k / 3) := pk_div (d := 3) (by omega) (by omega) (by decide)
    have dm : nI k - nI (k / 3) * 3 = nI (k % 3) := by rw [← d3]; exact pk_rem (d := 3) (by omega) (by omega) (by decide)
    rw [d3, nI_clamp (show k / 3 < 2 ^ 31 by omega), q1, dm]
    have e : (30 * nI (k / 3) + 3 * nI (ρ (k / 3))) + nI (k % 3) = nI (30 * (k / 3) + 3 * ρ (k / 3) + k % 3) := by
      show nI 30 * nI (k / 3) + nI 3 * nI (ρ (k / 3)) + nI (k % 3) = _
      rw [pk_mul, pk_mul, nI_add, nI_add]
    rw [e, nI_clamp (show 30 * (k / 3) + 3 * ρ (k / 3) + k % 3 < 2 ^ 31 by omega)]
    rw [tq_vv_lo (by omega)] at hp
    exact ⟨by decide, by decide, vp_in_nI (by omega) (by decide), by decide, vp_in_nI (by omega) (by decide), hp⟩
  · rw [tq_vv_hi (by omega)] at hp
    exact hp
theorem yw_close {post : SY → Prop} {v : Nat → Int32} {o : Nat} {ws : List Nat} {vs : List tq_V} (hj : o = 34 ∨ o = 32 ∨ o = 33) (hl : vs.length = tq_cb (o :: ws) + 1) (h25 : vs.length ≤ 25) (ht : tq_tt v b_truths vs)
    (hp : ∀ tr' : Nat → Int32, tq_tt v tr' (tq_app o vs) → post ((nI nf), (nI ni), (nI nt), g_grouped, g_distinct, g_orderItem, g_orderDown, g_most, (nI (tq_app o vs).length), g_openCount, g_chosenCount, g_resultCount, b_cells, (tq_n rn), (tq_n fr), (tq_n ik), (tq_n ic), (tq_n tk), b_at, tr', b_open, b_chosen, b_results)) : wpY_close post ((nI nf), (nI ni), (nI nt), g_grouped, g_distinct, g_orderItem, g_orderDown, g_most, (nI vs.length), g_openCount, g_chosenCount, g_resultCount, b_cells, (tq_n rn), (tq_n fr), (tq_n ik), (tq_n ic), (tq_n tk), b_at, b_truths, b_open, b_chosen, b_results) (nI o) := by
  unfold wpY_close
  dsimp only
  have n0 : vp_nar .boolean 0 = 0 := rfl
  have n1 : vp_nar .boolean 1 = 1 := rfl
  rw [n0, n1]
  cases vs with
  | nil => simp at hl
  | cons g r =>
    simp only [List.length_cons] at hl h25 ⊢
    rw [nI_pred, nI_clamp (show r.length < 2 ^ 31 by omega)]
    refine pk_eq o 34 (fun e => ⟨vp_in_nI (by omega) (by decide), ?_⟩) (fun e => ?_)
    · have ea : tq_app o (g :: r) = tq_not g :: r := if_pos e
      rw [ea] at hp
      simp only [List.length_cons] at hp
      rw [ht.1]
      cases c : g v
      · exact br_t rfl ⟨vp_in_nI (by omega) (by decide), nm_e (hp _ (tq_tt_push (by show 1 = tq_b (!(g v)); rw [c]; rfl) ht.2))⟩
      · exact br_f (by decide) ⟨vp_in_nI (by omega) (by decide), nm_e (hp _ (tq_tt_push (by show 0 = tq_b (!(g v)); rw [c]; rfl) ht.2))⟩
    · cases r with
      | nil =>
        unfold tq_cb at hl
        rw [if_pos (by omega)] at hl
        simp at hl
      | cons f r' =>
        have ea : tq_app o (g :: f :: r') = tq_bin o f g :: r' := if_neg e
        rw [ea] at hp
        simp only [List.length_cons] at hp hl h25 ht ⊢
        have ef := ht.2.1
        have eg : b_truths (r'.length + 1) = tq_b (g v) := ht.1
        refine nm_e ⟨vp_in_nI (by omega) (by decide), ?_⟩
        rw [nI_pred, nI_clamp (show r'.length < 2 ^ 31 by omega), nI_clamp (show r'.length + 1 < 2 ^ 31 by omega), ef, eg]
        have vi : vp_in (nI r'.length) 25 := vp_in_nI (by omega) (by decide)
        refine nm_e ⟨vi, nm_e ?_⟩
        have fin : ∀ y : Int32, y = tq_b (tq_bin o f g v) → post ((nI nf), (nI ni), (nI nt), g_grouped, g_distinct, g_orderItem, g_orderDown, g_most, (nI (r'.length + 1)), g_openCount, g_chosenCount, g_resultCount, b_cells, (tq_n rn), (tq_n fr), (tq_n ik), (tq_n ic), (tq_n tk), b_at, (upd b_truths r'.length y), b_open, b_chosen, b_results) := fun y ey => hp _ (tq_tt_push ey ht.2.2)
        refine pk_eq o 32 (fun e3 => ?_) (fun e3 => ?_)
        · have eb : tq_bin o f g v = (f v && g v) := if_pos e3
          rw [eb] at fin
          cases c1 : f v <;> cases c2 : g v <;> rw [c1, c2] at fin
          · exact br_t rfl ⟨vi, nm_e (fin _ rfl)⟩
          · exact br_t rfl ⟨vi, nm_e (fin _ rfl)⟩
          · exact br_f (by decide) (br_t rfl ⟨vi, nm_e (fin _ rfl)⟩)
          · exact br_f (by decide) (br_f (by decide) ⟨vi, nm_e (fin _ rfl)⟩)
        · have eb : tq_bin o f g v = (f v || g v) := if_neg e3
          rw [eb] at fin
          cases c1 : f v <;> cases c2 : g v <;> rw [c1, c2] at fin
          · exact br_t rfl (br_t rfl ⟨vi, nm_e (fin _ rfl)⟩)
          · exact br_t rfl (br_f (by decide) ⟨vi, nm_e (fin _ rfl)⟩)
          · exact br_f (by decide) ⟨vi, nm_e (fin _ rfl)⟩
          · exact br_f (by decide) ⟨vi, nm_e (fin _ rfl)⟩
theorem yw_strengthOf {post : Int32 → Prop} {u : SY} {o : Nat} (ho : o < 100) (hp : post (nI (if o = 34 then 3 else if o = 32 then 2 else 1))) : wpY_strengthOf post u (nI o) := by
  obtain ⟨_, _, _, _, _, _, _, _, _, _, _, _, _, _, _, _, _, _, _, _, _, _, _⟩ := u
  refine pk_eq o 34 (fun e => ?_) (fun e => pk_eq o 32 (fun e2 => ?_) (fun e2 => ?_))
  · rw [if_pos e] at hp; exact hp
  · rw [if_neg e, if_pos e2] at hp; exact hp
  · rw [if_neg e, if_neg e2] at hp; exact hp
end
section
variable {nf ni nt : Nat} {fr ik ic tk rn : Nat → Nat} {g_grouped g_distinct g_orderItem g_orderDown g_most g_chosenCount g_resultCount : Int32} {b_cells b_at b_open b_chosen b_results : Nat → Int32}
theorem yw_ca1 {post : SY → Prop} {v : Nat → Int32} {w s : Nat} (hw : (w = 32 ∧ s = 2) ∨ (w ≠ 32 ∧ s = 1)) : ∀ (ws : List Nat) (vs : List tq_V) (b_truths : Nat → Int32) (n : Nat), tq_tt v b_truths vs → tq_st b_open ws → tq_wk ws → vs.length = tq_cb ws + 1 → vs.length ≤ 25 → ws.length ≤ 25 → ws.length < n →
    (∀ tr' : Nat → Int32, tq_tt v tr' (tq_jd w vs ws).1 → post ((nI nf), (nI ni), (nI nt), g_grouped, g_distinct, g_orderItem, g_orderDown, g_most, (nI (tq_jd w vs ws).1.length), (nI (tq_jd w vs ws).2.length), g_chosenCount, g_resultCount, b_cells, (tq_n rn), (tq_n fr), (tq_n ik), (tq_n ic), (tq_n tk), b_at, tr', b_open, b_chosen, b_results)) → wY_closeAll_0 post (nI s) n (nI nf) (nI ni) (nI nt) g_grouped g_distinct g_orderItem g_orderDown g_most (nI vs.length) (nI ws.length) g_chosenCount g_resultCount b_cells (tq_n rn) (tq_n fr) (tq_n ik) (tq_n ic) (tq_n tk) b_at b_truths b_open b_chosen b_results := by
  intro ws
  induction ws with
  | nil =>
    intro vs b_truths n ht hs wk hl h1 h2 hn hp
    obtain ⟨m, rfl⟩ : ∃ m, n = m + 1 := ⟨n - 1, by omega⟩
    exact br_t (Int32.le_refl _) (hp _ ht)
  | cons o ws ih =>
    intro vs b_truths n ht hs wk hl h1 h2 hn hp
    obtain ⟨m, rfl⟩ : ∃ m, n = m + 1 := ⟨n - 1, by omega⟩
    have ho := tq_wk_h wk
    simp only [List.length_cons] at h2 hn ⊢
    refine br_f (nI_nle (by omega) (by omega)) ?_
    rw [nI_pred, nI_clamp (show ws.length < 2 ^ 31 by omega), hs.1]
    refine ⟨vp_in_nI (by omega) (by decide), pk_eq o 35 (fun e => ?_) (fun e => ⟨vp_in_nI (by omega) (by decide), ?_⟩)⟩
    · have z : ¬ tq_jn w o = true := by rw [tq_jn_iff]; omega
      rw [tq_jd_f z] at hp
      exact hp _ ht
    · refine yw_strengthOf (by omega) (pk_lt (if o = 34 then 3 else if o = 32 then 2 else 1) s (fun q => ?_) (fun q => ?_) rfl rfl (by split <;> (try split) <;> omega) (by omega))
      · have z : ¬ tq_jn w o = true := by
          rw [tq_jn_iff]
          intro y
          by_cases e1 : o = 34
          · rw [if_pos e1] at q; omega
          · rw [if_neg e1] at q
            by_cases e2 : o = 32
            · rw [if_pos e2] at q; omega
            · rw [if_neg e2] at q; omega
        rw [tq_jd_f z] at hp
        exact hp _ ht
      · have z : tq_jn w o = true := by
          rw [tq_jn_iff]
          by_cases e1 : o = 34
          · exact Or.inl e1
          · rw [if_neg e1] at q
            by_cases e2 : o = 32
            · exact Or.inr (Or.inl e2)
            · rw [if_neg e2] at q; omega
        rw [tq_jd_t z] at hp
        refine nm_e ⟨vp_in_nI (by omega) (by decide), ?_⟩
        rw [nI_clamp (show ws.length < 2 ^ 31 by omega), hs.1]
        have hj : o = 34 ∨ o = 32 ∨ o = 33 := by rw [tq_jn_iff] at z; omega
        refine yw_close hj hl h1 ht (fun tr' ht' => ?_)
        exact ih _ tr' m ht' hs.2 (tq_wk_t wk) (tq_app_len hj hl) (Nat.le_trans (tq_app_le o vs) h1) (by omega) (by omega) hp
theorem yw_closeAll {post : SY → Prop} {v : Nat → Int32} {w s : Nat} {ws : List Nat} {vs : List tq_V} {b_truths : Nat → Int32} (hw : (w = 32 ∧ s = 2) ∨ (w ≠ 32 ∧ s = 1)) (ht : tq_tt v b_truths vs) (hs : tq_st b_open ws) (wk : tq_wk ws) (hl : vs.length = tq_cb ws + 1) (h1 : vs.length ≤ 25) (h2 : ws.length ≤ 25)
    (hp : ∀ tr' : Nat → Int32, tq_tt v tr' (tq_jd w vs ws).1 → post ((nI nf), (nI ni), (nI nt), g_grouped, g_distinct, g_orderItem, g_orderDown, g_most, (nI (tq_jd w vs ws).1.length), (nI (tq_jd w vs ws).2.length), g_chosenCount, g_resultCount, b_cells, (tq_n rn), (tq_n fr), (tq_n ik), (tq_n ic), (tq_n tk), b_at, tr', b_open, b_chosen, b_results)) : wpY_closeAll post ((nI nf), (nI ni), (nI nt), g_grouped, g_distinct, g_orderItem, g_orderDown, g_most, (nI vs.length), (nI ws.length), g_chosenCount, g_resultCount, b_cells, (tq_n rn), (tq_n fr), (tq_n ik), (tq_n ic), (tq_n tk), b_at, b_truths, b_open, b_chosen, b_results) (nI s) :=
  ⟨26, yw_ca1 hw ws vs b_truths 26 ht hs wk hl h1 h2 (by omega) hp⟩
end
theorem tq_jd_st {w : Nat} {a : Nat → Int32} : ∀ (ws : List Nat) (vs : List tq_V), tq_st a ws → tq_st a (tq_jd w vs ws).2
  | [], _, h => h
  | o :: ws, vs, h => by
    by_cases z : tq_jn w o = true
    · rw [tq_jd_t z]; exact tq_jd_st ws _ h.2
    · rw [tq_jd_f z]; exact h
section
variable {nf ni nt : Nat} {fr ik ic tk rn : Nat → Nat} {g_grouped g_distinct g_orderItem g_orderDown g_most g_chosenCount g_resultCount : Int32} {b_cells b_at b_chosen b_results : Nat → Int32}
theorem yw_hl {post : Int32 → SY → Prop} {ρ : Nat → Nat} (ha : tq_atk nf fr b_at ρ) (tl : ∀ i, tk i ≤ 36) (h24 : nt ≤ 24) (h00 : 0 < nt) (f : tq_V)
    (hp : ∀ (g_truthCount g_openCount : Int32) (b_truths b_open : Nat → Int32), post (tq_b (f (tq_vv b_cells ρ))) ((nI nf), (nI ni), (nI nt), g_grouped, g_distinct, g_orderItem, g_orderDown, g_most, g_truthCount, g_openCount, g_chosenCount, g_resultCount, b_cells, (tq_n rn), (tq_n fr), (tq_n ik), (tq_n ic), (tq_n tk), b_at, b_truths, b_open, b_chosen, b_results)) : ∀ (n i : Nat) (b : Bool) (vs : List tq_V) (ws : List Nat) (b_truths b_open : Nat → Int32), nt < n + i → i ≤ nt → tq_rd nt tk (tq_ok nf fr) n i b vs ws = some f → tq_tt (tq_vv b_cells ρ) b_truths vs → tq_st b_open ws → tq_wk ws → vs.length = tq_cb ws + (if b = true then 1 else 0) → vs.length + ws.length ≤ i →
    wY_holds_12 post n (nI i) (nI nf) (nI ni) (nI nt) g_grouped g_distinct g_orderItem g_orderDown g_most (nI vs.length) (nI ws.length) g_chosenCount g_resultCount b_cells (tq_n rn) (tq_n fr) (tq_n ik) (tq_n ic) (tq_n tk) b_at b_truths b_open b_chosen b_results := by
  intro n
  induction n with
  | zero => intro i b vs ws b_truths b_open hf hi; omega
  | succ n ih =>
    intro i b vs ws b_truths b_open hf hi hr ht hs wk hl hb
    rcases Nat.lt_or_ge i nt with z | z
    rotate_left
    · refine br_t (nI_le z (by omega)) ?_
      cases b with
      | false => rw [tq_rd_e0 z] at hr; exact absurd hr (by simp)
      | true =>
        rw [if_pos rfl] at hl
        rw [tq_rd_e1 z] at hr
        refine yw_closeAll (w := 36) (s := 1) (Or.inr ⟨by decide, rfl⟩) ht hs wk hl (by omega) (by omega) (fun tr' ht' => ?_)
        refine br_f (nI_ne0 h00 (by omega)) ?_
        have len := tq_jd_len (w := 36) ws vs hl
        unfold tq_fin at hr
        by_cases e : (tq_jd 36 vs ws).2 = []
        · rw [if_pos e] at hr
          rw [e] at len
          cases c : (tq_jd 36 vs ws).1 with
          | nil => rw [c] at hr; exact absurd hr (by simp)
          | cons f' r =>
            rw [c] at hr len ht'
            have ef : f' = f := by simpa using hr
            have er : r = [] := by
              have l2 : r.length + 1 = 0 + 1 := len
              have : r.length = 0 := by omega
              exact List.length_eq_zero_iff.mp this
            subst er
            have e0 : tr' 0 = tq_b (f' (tq_vv b_cells ρ)) := ht'.1
            rw [ef] at e0
            rw [e0]
            cases c2 : f (tq_vv b_cells ρ) <;> rw [c2] at hp
            · exact br_t rfl (hp _ _ _ _)
            · exact br_f (by decide) (hp _ _ _ _)
        · rw [if_neg e] at hr; exact absurd hr (by simp)
    have nl : ¬ nt ≤ i := by omega
    have tli := tl i
    have e1 : nI i + 1 = nI (i + 1) := nI_1 i
    have e2 : nI i + 2 = nI (i + 2) := nI_add _ 2
    refine br_f (nI_ge z (by omega)) ⟨vp_in_nI (by omega) (by decide), nm_r (e' := nI (tk i)) (by rw [nI_clamp (by omega)]; rfl) ?_⟩
    cases b with
    | true =>
      rw [if_pos rfl] at hl
      by_cases y : tk i = 36
      · rw [tq_rd_36 nl y] at hr
        refine br_t (nI_le (a := 29) (by omega) (by omega)) (br_t (by rw [y]; rfl) ?_)
        refine yw_closeAll (w := 36) (s := 1) (Or.inr ⟨by decide, rfl⟩) ht hs wk hl (by omega) (by omega) (fun tr' ht' => ?_)
        have len := tq_jd_len (w := 36) ws vs hl
        have sm := tq_jd_sum (w := 36) ws vs
        have wk' := tq_jd_wk (w := 36) ws vs wk
        have st' := tq_jd_st (w := 36) ws vs hs
        rcases tq_jd_top ws vs wk with t | ⟨r, t⟩
        · rw [if_pos t] at hr; exact absurd hr (by simp)
        · rw [if_neg (by rw [t]; simp)] at hr
          rw [t] at hr len sm wk' st' ⊢
          simp only [List.length_cons] at sm ⊢
          refine nm_r (nI_pred _) (nm_r e1 (ih (i + 1) true _ r tr' b_open (by omega) (by omega) hr ht' st'.2 (tq_wk_t wk') ?_ (by omega)))
          rw [len, if_pos rfl]
          show (if 35 = 32 ∨ 35 = 33 then 1 else 0) + tq_cb r + 1 = tq_cb r + 1
          rw [if_neg (by omega)]; omega
      · by_cases y2 : tk i = 32 ∨ tk i = 33
        · rw [tq_rd_op nl y2] at hr
          refine br_t (nI_le (a := 29) (by omega) (by omega)) (br_f (by rw [show (36 : Int32) = nI 36 from rfl, nI_eq (by omega) (by omega)]; exact y) (br_f (nI_ge (b := 34) (by omega) (by decide)) ?_))
          refine yw_strengthOf (by omega) ?_
          refine yw_closeAll (w := tk i) ?_ ht hs wk hl (by omega) (by omega) (fun tr' ht' => ?_)
          · rw [if_neg (by omega)]
            rcases y2 with q | q
            · rw [if_pos q]; exact Or.inl ⟨q, rfl⟩
            · rw [if_neg (by omega)]; exact Or.inr ⟨by omega, rfl⟩
          · have len := tq_jd_len (w := tk i) ws vs hl
            have sm := tq_jd_sum (w := tk i) ws vs
            refine ⟨vp_in_nI (by omega) (by decide), ?_⟩
            rw [nI_clamp (show (tq_jd (tk i) vs ws).2.length < 2 ^ 31 by omega)]
            refine nm_e (nm_r (nI_1 _) (nm_r e1 ?_))
            refine ih (i + 1) false _ (tk i :: (tq_jd (tk i) vs ws).2) tr' _ (by omega) (by omega) hr ht' (tq_st_push (tq_jd_st ws vs hs)) (tq_wk_c (by omega) (tq_jd_wk ws vs wk)) ?_ (by simp only [List.length_cons]; omega)
            rw [len, if_neg (by decide)]
            show tq_cb (tq_jd (tk i) vs ws).2 + 1 = (if tk i = 32 ∨ tk i = 33 then 1 else 0) + tq_cb (tq_jd (tk i) vs ws).2 + 0
            rw [if_pos y2]; omega
        · rw [tq_rd_b1 nl y y2] at hr; exact absurd hr (by simp)
    | false =>
      rw [if_neg (by decide)] at hl
      by_cases y : tk i = 34 ∨ tk i = 35
      · rw [tq_rd_no nl y] at hr
        refine br_t (nI_le (a := 29) (by omega) (by omega)) (br_f (by rw [show (36 : Int32) = nI 36 from rfl, nI_eq (by omega) (by omega)]; omega) (br_t (nI_le (a := 34) (by omega) (by omega)) ?_))
        refine ⟨vp_in_nI (by omega) (by decide), ?_⟩
        rw [nI_clamp (show ws.length < 2 ^ 31 by omega)]
        refine nm_e (nm_r (nI_1 _) (nm_r e1 ?_))
        refine ih (i + 1) false vs (tk i :: ws) b_truths _ (by omega) (by omega) hr ht (tq_st_push hs) (tq_wk_c (by omega) wk) ?_ (by simp only [List.length_cons]; omega)
        rw [if_neg (by decide), hl]
        show tq_cb ws + 0 = (if tk i = 32 ∨ tk i = 33 then 1 else 0) + tq_cb ws + 0
        rw [if_neg (by omega)]; omega
      · by_cases y2 : tq_cok nt tk (tq_ok nf fr) i = true
        · rw [tq_rd_c nl y y2] at hr
          have c := of_decide_eq_true y2
          have c1 := of_decide_eq_true c.1
          have c2 := of_decide_eq_true c.2.2.2.2
          have n0 : vp_nar .boolean 0 = 0 := rfl
          have n1 : vp_nar .boolean 1 = 1 := rfl
          refine br_f (nI_ge (b := 29) (by omega) (by decide)) ?_
          rw [e1, e2, nI_clamp (show i + 1 < 2 ^ 31 by omega), nI_clamp (show i + 2 < 2 ^ 31 by omega)]
          refine yw_valueOf ha c.1 ⟨vp_in_nI (by omega) (by decide), yw_valueOf ha c.2.2.2.2 ⟨vp_in_nI (by omega) (by decide), nm_e ?_⟩⟩
          have fin : ∀ yv : Int32, yv = tq_b (tq_cmp (tk (i + 1)) (tk i) (tk (i + 2)) (tq_vv b_cells ρ)) → vp_nar .boolean yv = yv → wY_holds_124 post (wY_holds_12 post n) (nI i) yv (nI vs.length) (nI nf) (nI ni) (nI nt) g_grouped g_distinct g_orderItem g_orderDown g_most (nI vs.length) (nI ws.length) g_chosenCount g_resultCount b_cells (tq_n rn) (tq_n fr) (tq_n ik) (tq_n ic) (tq_n tk) b_at b_truths b_open b_chosen b_results := by
            intro yv ey ny
            refine ⟨vp_in_nI (by omega) (by decide), ?_⟩
            rw [nI_clamp (show vs.length < 2 ^ 31 by omega), ny]
            refine nm_e (nm_r (nI_1 _) (nm_r e2 (nm_r (e' := nI (i + 3)) (nI_1 (i + 2)) ?_)))
            refine ih (i + 3) true _ ws _ b_open (by omega) (by omega) hr (tq_tt_push ey ht) hs wk ?_ (by simp only [List.length_cons]; omega)
            rw [if_pos rfl]
            simp only [List.length_cons]; omega
          unfold tq_cmp at fin
          refine pk_eq (tk (i + 1)) 29 (fun q => ?_) (fun q => pk_eq (tk (i + 1)) 30 (fun q2 => ?_) (fun q2 => ?_))
          · simp only [q, if_true] at fin
            refine br_c (fun g => fin 1 (by rw [decide_eq_true g]; rfl) n1) (fun g => fin 0 (by rw [decide_eq_false g]; rfl) n0)
          · simp only [q2, if_true] at fin
            rw [if_neg (by decide)] at fin
            refine br_c (fun g => fin 0 (by rw [decide_eq_false (Int32.not_lt.mpr g)]; rfl) n0) (fun g => fin 1 (by rw [decide_eq_true (Int32.not_le.mp g)]; rfl) n1)
          · rw [if_neg q, if_neg q2] at fin
            refine br_c (fun g => fin 0 (by rw [decide_eq_false (Int32.not_lt.mpr g)]; rfl) n0) (fun g => fin 1 (by rw [decide_eq_true (Int32.not_le.mp g)]; rfl) n1)
        · rw [tq_rd_b0 nl y y2] at hr; exact absurd hr (by simp)
end
section
variable {nf ni nt : Nat} {fr ik ic tk rn : Nat → Nat} {g_grouped g_distinct g_orderItem g_orderDown g_most g_truthCount g_openCount g_chosenCount g_resultCount : Int32} {b_cells b_at b_truths b_open b_chosen b_results : Nat → Int32}
theorem yw_holds {post : Int32 → SY → Prop} {ρ : Nat → Nat} {f : tq_V} (ha : tq_atk nf fr b_at ρ) (tl : ∀ i, tk i ≤ 36) (h24 : nt ≤ 24) (hf : tq_cnd nt tk (tq_ok nf fr) = some f)
    (hp : ∀ (g_truthCount g_openCount : Int32) (b_truths b_open : Nat → Int32), post (tq_b (f (tq_vv b_cells ρ))) ((nI nf), (nI ni), (nI nt), g_grouped, g_distinct, g_orderItem, g_orderDown, g_most, g_truthCount, g_openCount, g_chosenCount, g_resultCount, b_cells, (tq_n rn), (tq_n fr), (tq_n ik), (tq_n ic), (tq_n tk), b_at, b_truths, b_open, b_chosen, b_results)) : wpY_holds post ((nI nf), (nI ni), (nI nt), g_grouped, g_distinct, g_orderItem, g_orderDown, g_most, g_truthCount, g_openCount, g_chosenCount, g_resultCount, b_cells, (tq_n rn), (tq_n fr), (tq_n ik), (tq_n ic), (tq_n tk), b_at, b_truths, b_open, b_chosen, b_results) := by
  rcases Nat.eq_zero_or_pos nt with z | z
  · have ef : f = fun _ => true := by
      have : some (fun _ => true) = some f := by rw [← hf]; exact (if_pos z).symm
      exact (Option.some.inj this).symm
    rw [ef] at hp
    refine ⟨1, br_t (by rw [z]; exact Int32.le_refl _) ⟨1, br_t (Int32.le_refl _) (br_t (by rw [z]; rfl) (hp _ _ _ _))⟩⟩
  · have e : tq_cnd nt tk (tq_ok nf fr) = tq_rd nt tk (tq_ok nf fr) 25 0 false [] [] := if_neg (by omega)
    rw [e] at hf
    exact ⟨25, yw_hl ha tl h24 z f hp 25 0 false [] [] b_truths b_open (by omega) (by omega) hf trivial trivial (fun o ho => absurd ho (by simp)) rfl (by decide)⟩
end
end
section
/-- the parts of a condition -/
def tq_PT (N : Nat) (G : Nat → tq_Nd) (np : Nat) (pt : Nat → Nat) (ap : Nat → Int32) (f : tq_V) : Prop := np ≤ 24 ∧ (∀ j, j < np → ap j = nI (pt j) ∧ pt j < N) ∧ ∀ v, f v = true ↔ ∀ j, j < np → (G (pt j)).2.2.2.2.1 v = true
section
variable {nf ni nt : Nat} {fr ik ic tk rn : Nat → Nat} {f_group f_distinct f_orderItem f_orderDown f_limit f_nodes f_waitingWords f_broken f_top f_combos f_nextCombos f_placed f_results : Int32} {a_cells a_kind a_left a_right a_needs a_truth a_waitWord a_canCount a_can a_combo a_nextCombo a_current a_stays a_result a_index a_sorted a_key a_table : Nat → Int32}
theorem xw_lp1 {post : SX → Prop} {N : Nat} {G : Nat → tq_Nd} {f : tq_V} (hI : tq_NI nf fr N G a_kind a_left a_right a_needs) (hN : N ≤ 24)
    (hp : ∀ (np : Nat) (pt : Nat → Nat) (f_waitingNodes : Int32) (a_waitNode a_part : Nat → Int32), tq_PT N G np pt a_part f → post ((nI nf), (nI ni), (nI nt), f_group, f_distinct, f_orderItem, f_orderDown, f_limit, f_nodes, f_waitingNodes, f_waitingWords, f_broken, f_top, (nI np), f_combos, f_nextCombos, f_placed, f_results, (tq_n rn), a_cells, (tq_n fr), (tq_n ik), (tq_n ic), (tq_n tk), a_kind, a_left, a_right, a_needs, a_truth, a_waitNode, a_waitWord, a_part, a_canCount, a_can, a_combo, a_nextCombo, a_current, a_stays, a_result, a_index, a_sorted, a_key, a_table)) : ∀ (n x1 np : Nat) (ns : List Nat) (pt : Nat → Nat) (a_waitNode a_part : Nat → Int32), 24 < n + x1 → tq_st a_waitNode ns → tq_bl N ns → tq_sz G ns + x1 ≤ 24 → np ≤ x1 → (∀ j, j < np → a_part j = nI (pt j) ∧ pt j < N) → (∀ v, f v = true ↔ ((∀ j, j ∈ ns → (G j).2.2.2.2.1 v = true) ∧ ∀ j, j < np → (G (pt j)).2.2.2.2.1 v = true)) →
    wX_listParts_30 post n (nI x1) (nI nf) (nI ni) (nI nt) f_group f_distinct f_orderItem f_orderDown f_limit f_nodes (nI ns.length) f_waitingWords f_broken f_top (nI np) f_combos f_nextCombos f_placed f_results (tq_n rn) a_cells (tq_n fr) (tq_n ik) (tq_n ic) (tq_n tk) a_kind a_left a_right a_needs a_truth a_waitNode a_waitWord a_part a_canCount a_can a_combo a_nextCombo a_current a_stays a_result a_index a_sorted a_key a_table := by
  intro n
  induction n with
  | zero => intro x1 np ns pt a_waitNode a_part h1 h2 h3 h4; omega
  | succ n ih =>
    intro x1 np ns pt a_waitNode a_part hf hs hb hz hnp hpt hv
    have len := tq_sz_len ns (fun j hj => hI.2 j (hb j hj))
    cases ns with
    | nil =>
      have K := hp np pt (nI ([] : List Nat).length) a_waitNode a_part ⟨by omega, hpt, fun v => by rw [hv v]; exact ⟨fun q => q.2, fun q => ⟨fun j hj => absurd hj (by simp), q⟩⟩⟩
      exact br_c (fun _ => K) (fun _ => br_t (Int32.le_refl _) K)
    | cons k r =>
      simp only [List.length_cons] at len ⊢
      have bk := hb k List.mem_cons_self
      have br : tq_bl N r := fun j hj => hb j (List.mem_cons_of_mem _ hj)
      have hsz : (G k).2.2.2.2.2 + tq_sz G r + x1 ≤ 24 := hz
      have s1 := tq_sz1 (hI.2 k bk)
      have lr := tq_sz_len r (fun j hj => hI.2 j (br j hj))
      have ek := hI.1 k bk
      refine br_f (nI_ge (b := 24) (by omega) (by decide)) (br_f (nI_nle (by omega) (by omega)) (nm_r (nI_pred _) ⟨vp_in_nI (by omega) (by decide), nm_r (e' := nI k) (by rw [nI_clamp (by omega)]; exact hs.1) ⟨vp_in_nI (by omega) (by decide), ?_⟩⟩))
      rw [nI_clamp (show k < 2 ^ 31 by omega), ek.1, ek.2.1]
      have kb : (G k).1 < 100 := by rcases hI.2 k bk with s | s | s <;> omega
      refine pk_eq (G k).1 32 (fun e => ⟨vp_in_nI (by omega) (by decide), ?_⟩) (fun e => ⟨vp_in_nI (by omega) (by decide), ?_⟩)
      · have s : ((G k).1 = 32 ∨ (G k).1 = 33) ∧ (G k).2.1 < k ∧ (G k).2.2.1 < k ∧ (G k).2.2.2.1 = (G (G k).2.1).2.2.2.1 ||| (G (G k).2.2.1).2.2.2.1 ∧ (G k).2.2.2.2.1 = tq_bin (G k).1 (G (G k).2.1).2.2.2.2.1 (G (G k).2.2.1).2.2.2.2.1 ∧ (G k).2.2.2.2.2 = 1 + (G (G k).2.1).2.2.2.2.2 + (G (G k).2.2.1).2.2.2.2.2 := by
          rcases hI.2 k bk with s | s | s
          · omega
          · omega
          · exact s
        obtain ⟨_, s2, s3, _, s5, s6⟩ := s
        have z1 := tq_sz1 (hI.2 _ (Nat.lt_trans s2 bk))
        have z2 := tq_sz1 (hI.2 _ (Nat.lt_trans s3 bk))
        refine xw_putNode (by omega) ⟨vp_in_nI (by omega) (by decide), ?_⟩
        rw [ek.2.2.1]
        refine xw_putNode (by omega) (nm_r (nI_1 x1) ?_)
        have st2 := tq_st_push (x := (G k).2.2.1) (tq_st_push (x := (G k).2.1) hs.2)
        refine ih (x1 + 1) np ((G k).2.2.1 :: (G k).2.1 :: r) pt _ a_part (by omega) st2 ?_ ?_ (by omega) hpt ?_
        · intro j hj
          rcases List.mem_cons.mp hj with q | q
          · omega
          · rcases List.mem_cons.mp q with q | q
            · omega
            · exact br j q
        · show (G (G k).2.2.1).2.2.2.2.2 + ((G (G k).2.1).2.2.2.2.2 + tq_sz G r) + (x1 + 1) ≤ 24
          omega
        · intro v
          rw [hv v]
          have ev : (G k).2.2.2.2.1 v = true ↔ (G (G k).2.1).2.2.2.2.1 v = true ∧ (G (G k).2.2.1).2.2.2.2.1 v = true := by
            rw [s5]
            unfold tq_bin
            rw [if_pos e, Bool.and_eq_true]
          constructor
          · intro q
            refine ⟨fun j hj => ?_, q.2⟩
            have qk := ev.mp (q.1 k List.mem_cons_self)
            rcases List.mem_cons.mp hj with y | y
            · rw [y]; exact qk.2
            · rcases List.mem_cons.mp y with y | y
              · rw [y]; exact qk.1
              · exact q.1 j (List.mem_cons_of_mem _ y)
          · intro q
            refine ⟨fun j hj => ?_, q.2⟩
            rcases List.mem_cons.mp hj with y | y
            · rw [y]
              exact ev.mpr ⟨q.1 _ (List.mem_cons_of_mem _ List.mem_cons_self), q.1 _ List.mem_cons_self⟩
            · exact q.1 j (List.mem_cons_of_mem _ (List.mem_cons_of_mem _ y))
      · rw [nI_clamp (show np < 2 ^ 31 by omega)]
        refine nm_e (nm_r (nI_1 np) (nm_r (nI_1 x1) ?_))
        refine ih (x1 + 1) (np + 1) r (tq_u pt np k) a_waitNode _ (by omega) hs.2 br (by omega) (by omega) ?_ ?_
        · intro j hj
          by_cases y : j = np
          · subst y
            rw [pk_us, tq_us]
            exact ⟨rfl, bk⟩
          · rw [pk_un y, tq_un y]
            exact hpt j (by omega)
        · intro v
          rw [hv v]
          constructor
          · intro q
            refine ⟨fun j hj => q.1 j (List.mem_cons_of_mem _ hj), fun j hj => ?_⟩
            by_cases y : j = np
            · rw [y, tq_us]; exact q.1 k List.mem_cons_self
            · rw [tq_un y]; exact q.2 j (by omega)
          · intro q
            refine ⟨fun j hj => ?_, fun j hj => ?_⟩
            · rcases List.mem_cons.mp hj with y | y
              · have := q.2 np (by omega)
                rw [tq_us] at this
                rw [y]; exact this
              · exact q.1 j y
            · have := q.2 j (by omega)
              rw [tq_un (by omega)] at this
              exact this
end
section
variable {nf ni nt : Nat} {fr ik ic tk rn : Nat → Nat} {f_group f_distinct f_orderItem f_orderDown f_limit f_nodes f_waitingNodes f_waitingWords f_broken f_top f_parts f_combos f_nextCombos f_placed f_results : Int32} {a_cells a_kind a_left a_right a_needs a_truth a_waitNode a_waitWord a_part a_canCount a_can a_combo a_nextCombo a_current a_stays a_result a_index a_sorted a_key a_table : Nat → Int32}
theorem xw_listParts {post : SX → Prop} {N top : Nat} {G : Nat → tq_Nd} (h24 : nt ≤ 24) (hI : tq_NI nf fr N G a_kind a_left a_right a_needs) (hN : N ≤ 24) (ht : top < N) (hs : (G top).2.2.2.2.2 ≤ 24) (h0 : 0 < nt)
    (hp : ∀ (np : Nat) (pt : Nat → Nat) (f_waitingNodes : Int32) (a_waitNode a_part : Nat → Int32), tq_PT N G np pt a_part (G top).2.2.2.2.1 → post ((nI nf), (nI ni), (nI nt), f_group, f_distinct, f_orderItem, f_orderDown, f_limit, f_nodes, f_waitingNodes, f_waitingWords, f_broken, (nI top), (nI np), f_combos, f_nextCombos, f_placed, f_results, (tq_n rn), a_cells, (tq_n fr), (tq_n ik), (tq_n ic), (tq_n tk), a_kind, a_left, a_right, a_needs, a_truth, a_waitNode, a_waitWord, a_part, a_canCount, a_can, a_combo, a_nextCombo, a_current, a_stays, a_result, a_index, a_sorted, a_key, a_table)) : wpX_listParts post ((nI nf), (nI ni), (nI nt), f_group, f_distinct, f_orderItem, f_orderDown, f_limit, f_nodes, f_waitingNodes, f_waitingWords, f_broken, (nI top), f_parts, f_combos, f_nextCombos, f_placed, f_results, (tq_n rn), a_cells, (tq_n fr), (tq_n ik), (tq_n ic), (tq_n tk), a_kind, a_left, a_right, a_needs, a_truth, a_waitNode, a_waitWord, a_part, a_canCount, a_can, a_combo, a_nextCombo, a_current, a_stays, a_result, a_index, a_sorted, a_key, a_table) := by
  unfold wpX_listParts
  dsimp only
  refine br_f (nI_ne0 h0 (by omega)) (nm_e ⟨25, ?_⟩)
  refine xw_lp1 hI hN hp 25 0 0 [top] (fun _ => 0) _ a_part (by omega) ⟨pk_us, trivial⟩ ?_ ?_ (by omega) (fun j hj => absurd hj (by omega)) ?_
  · intro j hj
    rcases List.mem_cons.mp hj with q | q
    · omega
    · exact absurd q (by simp)
  · show (G top).2.2.2.2.2 + 0 + 0 ≤ 24
    omega
  · intro v
    constructor
    · intro q
      refine ⟨fun j hj => ?_, fun j hj => absurd hj (by omega)⟩
      rcases List.mem_cons.mp hj with y | y
      · rw [y]; exact q
      · exact absurd y (by simp)
    · intro q
      exact q.1 top List.mem_cons_self
theorem xw_listParts0 {post : SX → Prop} (h0 : nt = 0) (hp : post ((nI nf), (nI ni), (nI nt), f_group, f_distinct, f_orderItem, f_orderDown, f_limit, f_nodes, f_waitingNodes, f_waitingWords, f_broken, f_top, 0, f_combos, f_nextCombos, f_placed, f_results, (tq_n rn), a_cells, (tq_n fr), (tq_n ik), (tq_n ic), (tq_n tk), a_kind, a_left, a_right, a_needs, a_truth, a_waitNode, a_waitWord, a_part, a_canCount, a_can, a_combo, a_nextCombo, a_current, a_stays, a_result, a_index, a_sorted, a_key, a_table)) : wpX_listParts post ((nI nf), (nI ni), (nI nt), f_group, f_distinct, f_orderItem, f_orderDown, f_limit, f_nodes, f_waitingNodes, f_waitingWords, f_broken, f_top, f_parts, f_combos, f_nextCombos, f_placed, f_results, (tq_n rn), a_cells, (tq_n fr), (tq_n ik), (tq_n ic), (tq_n tk), a_kind, a_left, a_right, a_needs, a_truth, a_waitNode, a_waitWord, a_part, a_canCount, a_can, a_combo, a_nextCombo, a_current, a_stays, a_result, a_index, a_sorted, a_key, a_table) := by
  unfold wpX_listParts
  dsimp only
  exact br_t (by rw [h0]; rfl) hp
/-- the rows at hand, by place, of the tables in hv -/
def tq_cu (hv : Nat) (ac : Nat → Int32) (cur : Nat → Nat) : Prop := ∀ p, p < 3 → hv.testBit p = true → ac p = nI (cur p) ∧ cur p < 10
def tq_rho (nf : Nat) (fr : Nat → Nat) (cur : Nat → Nat) : Nat → Nat := fun t => cur (tq_pc nf fr t)
theorem xw_valueOf {post : Int32 → Prop} {k hv : Nat} {cur : Nat → Nat} (d : tq_ds nf fr) (fl : ∀ i, fr i < 3) (hk : tq_ok nf fr k = true) (hc : tq_cu hv a_current cur) (hs : ∀ p, p < 3 → (tq_nd nf fr k).testBit p = true → hv.testBit p = true) (hp : post (tq_vv a_cells (tq_rho nf fr cur) k)) : wpX_valueOf post ((nI nf), (nI ni), (nI nt), f_group, f_distinct, f_orderItem, f_orderDown, f_limit, f_nodes, f_waitingNodes, f_waitingWords, f_broken, f_top, f_parts, f_combos, f_nextCombos, f_placed, f_results, (tq_n rn), a_cells, (tq_n fr), (tq_n ik), (tq_n ic), (tq_n tk), a_kind, a_left, a_right, a_needs, a_truth, a_waitNode, a_waitWord, a_part, a_canCount, a_can, a_combo, a_nextCombo, a_current, a_stays, a_result, a_index, a_sorted, a_key, a_table) (nI k) := by
  have hk' := of_decide_eq_true hk
  unfold wpX_valueOf
  dsimp only
  refine pk_lt k 9 (fun h => ⟨by decide, ?_⟩) (fun h => ?_)
  · have pc : tq_pc nf fr (k / 3) < 3 := by rcases hk'.2 with q | q <;> omega
    have e1 : tq_nd nf fr k = 2 ^ tq_pc nf fr (k / 3) := if_pos ⟨h, pc⟩
    obtain ⟨q1, q2⟩ := hc _ pc (hs _ pc (by rw [e1, tq_tp]; exact decide_eq_true rfl))
    rw [show nI k / 3 = nI (k / 3) from pk_div (d := 3) (by omega) (by omega) (by decide)]
    refine xw_placeOf d.1 (by omega) fl ?_
    rw [tq_pl_t d pc]
    refine ⟨vp_in_nI pc (by decide), ?_⟩
    rw [nI_clamp (show tq_pc nf fr (k / 3) < 2 ^ 31 by omega), q1]
    refine xw_at h q2 ⟨vp_in_nI (by omega) (by decide), ?_⟩
    rw [nI_clamp (show 30 * (k / 3) + 3 * cur (tq_pc nf fr (k / 3)) + k % 3 < 2 ^ 31 by omega)]
    rw [tq_vv_lo h] at hp
    exact hp
  · rw [tq_vv_hi (by omega)] at hp
    exact hp
theorem xw_compared {post : Int32 → Prop} {u : SX} {o a b : Nat} {v : Nat → Int32} (ho : 29 ≤ o ∧ o ≤ 31) (hp : post (tq_b (tq_cmp o a b v))) : wpX_compared post u (nI o) (v a) (v b) := by
  obtain ⟨_, _, _, _, _, _, _, _, _, _, _, _, _, _, _, _, _, _, _, _, _, _, _, _, _, _, _, _, _, _, _, _, _, _, _, _, _, _, _, _, _, _, _⟩ := u
  unfold tq_cmp at hp
  refine pk_eq o 29 (fun q => ?_) (fun q => pk_eq o 30 (fun q2 => ?_) (fun q2 => ?_))
  · simp only [q, if_true] at hp
    refine br_c (fun g => ?_) (fun g => ?_)
    · rw [decide_eq_true g] at hp; exact hp
    · rw [decide_eq_false g] at hp; exact hp
  · rw [if_neg q, if_pos q2] at hp
    refine br_c (fun g => ?_) (fun g => ?_)
    · rw [decide_eq_false (Int32.not_lt.mpr g)] at hp; exact hp
    · rw [decide_eq_true (Int32.not_le.mp g)] at hp; exact hp
  · rw [if_neg q, if_neg q2] at hp
    refine br_c (fun g => ?_) (fun g => ?_)
    · rw [decide_eq_false (Int32.not_lt.mpr g)] at hp; exact hp
    · rw [decide_eq_true (Int32.not_le.mp g)] at hp; exact hp
theorem tq_nb (b : Bool) : vp_nar .boolean (tq_b b) = tq_b b := by cases b <;> rfl
theorem tq_nr (b : Bool) : narrow .boolean (.int (tq_b b)) = .int (tq_b b) := by cases b <;> rfl
end
section
variable {nf ni nt : Nat} {fr ik ic tk rn : Nat → Nat} {f_group f_distinct f_orderItem f_orderDown f_limit f_nodes f_waitingNodes f_waitingWords f_broken f_top f_parts f_combos f_nextCombos f_placed f_results : Int32} {a_cells a_kind a_left a_right a_needs a_waitNode a_waitWord a_part a_canCount a_can a_combo a_nextCombo a_current a_stays a_result a_index a_sorted a_key a_table : Nat → Int32}
theorem xw_holds1 {post : Int32 → SX → Prop} {N k hv : Nat} {G : Nat → tq_Nd} {cur : Nat → Nat} (d : tq_ds nf fr) (fl : ∀ i, fr i < 3) (hI : tq_NI nf fr N G a_kind a_left a_right a_needs) (hN : N ≤ 24) (hk : k < N) (h8 : hv < 8) (hc : tq_cu hv a_current cur) (hs : ∀ p, p < 3 → (G k).2.2.2.1.testBit p = true → hv.testBit p = true)
    (hp : ∀ a_truth : Nat → Int32, post (tq_b ((G k).2.2.2.2.1 (tq_vv a_cells (tq_rho nf fr cur)))) ((nI nf), (nI ni), (nI nt), f_group, f_distinct, f_orderItem, f_orderDown, f_limit, f_nodes, f_waitingNodes, f_waitingWords, f_broken, f_top, f_parts, f_combos, f_nextCombos, f_placed, f_results, (tq_n rn), a_cells, (tq_n fr), (tq_n ik), (tq_n ic), (tq_n tk), a_kind, a_left, a_right, a_needs, a_truth, a_waitNode, a_waitWord, a_part, a_canCount, a_can, a_combo, a_nextCombo, a_current, a_stays, a_result, a_index, a_sorted, a_key, a_table)) : ∀ (n i : Nat) (a_truth : Nat → Int32), k + 1 < n + i → i ≤ k + 1 → (∀ j, j < i → (∀ p, p < 3 → (G j).2.2.2.1.testBit p = true → hv.testBit p = true) → a_truth j = tq_b ((G j).2.2.2.2.1 (tq_vv a_cells (tq_rho nf fr cur)))) →
    wX_holds_2 post (nI k) (nI hv) (nI nf) (nI ni) (nI nt) f_group f_distinct f_orderItem f_orderDown f_limit f_nodes f_waitingNodes f_waitingWords f_broken f_top f_parts f_combos f_nextCombos f_placed f_results n (nI i) (tq_n rn) a_cells (tq_n fr) (tq_n ik) (tq_n ic) (tq_n tk) a_kind a_left a_right a_needs a_truth a_waitNode a_waitWord a_part a_canCount a_can a_combo a_nextCombo a_current a_stays a_result a_index a_sorted a_key a_table := by
  intro n
  induction n with
  | zero => intro i a_truth h1 h2; omega
  | succ n ih =>
    intro i a_truth hf hi ht
    rcases Nat.lt_or_ge k i with z | z
    · refine br_t (nI_lt z (by omega)) ⟨vp_in_nI (by omega) (by decide), ?_⟩
      rw [nI_clamp (show k < 2 ^ 31 by omega), ht k z hs]
      exact ⟨tq_nr _, hp a_truth⟩
    · have bi : i < N := by omega
      have ei := hI.1 i bi
      have vi : vp_in (nI i) 24 := vp_in_nI (by omega) (by decide)
      refine br_f (nI_nlt (by omega) (by omega)) ⟨vi, ?_⟩
      rw [nI_clamp (show i < 2 ^ 31 by omega), ei.1, ei.2.1, ei.2.2.1, ei.2.2.2.1, nI_1]
      have kb : (G i).1 < 100 := by rcases hI.2 i bi with s | s | s <;> omega
      refine br_c (fun y => ?_) (fun y => ?_)
      · rw [tq_sub ei.2.2.2.2 h8] at y
        have go : wX_holds_2 post (nI k) (nI hv) (nI nf) (nI ni) (nI nt) f_group f_distinct f_orderItem f_orderDown f_limit f_nodes f_waitingNodes f_waitingWords f_broken f_top f_parts f_combos f_nextCombos f_placed f_results n (nI (i + 1)) (tq_n rn) a_cells (tq_n fr) (tq_n ik) (tq_n ic) (tq_n tk) a_kind a_left a_right a_needs (upd a_truth i (tq_b ((G i).2.2.2.2.1 (tq_vv a_cells (tq_rho nf fr cur))))) a_waitNode a_waitWord a_part a_canCount a_can a_combo a_nextCombo a_current a_stays a_result a_index a_sorted a_key a_table := by
          refine ih (i + 1) _ (by omega) (by omega) (fun j hj hj2 => ?_)
          by_cases e : j = i
          · rw [e, pk_us]
          · rw [pk_un e]; exact ht j (by omega) hj2
        refine ⟨vi, pk_lt 31 (G i).1 (fun g => ⟨vi, ?_⟩) (fun g => ⟨vi, ?_⟩)⟩
        · refine pk_eq (G i).1 34 (fun e => ⟨vi, ?_⟩) (fun e => ⟨vi, ?_⟩)
          · have s : (G i).2.1 < i ∧ (G i).2.2.2.1 = (G (G i).2.1).2.2.2.1 ∧ (G i).2.2.2.2.1 = tq_not (G (G i).2.1).2.2.2.2.1 := by
              rcases hI.2 i bi with s | s | s
              · omega
              · exact ⟨s.2.1, s.2.2.2.1, s.2.2.2.2.1⟩
              · omega
            obtain ⟨s1, s2, s3⟩ := s
            have tl := ht _ s1 (by rw [← s2]; exact y)
            rw [s3] at go
            refine ⟨vp_in_nI (by omega) (by decide), ?_⟩
            rw [nI_clamp (show (G i).2.1 < 2 ^ 31 by omega), tl]
            unfold tq_not at go
            cases c : (G (G i).2.1).2.2.2.2.1 (tq_vv a_cells (tq_rho nf fr cur)) <;> rw [c] at go
            · exact br_t rfl ⟨vi, nm_e (nm_e go)⟩
            · exact br_f (by decide) ⟨vi, nm_e (nm_e go)⟩
          · have s : ((G i).1 = 32 ∨ (G i).1 = 33) ∧ (G i).2.1 < i ∧ (G i).2.2.1 < i ∧ (G i).2.2.2.1 = (G (G i).2.1).2.2.2.1 ||| (G (G i).2.2.1).2.2.2.1 ∧ (G i).2.2.2.2.1 = tq_bin (G i).1 (G (G i).2.1).2.2.2.2.1 (G (G i).2.2.1).2.2.2.2.1 := by
              rcases hI.2 i bi with s | s | s
              · omega
              · omega
              · exact ⟨s.1, s.2.1, s.2.2.1, s.2.2.2.1, s.2.2.2.2.1⟩
            obtain ⟨s0, s1, s2, s3, s4⟩ := s
            have tl := ht _ s1 (fun p hp1 hp2 => y p hp1 (by rw [s3, Nat.testBit_or, hp2]; rfl))
            have tr := ht _ s2 (fun p hp1 hp2 => y p hp1 (by rw [s3, Nat.testBit_or, hp2, Bool.or_true]))
            rw [s4] at go
            refine ⟨vp_in_nI (by omega) (by decide), ?_⟩
            rw [nI_clamp (show (G i).2.1 < 2 ^ 31 by omega), nI_clamp (show (G i).2.2.1 < 2 ^ 31 by omega), tl, tr]
            refine nm_e ⟨vi, vp_in_nI (by omega) (by decide), nm_e ⟨vi, ?_⟩⟩
            unfold tq_bin at go
            refine pk_eq (G i).1 32 (fun e3 => ?_) (fun e3 => ?_)
            · rw [if_pos e3] at go
              cases c1 : (G (G i).2.1).2.2.2.2.1 (tq_vv a_cells (tq_rho nf fr cur)) <;> cases c2 : (G (G i).2.2.1).2.2.2.2.1 (tq_vv a_cells (tq_rho nf fr cur)) <;> rw [c1, c2] at go
              · exact br_t rfl ⟨vi, nm_e (nm_e go)⟩
              · exact br_t rfl ⟨vi, nm_e (nm_e go)⟩
              · exact br_f (by decide) (br_t rfl ⟨vi, nm_e (nm_e go)⟩)
              · exact br_f (by decide) (br_f (by decide) ⟨vi, nm_e (nm_e go)⟩)
            · rw [if_neg e3] at go
              cases c1 : (G (G i).2.1).2.2.2.2.1 (tq_vv a_cells (tq_rho nf fr cur)) <;> cases c2 : (G (G i).2.2.1).2.2.2.2.1 (tq_vv a_cells (tq_rho nf fr cur)) <;> rw [c1, c2] at go
              · exact br_t rfl (br_t rfl ⟨vi, nm_e (nm_e go)⟩)
              · exact br_t rfl (br_f (by decide) ⟨vi, nm_e (nm_e go)⟩)
              · exact br_f (by decide) ⟨vi, nm_e (nm_e go)⟩
              · exact br_f (by decide) ⟨vi, nm_e (nm_e go)⟩
        · have s : 29 ≤ (G i).1 ∧ (G i).1 ≤ 31 ∧ tq_ok nf fr (G i).2.1 = true ∧ tq_ok nf fr (G i).2.2.1 = true ∧ (G i).2.2.2.1 = tq_nd nf fr (G i).2.1 ||| tq_nd nf fr (G i).2.2.1 ∧ (G i).2.2.2.2.1 = tq_cmp (G i).1 (G i).2.1 (G i).2.2.1 := by
            rcases hI.2 i bi with s | s | s
            · exact ⟨s.1, s.2.1, s.2.2.1, s.2.2.2.1, s.2.2.2.2.1, s.2.2.2.2.2.1⟩
            · omega
            · omega
          obtain ⟨s0, s1, s2, s3, s4, s5⟩ := s
          refine xw_valueOf d fl s2 hc (fun p hp1 hp2 => y p hp1 (by rw [s4, Nat.testBit_or, hp2]; rfl)) ⟨vi, ?_⟩
          refine xw_valueOf d fl s3 hc (fun p hp1 hp2 => y p hp1 (by rw [s4, Nat.testBit_or, hp2, Bool.or_true])) ⟨vi, ?_⟩
          refine xw_compared (v := tq_vv a_cells (tq_rho nf fr cur)) ⟨s0, s1⟩ ⟨vi, ?_⟩
          rw [s5] at go
          rw [tq_nb]
          exact nm_e (nm_e go)
      · rw [tq_sub ei.2.2.2.2 h8] at y
        refine nm_e (ih (i + 1) a_truth (by omega) (by omega) (fun j hj hj2 => ?_))
        by_cases e : j = i
        · rw [e] at hj2; exact absurd hj2 y
        · exact ht j (by omega) hj2
end
end
section
/-- the parts that are tested with the tables hv once the tables fs have come -/
def tq_sl (m hv fs : Nat) : Prop := (∀ p, p < 3 → m.testBit p = true → hv.testBit p = true) ∧ ((fs = 0 ∧ m = 0) ∨ (fs ≠ 0 ∧ ∃ p, p < 3 ∧ m.testBit p = true ∧ fs.testBit p = true))
def tq_all (G : Nat → tq_Nd) (np : Nat) (pt : Nat → Nat) (hv fs : Nat) (v : Nat → Int32) : Prop := ∀ j, j < np → tq_sl (G (pt j)).2.2.2.1 hv fs → (G (pt j)).2.2.2.2.1 v = true
section
variable {nf ni nt : Nat} {fr ik ic tk rn : Nat → Nat} {f_group f_distinct f_orderItem f_orderDown f_limit f_nodes f_waitingNodes f_waitingWords f_broken f_top f_parts f_combos f_nextCombos f_placed f_results : Int32} {a_cells a_kind a_left a_right a_needs a_truth a_waitNode a_waitWord a_part a_canCount a_can a_combo a_nextCombo a_current a_stays a_result a_index a_sorted a_key a_table : Nat → Int32}
theorem xw_holds {post : Int32 → SX → Prop} {N k hv : Nat} {G : Nat → tq_Nd} {cur : Nat → Nat} (d : tq_ds nf fr) (fl : ∀ i, fr i < 3) (hI : tq_NI nf fr N G a_kind a_left a_right a_needs) (hN : N ≤ 24) (hk : k < N) (h8 : hv < 8) (hc : tq_cu hv a_current cur) (hs : ∀ p, p < 3 → (G k).2.2.2.1.testBit p = true → hv.testBit p = true)
    (hp : ∀ a_truth : Nat → Int32, post (tq_b ((G k).2.2.2.2.1 (tq_vv a_cells (tq_rho nf fr cur)))) ((nI nf), (nI ni), (nI nt), f_group, f_distinct, f_orderItem, f_orderDown, f_limit, f_nodes, f_waitingNodes, f_waitingWords, f_broken, f_top, f_parts, f_combos, f_nextCombos, f_placed, f_results, (tq_n rn), a_cells, (tq_n fr), (tq_n ik), (tq_n ic), (tq_n tk), a_kind, a_left, a_right, a_needs, a_truth, a_waitNode, a_waitWord, a_part, a_canCount, a_can, a_combo, a_nextCombo, a_current, a_stays, a_result, a_index, a_sorted, a_key, a_table)) : wpX_holds post ((nI nf), (nI ni), (nI nt), f_group, f_distinct, f_orderItem, f_orderDown, f_limit, f_nodes, f_waitingNodes, f_waitingWords, f_broken, f_top, f_parts, f_combos, f_nextCombos, f_placed, f_results, (tq_n rn), a_cells, (tq_n fr), (tq_n ik), (tq_n ic), (tq_n tk), a_kind, a_left, a_right, a_needs, a_truth, a_waitNode, a_waitWord, a_part, a_canCount, a_can, a_combo, a_nextCombo, a_current, a_stays, a_result, a_index, a_sorted, a_key, a_table) (nI k) (nI hv) :=
  ⟨k + 2, xw_holds1 d fl hI hN hk h8 hc hs hp (k + 2) 0 a_truth (by omega) (by omega) (fun j hj => absurd hj (by omega))⟩
end
section
variable {nf ni nt : Nat} {fr ik ic tk rn : Nat → Nat} {f_group f_distinct f_orderItem f_orderDown f_limit f_nodes f_waitingNodes f_waitingWords f_broken f_top f_combos f_nextCombos f_placed f_results : Int32} {a_cells a_kind a_left a_right a_needs a_waitNode a_waitWord a_part a_canCount a_can a_combo a_nextCombo a_current a_stays a_result a_index a_sorted a_key a_table : Nat → Int32}
theorem xw_fits1 {post : Int32 → SX → Prop} {N np hv fs : Nat} {G : Nat → tq_Nd} {pt cur : Nat → Nat} (d : tq_ds nf fr) (fl : ∀ i, fr i < 3) (hI : tq_NI nf fr N G a_kind a_left a_right a_needs) (hN : N ≤ 24) (hnp : np ≤ 24) (hpt : ∀ j, j < np → a_part j = nI (pt j) ∧ pt j < N) (h8 : hv < 8) (f8 : fs < 8) (hc : tq_cu hv a_current cur)
    (h1 : tq_all G np pt hv fs (tq_vv a_cells (tq_rho nf fr cur)) → ∀ a_truth : Nat → Int32, post 1 ((nI nf), (nI ni), (nI nt), f_group, f_distinct, f_orderItem, f_orderDown, f_limit, f_nodes, f_waitingNodes, f_waitingWords, f_broken, f_top, (nI np), f_combos, f_nextCombos, f_placed, f_results, (tq_n rn), a_cells, (tq_n fr), (tq_n ik), (tq_n ic), (tq_n tk), a_kind, a_left, a_right, a_needs, a_truth, a_waitNode, a_waitWord, a_part, a_canCount, a_can, a_combo, a_nextCombo, a_current, a_stays, a_result, a_index, a_sorted, a_key, a_table))
    (h0 : ¬ tq_all G np pt hv fs (tq_vv a_cells (tq_rho nf fr cur)) → ∀ a_truth : Nat → Int32, post 0 ((nI nf), (nI ni), (nI nt), f_group, f_distinct, f_orderItem, f_orderDown, f_limit, f_nodes, f_waitingNodes, f_waitingWords, f_broken, f_top, (nI np), f_combos, f_nextCombos, f_placed, f_results, (tq_n rn), a_cells, (tq_n fr), (tq_n ik), (tq_n ic), (tq_n tk), a_kind, a_left, a_right, a_needs, a_truth, a_waitNode, a_waitWord, a_part, a_canCount, a_can, a_combo, a_nextCombo, a_current, a_stays, a_result, a_index, a_sorted, a_key, a_table)) : ∀ (n x3 : Nat) (a_truth : Nat → Int32), np < n + x3 → x3 ≤ np → (∀ j, j < x3 → tq_sl (G (pt j)).2.2.2.1 hv fs → (G (pt j)).2.2.2.2.1 (tq_vv a_cells (tq_rho nf fr cur)) = true) →
    wX_fits_2 post (nI hv) (nI fs) n (nI x3) (nI nf) (nI ni) (nI nt) f_group f_distinct f_orderItem f_orderDown f_limit f_nodes f_waitingNodes f_waitingWords f_broken f_top (nI np) f_combos f_nextCombos f_placed f_results (tq_n rn) a_cells (tq_n fr) (tq_n ik) (tq_n ic) (tq_n tk) a_kind a_left a_right a_needs a_truth a_waitNode a_waitWord a_part a_canCount a_can a_combo a_nextCombo a_current a_stays a_result a_index a_sorted a_key a_table := by
  intro n
  induction n with
  | zero => intro x3 a_truth q1 q2; omega
  | succ n ih =>
    intro x3 a_truth hf hx hb
    rcases Nat.lt_or_ge x3 np with z | z
    rotate_left
    · have : x3 = np := by omega
      subst this
      exact br_t (nI_le (by omega) (by omega)) (h1 hb a_truth)
    obtain ⟨e1, e2⟩ := hpt x3 z
    have ek := hI.1 _ e2
    have vk : vp_in (nI (pt x3)) 24 := vp_in_nI (by omega) (by decide)
    refine br_f (nI_ge z (by omega)) ⟨vp_in_nI (by omega) (by decide), nm_r (e' := nI (pt x3)) (by rw [nI_clamp (by omega)]; exact e1) ⟨vk, ?_⟩⟩
    rw [nI_clamp (show pt x3 < 2 ^ 31 by omega), ek.2.2.2.1]
    have nx : ∀ a_truth : Nat → Int32, (tq_sl (G (pt x3)).2.2.2.1 hv fs → (G (pt x3)).2.2.2.2.1 (tq_vv a_cells (tq_rho nf fr cur)) = true) → wX_fits_2 post (nI hv) (nI fs) n (nI (x3 + 1)) (nI nf) (nI ni) (nI nt) f_group f_distinct f_orderItem f_orderDown f_limit f_nodes f_waitingNodes f_waitingWords f_broken f_top (nI np) f_combos f_nextCombos f_placed f_results (tq_n rn) a_cells (tq_n fr) (tq_n ik) (tq_n ic) (tq_n tk) a_kind a_left a_right a_needs a_truth a_waitNode a_waitWord a_part a_canCount a_can a_combo a_nextCombo a_current a_stays a_result a_index a_sorted a_key a_table := by
      intro a_truth q
      refine ih (x3 + 1) a_truth (by omega) (by omega) (fun j hj => ?_)
      by_cases e : j = x3
      · rw [e]; exact q
      · exact hb j (by omega)
    have skip : (¬ tq_sl (G (pt x3)).2.2.2.1 hv fs) → wX_fits_65 post (wX_fits_2 post (nI hv) (nI fs) n) (nI hv) (nI fs) (nI x3) (nI (pt x3)) (nI nf) (nI ni) (nI nt) f_group f_distinct f_orderItem f_orderDown f_limit f_nodes f_waitingNodes f_waitingWords f_broken f_top (nI np) f_combos f_nextCombos f_placed f_results (tq_n rn) a_cells (tq_n fr) (tq_n ik) (tq_n ic) (tq_n tk) a_kind a_left a_right a_needs a_truth a_waitNode a_waitWord a_part a_canCount a_can a_combo a_nextCombo a_current a_stays a_result a_index a_sorted a_key a_table := fun q => br_t rfl (nm_r (nI_1 x3) (nx a_truth (fun y => absurd y q)))
    have go : (tq_sl (G (pt x3)).2.2.2.1 hv fs) → wX_fits_61 post (wX_fits_2 post (nI hv) (nI fs) n) (nI hv) (nI fs) (nI x3) (nI (pt x3)) (nI nf) (nI ni) (nI nt) f_group f_distinct f_orderItem f_orderDown f_limit f_nodes f_waitingNodes f_waitingWords f_broken f_top (nI np) f_combos f_nextCombos f_placed f_results (tq_n rn) a_cells (tq_n fr) (tq_n ik) (tq_n ic) (tq_n tk) a_kind a_left a_right a_needs a_truth a_waitNode a_waitWord a_part a_canCount a_can a_combo a_nextCombo a_current a_stays a_result a_index a_sorted a_key a_table := by
      intro q
      refine br_f (by decide) ?_
      refine xw_holds d fl hI hN e2 h8 hc q.1 (fun a_truth => ?_)
      cases c : (G (pt x3)).2.2.2.2.1 (tq_vv a_cells (tq_rho nf fr cur))
      · refine br_t rfl (h0 (fun y => ?_) a_truth)
        have := y x3 z q
        rw [c] at this
        exact absurd this (by decide)
      · exact br_f (by decide) (nm_r (nI_1 x3) (nx a_truth (fun _ => c)))
    refine br_c (fun y => ?_) (fun y => skip (fun q => y ((tq_sub ek.2.2.2.2 h8).mpr q.1)))
    rw [tq_sub ek.2.2.2.2 h8] at y
    refine pk_eq fs 0 (fun e => ⟨vk, ?_⟩) (fun e => ⟨vk, ?_⟩)
    · refine pk_eq (G (pt x3)).2.2.2.1 0 (fun e3 => go ⟨y, Or.inl ⟨e, e3⟩⟩) (fun e3 => skip (fun q => ?_)) rfl rfl (by have := ek.2.2.2.2; omega)
      rcases q.2 with w | w
      · exact e3 w.2
      · exact w.1 e
    · refine br_c (fun w => skip (fun q => ?_)) (fun w => go ⟨y, Or.inr ⟨e, ?_⟩⟩)
      · rw [tq_and ek.2.2.2.2 f8] at w
        rcases q.2 with r | ⟨_, p, hp, r1, r2⟩
        · exact e r.1
        · rw [w p hp r1] at r2
          exact absurd r2 (by decide)
      · rw [tq_and ek.2.2.2.2 f8] at w
        refine Classical.byContradiction (fun r => w (fun p hp r1 => ?_))
        cases c : fs.testBit p
        · rfl
        · exact absurd ⟨p, hp, r1, c⟩ r
theorem xw_fits {post : Int32 → SX → Prop} {N np hv fs : Nat} {G : Nat → tq_Nd} {pt cur : Nat → Nat} {a_truth : Nat → Int32} (d : tq_ds nf fr) (fl : ∀ i, fr i < 3) (hI : tq_NI nf fr N G a_kind a_left a_right a_needs) (hN : N ≤ 24) (hnp : np ≤ 24) (hpt : ∀ j, j < np → a_part j = nI (pt j) ∧ pt j < N) (h8 : hv < 8) (f8 : fs < 8) (hc : tq_cu hv a_current cur)
    (h1 : tq_all G np pt hv fs (tq_vv a_cells (tq_rho nf fr cur)) → ∀ a_truth : Nat → Int32, post 1 ((nI nf), (nI ni), (nI nt), f_group, f_distinct, f_orderItem, f_orderDown, f_limit, f_nodes, f_waitingNodes, f_waitingWords, f_broken, f_top, (nI np), f_combos, f_nextCombos, f_placed, f_results, (tq_n rn), a_cells, (tq_n fr), (tq_n ik), (tq_n ic), (tq_n tk), a_kind, a_left, a_right, a_needs, a_truth, a_waitNode, a_waitWord, a_part, a_canCount, a_can, a_combo, a_nextCombo, a_current, a_stays, a_result, a_index, a_sorted, a_key, a_table))
    (h0 : ¬ tq_all G np pt hv fs (tq_vv a_cells (tq_rho nf fr cur)) → ∀ a_truth : Nat → Int32, post 0 ((nI nf), (nI ni), (nI nt), f_group, f_distinct, f_orderItem, f_orderDown, f_limit, f_nodes, f_waitingNodes, f_waitingWords, f_broken, f_top, (nI np), f_combos, f_nextCombos, f_placed, f_results, (tq_n rn), a_cells, (tq_n fr), (tq_n ik), (tq_n ic), (tq_n tk), a_kind, a_left, a_right, a_needs, a_truth, a_waitNode, a_waitWord, a_part, a_canCount, a_can, a_combo, a_nextCombo, a_current, a_stays, a_result, a_index, a_sorted, a_key, a_table)) : wpX_fits post ((nI nf), (nI ni), (nI nt), f_group, f_distinct, f_orderItem, f_orderDown, f_limit, f_nodes, f_waitingNodes, f_waitingWords, f_broken, f_top, (nI np), f_combos, f_nextCombos, f_placed, f_results, (tq_n rn), a_cells, (tq_n fr), (tq_n ik), (tq_n ic), (tq_n tk), a_kind, a_left, a_right, a_needs, a_truth, a_waitNode, a_waitWord, a_part, a_canCount, a_can, a_combo, a_nextCombo, a_current, a_stays, a_result, a_index, a_sorted, a_key, a_table) (nI hv) (nI fs) :=
  ⟨np + 1, xw_fits1 d fl hI hN hnp hpt h8 f8 hc h1 h0 (np + 1) 0 a_truth (by omega) (by omega) (fun j hj => absurd hj (by omega))⟩
end
section
variable {nf ni nt : Nat} {fr ik ic tk rn : Nat → Nat} {f_group f_distinct f_orderItem f_orderDown f_limit f_nodes f_waitingNodes f_waitingWords f_broken f_top f_combos f_nextCombos f_results : Int32} {a_cells a_kind a_left a_right a_needs a_truth a_waitNode a_waitWord a_part a_canCount a_can a_combo a_nextCombo a_current a_stays a_result a_index a_sorted a_key a_table : Nat → Int32}
theorem xw_lt1 {post : Int32 → Prop} {N np p S : Nat} {G : Nat → tq_Nd} {pt : Nat → Nat} (hI : tq_NI nf fr N G a_kind a_left a_right a_needs) (hN : N ≤ 24) (hnp : np ≤ 24) (hpt : ∀ j, j < np → a_part j = nI (pt j) ∧ pt j < N) (hp3 : p < 3) (S8 : S < 8)
    (h0 : post (-1))
    (h1 : ∀ j, j < np → (G (pt j)).1 = 29 → (G (pt j)).2.1 < 9 → (G (pt j)).2.2.1 < 9 → (G (pt j)).2.2.2.1.testBit p = true → (∃ q, q < 3 ∧ (G (pt j)).2.2.2.1.testBit q = true ∧ S.testBit q = true) → (G (pt j)).2.2.2.1 ≠ 2 ^ p → post (nI (pt j))) : ∀ (n x2 : Nat), np < n + x2 → x2 ≤ np → wX_linkTo_2 post (nI p) (nI nf) (nI ni) (nI nt) f_group f_distinct f_orderItem f_orderDown f_limit f_nodes f_waitingNodes f_waitingWords f_broken f_top (nI np) f_combos f_nextCombos (nI S) f_results (tq_n rn) a_cells (tq_n fr) (tq_n ik) (tq_n ic) (tq_n tk) a_kind a_left a_right a_needs a_truth a_waitNode a_waitWord a_part a_canCount a_can a_combo a_nextCombo a_current a_stays a_result a_index a_sorted a_key a_table n (nI x2) := by
  intro n
  induction n with
  | zero => intro x2 q1 q2; omega
  | succ n ih =>
    intro x2 hf hx
    rcases Nat.lt_or_ge x2 np with z | z
    rotate_left
    · exact br_t (nI_le z (by omega)) h0
    obtain ⟨e1, e2⟩ := hpt x2 z
    have ek := hI.1 _ e2
    have vk : vp_in (nI (pt x2)) 24 := vp_in_nI (by omega) (by decide)
    have m8 := ek.2.2.2.2
    have o8 := tq_one8 hp3
    have nx := ih (x2 + 1) (by omega) (by omega)
    have kb : (G (pt x2)).1 < 100 := by rcases hI.2 _ e2 with s | s | s <;> omega
    have lb : (G (pt x2)).2.1 < 100 ∧ (G (pt x2)).2.2.1 < 100 := by
      rcases hI.2 _ e2 with s | s | s
      · have a := of_decide_eq_true s.2.2.1
        have b := of_decide_eq_true s.2.2.2.1
        omega
      · omega
      · omega
    refine br_f (nI_ge z (by omega)) ⟨vp_in_nI (by omega) (by decide), nm_r (e' := nI (pt x2)) (by rw [nI_clamp (by omega)]; exact e1) ⟨vk, ?_⟩⟩
    have no : wX_linkTo_54 post (wX_linkTo_2 post (nI p) (nI nf) (nI ni) (nI nt) f_group f_distinct f_orderItem f_orderDown f_limit f_nodes f_waitingNodes f_waitingWords f_broken f_top (nI np) f_combos f_nextCombos (nI S) f_results (tq_n rn) a_cells (tq_n fr) (tq_n ik) (tq_n ic) (tq_n tk) a_kind a_left a_right a_needs a_truth a_waitNode a_waitWord a_part a_canCount a_can a_combo a_nextCombo a_current a_stays a_result a_index a_sorted a_key a_table n) (nI p) (nI x2) (nI (pt x2)) (nI nf) (nI ni) (nI nt) f_group f_distinct f_orderItem f_orderDown f_limit f_nodes f_waitingNodes f_waitingWords f_broken f_top (nI np) f_combos f_nextCombos (nI S) f_results (tq_n rn) a_cells (tq_n fr) (tq_n ik) (tq_n ic) (tq_n tk) a_kind a_left a_right a_needs a_truth a_waitNode a_waitWord a_part a_canCount a_can a_combo a_nextCombo a_current a_stays a_result a_index a_sorted a_key a_table := br_t rfl (nm_r (nI_1 x2) nx)
    rw [nI_clamp (show pt x2 < 2 ^ 31 by omega), ek.1, ek.2.1, ek.2.2.1]
    refine pk_eq (G (pt x2)).1 29 (fun k1 => ⟨vk, pk_le 9 (G (pt x2)).2.1 (fun _ => no) (fun k2 => ⟨vk, pk_le 9 (G (pt x2)).2.2.1 (fun _ => no) (fun k3 => ?_)⟩)⟩) (fun _ => no)
    refine br_f (by decide) ⟨vk, ?_⟩
    rw [nI_clamp (show pt x2 < 2 ^ 31 by omega), ek.2.2.2.1, tq_one hp3]
    refine br_c (fun y => ⟨vk, ?_⟩) (fun y => nm_r (nI_1 x2) nx)
    rw [tq_shr1 m8 hp3] at y
    refine br_c (fun w => nm_r (nI_1 x2) nx) (fun w => ⟨vk, ?_⟩)
    rw [tq_and m8 S8] at w
    refine pk_eq (G (pt x2)).2.2.2.1 (2 ^ p) (fun _ => nm_r (nI_1 x2) nx) (fun e => h1 x2 z k1 k2 k3 y ?_ e)
    refine Classical.byContradiction (fun r => w (fun p hp r1 => ?_))
    cases c : S.testBit p
    · rfl
    · exact absurd ⟨p, hp, r1, c⟩ r
theorem xw_linkTo {post : Int32 → Prop} {N np p S : Nat} {G : Nat → tq_Nd} {pt : Nat → Nat} (hI : tq_NI nf fr N G a_kind a_left a_right a_needs) (hN : N ≤ 24) (hnp : np ≤ 24) (hpt : ∀ j, j < np → a_part j = nI (pt j) ∧ pt j < N) (hp3 : p < 3) (S8 : S < 8)
    (h0 : post (-1))
    (h1 : ∀ j, j < np → (G (pt j)).1 = 29 → (G (pt j)).2.1 < 9 → (G (pt j)).2.2.1 < 9 → (G (pt j)).2.2.2.1.testBit p = true → (∃ q, q < 3 ∧ (G (pt j)).2.2.2.1.testBit q = true ∧ S.testBit q = true) → (G (pt j)).2.2.2.1 ≠ 2 ^ p → post (nI (pt j))) : wpX_linkTo post ((nI nf), (nI ni), (nI nt), f_group, f_distinct, f_orderItem, f_orderDown, f_limit, f_nodes, f_waitingNodes, f_waitingWords, f_broken, f_top, (nI np), f_combos, f_nextCombos, (nI S), f_results, (tq_n rn), a_cells, (tq_n fr), (tq_n ik), (tq_n ic), (tq_n tk), a_kind, a_left, a_right, a_needs, a_truth, a_waitNode, a_waitWord, a_part, a_canCount, a_can, a_combo, a_nextCombo, a_current, a_stays, a_result, a_index, a_sorted, a_key, a_table) (nI p) :=
  ⟨np + 1, xw_lt1 hI hN hnp hpt hp3 S8 h0 h1 (np + 1) 0 (by omega) (by omega)⟩
theorem xw_nt1 {post : Int32 → Prop} {N np S : Nat} {G : Nat → tq_Nd} {pt cc : Nat → Nat} (hf3 : nf ≤ 3) (hI : tq_NI nf fr N G a_kind a_left a_right a_needs) (hN : N ≤ 24) (hnp : np ≤ 24) (hpt : ∀ j, j < np → a_part j = nI (pt j) ∧ pt j < N) (S8 : S < 8) (hcc : ∀ p, p < nf → a_canCount p = nI (cc p) ∧ cc p ≤ 10) (hu : ∃ p, p < nf ∧ S.testBit p = false)
    (h1 : ∀ p, p < nf → S.testBit p = false → post (nI p)) : ∀ (n x3 : Nat) (x1 : Int32) (c : Nat), nf < n + x3 → x3 ≤ nf → ((x1 = -1 ∧ c = 1000 ∧ ∀ p, p < x3 → S.testBit p = true) ∨ (∃ q, x1 = nI q ∧ q < nf ∧ S.testBit q = false ∧ c ≤ 30)) → wX_nextTable_8 post (nI nf) (nI ni) (nI nt) f_group f_distinct f_orderItem f_orderDown f_limit f_nodes f_waitingNodes f_waitingWords f_broken f_top (nI np) f_combos f_nextCombos (nI S) f_results (tq_n rn) a_cells (tq_n fr) (tq_n ik) (tq_n ic) (tq_n tk) a_kind a_left a_right a_needs a_truth a_waitNode a_waitWord a_part a_canCount a_can a_combo a_nextCombo a_current a_stays a_result a_index a_sorted a_key a_table n x1 (nI c) (nI x3) := by
  intro n
  induction n with
  | zero => intro x3 x1 c q1 q2; omega
  | succ n ih =>
    intro x3 x1 c hf hx hb
    rcases Nat.lt_or_ge x3 nf with z | z
    rotate_left
    · refine br_t (nI_le z (by omega)) ?_
      rcases hb with ⟨_, _, b⟩ | ⟨q, b1, b2, b3, _⟩
      · obtain ⟨p, p1, p2⟩ := hu
        rw [b p (by omega)] at p2
        exact absurd p2 (by decide)
      · rw [b1]; exact h1 q b2 b3
    refine br_f (nI_ge z (by omega)) ?_
    rw [nI_1]
    refine br_c (fun y => ?_) (fun y => ?_)
    · rw [tq_shr0 S8 (by omega)] at y
      obtain ⟨c1, c2⟩ := hcc x3 z
      have cb : c ≤ 1000 := by rcases hb with b | ⟨_, _, _, _, b⟩ <;> omega
      have fin : ∀ k : Nat, k ≤ 20 → wX_nextTable_58 post (wX_nextTable_8 post (nI nf) (nI ni) (nI nt) f_group f_distinct f_orderItem f_orderDown f_limit f_nodes f_waitingNodes f_waitingWords f_broken f_top (nI np) f_combos f_nextCombos (nI S) f_results (tq_n rn) a_cells (tq_n fr) (tq_n ik) (tq_n ic) (tq_n tk) a_kind a_left a_right a_needs a_truth a_waitNode a_waitWord a_part a_canCount a_can a_combo a_nextCombo a_current a_stays a_result a_index a_sorted a_key a_table n) x1 (nI c) (nI x3) (nI k) (nI (cc x3)) (nI nf) (nI ni) (nI nt) f_group f_distinct f_orderItem f_orderDown f_limit f_nodes f_waitingNodes f_waitingWords f_broken f_top (nI np) f_combos f_nextCombos (nI S) f_results (tq_n rn) a_cells (tq_n fr) (tq_n ik) (tq_n ic) (tq_n tk) a_kind a_left a_right a_needs a_truth a_waitNode a_waitWord a_part a_canCount a_can a_combo a_nextCombo a_current a_stays a_result a_index a_sorted a_key a_table := by
        intro k hk
        refine nm_r (nI_add _ _) (pk_le c (cc x3 + k) (fun w => nm_r (nI_1 x3) (ih (x3 + 1) x1 c (by omega) (by omega) ?_)) (fun w => nm_r (nI_1 x3) (ih (x3 + 1) (nI x3) (cc x3 + k) (by omega) (by omega) (Or.inr ⟨x3, rfl, z, y, by omega⟩))))
        rcases hb with b | b
        · omega
        · exact Or.inr b
      refine xw_linkTo hI hN hnp hpt (by omega) S8 ?_ ?_
      · refine ⟨vp_in_nI (by omega) (by decide), br_f tq_m1 ?_⟩
        rw [nI_clamp (show x3 < 2 ^ 31 by omega), c1]
        exact br_c (fun _ => fin 0 (by omega)) (fun _ => fin 20 (by omega))
      · intro j hj _ _ _ _ _ _
        have := (hpt j hj).2
        refine ⟨vp_in_nI (by omega) (by decide), br_t (nI_pos' (by omega)) ?_⟩
        rw [nI_clamp (show x3 < 2 ^ 31 by omega), c1]
        exact fin 0 (by omega)
    · rw [tq_shr0 S8 (by omega)] at y
      have y' : S.testBit x3 = true := by
        cases c : S.testBit x3
        · exact absurd c y
        · rfl
      refine nm_e (ih (x3 + 1) x1 c (by omega) (by omega) ?_)
      rcases hb with ⟨b1, b2, b3⟩ | b
      · refine Or.inl ⟨b1, b2, fun p hp => ?_⟩
        by_cases e : p = x3
        · rw [e]; exact y'
        · exact b3 p (by omega)
      · exact Or.inr b
theorem xw_nextTable {post : Int32 → Prop} {N np S : Nat} {G : Nat → tq_Nd} {pt cc : Nat → Nat} (hf3 : nf ≤ 3) (hI : tq_NI nf fr N G a_kind a_left a_right a_needs) (hN : N ≤ 24) (hnp : np ≤ 24) (hpt : ∀ j, j < np → a_part j = nI (pt j) ∧ pt j < N) (S8 : S < 8) (hcc : ∀ p, p < nf → a_canCount p = nI (cc p) ∧ cc p ≤ 10) (hu : ∃ p, p < nf ∧ S.testBit p = false)
    (h1 : ∀ p, p < nf → S.testBit p = false → post (nI p)) : wpX_nextTable post ((nI nf), (nI ni), (nI nt), f_group, f_distinct, f_orderItem, f_orderDown, f_limit, f_nodes, f_waitingNodes, f_waitingWords, f_broken, f_top, (nI np), f_combos, f_nextCombos, (nI S), f_results, (tq_n rn), a_cells, (tq_n fr), (tq_n ik), (tq_n ic), (tq_n tk), a_kind, a_left, a_right, a_needs, a_truth, a_waitNode, a_waitWord, a_part, a_canCount, a_can, a_combo, a_nextCombo, a_current, a_stays, a_result, a_index, a_sorted, a_key, a_table) :=
  ⟨nf + 1, xw_nt1 hf3 hI hN hnp hpt S8 hcc hu h1 (nf + 1) 0 (-1) 1000 (by omega) (by omega) (Or.inl ⟨rfl, rfl, fun p hp => absurd hp (by omega)⟩)⟩
end
end
section
/-- the rows of place p that can stay: c of them, cn by number; rm rows there are; none that is its own is lacking -/
def tq_CN (rm : Nat) (own : Nat → Prop) (p c : Nat) (cn : Nat → Nat) (aC ac : Nat → Int32) : Prop := aC p = nI c ∧ c ≤ 10 ∧ (∀ j, j < c → ac (10 * p + j) = nI (cn j) ∧ cn j < rm) ∧ (∀ i j, i < j → j < c → cn i ≠ cn j) ∧ (∀ r, r < rm → own r → ∃ j, j < c ∧ cn j = r)
def tq_own (nf : Nat) (fr : Nat → Nat) (c : Nat → Int32) (G : Nat → tq_Nd) (np : Nat) (pt : Nat → Nat) (p r : Nat) : Prop := tq_all G np pt (2 ^ p) (2 ^ p) (tq_vv c (tq_rho nf fr (fun _ => r)))
theorem tq_CN_cg {rm : Nat} {own : Nat → Prop} {p c : Nat} {cn : Nat → Nat} {aC ac aC' ac' : Nat → Int32} (h : tq_CN rm own p c cn aC ac) (h1 : aC' p = aC p) (h2 : ∀ j, j < 10 → ac' (10 * p + j) = ac (10 * p + j)) : tq_CN rm own p c cn aC' ac' :=
  ⟨by rw [h1]; exact h.1, h.2.1, fun j hj => by rw [h2 j (by have := h.2.1; omega)]; exact h.2.2.1 j hj, h.2.2.2⟩
section
variable {nf ni nt : Nat} {fr ik ic tk rn : Nat → Nat} {f_group f_distinct f_orderItem f_orderDown f_limit f_nodes f_waitingNodes f_waitingWords f_broken f_top f_combos f_nextCombos f_placed f_results : Int32} {a_cells a_kind a_left a_right a_needs a_waitNode a_waitWord a_part a_combo a_nextCombo a_stays a_result a_index a_sorted a_key a_table : Nat → Int32}
theorem xw_cr1 {post : SX → Prop} {J : Int32 → Int32 → Int32 → Int32 → Int32 → Int32 → Int32 → Int32 → Int32 → Int32 → Int32 → Int32 → Int32 → Int32 → Int32 → Int32 → Int32 → Int32 → Int32 → (Nat → Int32) → (Nat → Int32) → (Nat → Int32) → (Nat → Int32) → (Nat → Int32) → (Nat → Int32) → (Nat → Int32) → (Nat → Int32) → (Nat → Int32) → (Nat → Int32) → (Nat → Int32) → (Nat → Int32) → (Nat → Int32) → (Nat → Int32) → (Nat → Int32) → (Nat → Int32) → (Nat → Int32) → (Nat → Int32) → (Nat → Int32) → (Nat → Int32) → (Nat → Int32) → (Nat → Int32) → (Nat → Int32) → (Nat → Int32) → (Nat → Int32) → Prop} {N np p : Nat} {G : Nat → tq_Nd} {pt : Nat → Nat} {aC0 ac0 : Nat → Int32} (d : tq_ds nf fr) (fl : ∀ i, fr i < 3) (rl : ∀ i, rn i ≤ 10) (hI : tq_NI nf fr N G a_kind a_left a_right a_needs) (hN : N ≤ 24) (hnp : np ≤ 24) (hpt : ∀ j, j < np → a_part j = nI (pt j) ∧ pt j < N) (hp3 : p < 3)
    (hJ : ∀ (a_truth a_current a_canCount a_can : Nat → Int32) (c : Nat) (cn : Nat → Nat), tq_CN (rn (fr p)) (tq_own nf fr a_cells G np pt p) p c cn a_canCount a_can → (∀ q, q ≠ p → a_canCount q = aC0 q) → (∀ k, k < 10 * p → a_can k = ac0 k) → J (nI (p + 1)) (nI nf) (nI ni) (nI nt) f_group f_distinct f_orderItem f_orderDown f_limit f_nodes f_waitingNodes f_waitingWords f_broken f_top (nI np) f_combos f_nextCombos f_placed f_results (tq_n rn) a_cells (tq_n fr) (tq_n ik) (tq_n ic) (tq_n tk) a_kind a_left a_right a_needs a_truth a_waitNode a_waitWord a_part a_canCount a_can a_combo a_nextCombo a_current a_stays a_result a_index a_sorted a_key a_table) :
    ∀ (n r c : Nat) (cn : Nat → Nat) (a_truth a_current a_canCount a_can : Nat → Int32), rn (fr p) < n + r → r ≤ rn (fr p) → c ≤ r → a_canCount p = nI c → (∀ j, j < c → a_can (10 * p + j) = nI (cn j) ∧ cn j < r) → (∀ i j, i < j → j < c → cn i ≠ cn j) → (∀ x, x < r → tq_own nf fr a_cells G np pt p x → ∃ j, j < c ∧ cn j = x) → (∀ q, q ≠ p → a_canCount q = aC0 q) → (∀ k, k < 10 * p → a_can k = ac0 k) →
    wX_chooseRows_19 post J (nI p) n (nI r) (nI nf) (nI ni) (nI nt) f_group f_distinct f_orderItem f_orderDown f_limit f_nodes f_waitingNodes f_waitingWords f_broken f_top (nI np) f_combos f_nextCombos f_placed f_results (tq_n rn) a_cells (tq_n fr) (tq_n ik) (tq_n ic) (tq_n tk) a_kind a_left a_right a_needs a_truth a_waitNode a_waitWord a_part a_canCount a_can a_combo a_nextCombo a_current a_stays a_result a_index a_sorted a_key a_table := by
  intro n
  induction n with
  | zero => intro r c cn a_truth a_current a_canCount a_can q1 q2; omega
  | succ n ih =>
    intro r c cn a_truth a_current a_canCount a_can hf hr hc hC hcn hds hown hfC hfc
    have vp : vp_in (nI p) 3 := vp_in_nI hp3 (by decide)
    have rb := rl (fr p)
    refine ⟨vp, ?_⟩
    rw [nI_clamp (show p < 2 ^ 31 by omega)]
    have frp := fl p
    refine ⟨vp_in_nI (n := fr p) frp (by decide), ?_⟩
    rw [show (tq_n fr p).toNatClampNeg = fr p from nI_clamp (by omega)]
    rcases Nat.lt_or_ge r (rn (fr p)) with z | z
    rotate_left
    · have : r = rn (fr p) := by omega
      subst this
      exact br_t (nI_le z (by omega)) (nm_r (nI_1 p) (hJ a_truth a_current a_canCount a_can c cn ⟨hC, by omega, hcn, hds, hown⟩ hfC hfc))
    refine br_f (nI_ge z (by omega)) ⟨vp, nm_e ?_⟩
    rw [tq_one hp3]
    have cu : tq_cu (2 ^ p) (upd a_current p (nI r)) (fun _ => r) := by
      intro q hq hb
      rw [tq_tp] at hb
      have e : p = q := of_decide_eq_true hb
      subst e
      rw [pk_us]
      exact ⟨rfl, show r < 10 by omega⟩
    refine xw_fits (cur := fun _ => r) d fl hI hN hnp hpt (tq_one8 hp3) (tq_one8 hp3) cu (fun y a_truth => ?_) (fun y a_truth => ?_)
    · have ix : 10 * nI p + a_canCount p = nI (10 * p + c) := by
        rw [hC]
        show nI 10 * nI p + nI c = _
        rw [pk_mul, nI_add]
      refine br_f (by decide) ⟨vp, ?_⟩
      rw [ix, nI_clamp (show 10 * p + c < 2 ^ 31 by omega), hC, nI_1, nI_1]
      refine ⟨vp_in_nI (by omega) (by decide), nm_e ⟨vp, vp, nm_e (nm_e ?_)⟩⟩
      refine ih (r + 1) (c + 1) (tq_u cn c r) a_truth _ _ _ (by omega) (by omega) (by omega) pk_us (fun j hj => ?_) (fun i j hij hj => ?_) (fun x hx ho => ?_) (fun q hq => ?_) (fun k hk => ?_)
      · by_cases e : j = c
        · rw [e, pk_us, tq_us]; exact ⟨rfl, by omega⟩
        · rw [pk_un (by omega), tq_un e]
          have := hcn j (by omega)
          exact ⟨this.1, by omega⟩
      · by_cases e : j = c
        · rw [e, tq_us, tq_un (by omega)]
          have := (hcn i (by omega)).2
          omega
        · rw [tq_un e, tq_un (by omega)]
          exact hds i j hij (by omega)
      · by_cases e : x = r
        · exact ⟨c, by omega, by rw [tq_us, e]⟩
        · obtain ⟨j, j1, j2⟩ := hown x (by omega) ho
          exact ⟨j, by omega, by rw [tq_un (by omega)]; exact j2⟩
      · rw [pk_un hq]; exact hfC q hq
      · rw [pk_un (by omega)]; exact hfc k hk
    · refine br_t rfl (nm_r (nI_1 r) ?_)
      refine ih (r + 1) c cn a_truth _ _ _ (by omega) (by omega) (by omega) hC (fun j hj => ⟨(hcn j hj).1, by have := (hcn j hj).2; omega⟩) hds (fun x hx ho => ?_) hfC hfc
      by_cases e : x = r
      · rw [e] at ho; exact absurd ho y
      · exact hown x (by omega) ho
theorem xw_cr2 {post : SX → Prop} {N np : Nat} {G : Nat → tq_Nd} {pt : Nat → Nat} (d : tq_ds nf fr) (fl : ∀ i, fr i < 3) (rl : ∀ i, rn i ≤ 10) (hI : tq_NI nf fr N G a_kind a_left a_right a_needs) (hN : N ≤ 24) (hnp : np ≤ 24) (hpt : ∀ j, j < np → a_part j = nI (pt j) ∧ pt j < N)
    (hp : ∀ (a_truth a_current a_canCount a_can : Nat → Int32) (cc : Nat → Nat) (cn : Nat → Nat → Nat), (∀ p, p < nf → tq_CN (rn (fr p)) (tq_own nf fr a_cells G np pt p) p (cc p) (cn p) a_canCount a_can) → post ((nI nf), (nI ni), (nI nt), f_group, f_distinct, f_orderItem, f_orderDown, f_limit, f_nodes, f_waitingNodes, f_waitingWords, f_broken, f_top, (nI np), f_combos, f_nextCombos, f_placed, f_results, (tq_n rn), a_cells, (tq_n fr), (tq_n ik), (tq_n ic), (tq_n tk), a_kind, a_left, a_right, a_needs, a_truth, a_waitNode, a_waitWord, a_part, a_canCount, a_can, a_combo, a_nextCombo, a_current, a_stays, a_result, a_index, a_sorted, a_key, a_table)) :
    ∀ (n p : Nat) (cc : Nat → Nat) (cn : Nat → Nat → Nat) (a_truth a_current a_canCount a_can : Nat → Int32), nf < n + p → p ≤ nf → (∀ q, q < p → tq_CN (rn (fr q)) (tq_own nf fr a_cells G np pt q) q (cc q) (cn q) a_canCount a_can) → wX_chooseRows_2 post n (nI p) (nI nf) (nI ni) (nI nt) f_group f_distinct f_orderItem f_orderDown f_limit f_nodes f_waitingNodes f_waitingWords f_broken f_top (nI np) f_combos f_nextCombos f_placed f_results (tq_n rn) a_cells (tq_n fr) (tq_n ik) (tq_n ic) (tq_n tk) a_kind a_left a_right a_needs a_truth a_waitNode a_waitWord a_part a_canCount a_can a_combo a_nextCombo a_current a_stays a_result a_index a_sorted a_key a_table := by
  intro n
  induction n with
  | zero => intro p cc cn a_truth a_current a_canCount a_can q1 q2; omega
  | succ n ih =>
    intro p cc cn a_truth a_current a_canCount a_can hf hpn hq
    have n3 := d.1
    rcases Nat.lt_or_ge p nf with z | z
    rotate_left
    · have : p = nf := by omega
      subst this
      exact br_t (nI_le z (by omega)) (hp a_truth a_current a_canCount a_can cc cn hq)
    refine br_f (nI_ge z (by omega)) ⟨vp_in_nI (by omega) (by decide), ?_⟩
    rw [nI_clamp (show p < 2 ^ 31 by omega)]
    refine nm_e ⟨rn (fr p) + 1, ?_⟩
    refine xw_cr1 (aC0 := upd a_canCount p 0) (ac0 := a_can) d fl rl hI hN hnp hpt (by omega) (fun a_truth a_current aC ac c cnp h1 h2 h3 => ?_) (rn (fr p) + 1) 0 0 (fun _ => 0) a_truth a_current _ a_can (by omega) (by omega) (by omega) pk_us (fun j hj => absurd hj (by omega)) (fun i j hij hj => absurd hj (by omega)) (fun x hx => absurd hx (by omega)) (fun q hq => rfl) (fun k hk => rfl)
    refine ih (p + 1) (tq_u cc p c) (tq_u cn p cnp) a_truth a_current aC ac (by omega) (by omega) (fun q hq2 => ?_)
    by_cases e : q = p
    · rw [e, tq_us, tq_us]; exact h1
    · rw [tq_un e, tq_un e]
      refine tq_CN_cg (hq q (by omega)) ?_ (fun j hj => h3 _ (by omega))
      rw [h2 q e, pk_un e]
theorem xw_chooseRows {post : SX → Prop} {N np : Nat} {G : Nat → tq_Nd} {pt : Nat → Nat} {a_truth a_current a_canCount a_can : Nat → Int32} (d : tq_ds nf fr) (fl : ∀ i, fr i < 3) (rl : ∀ i, rn i ≤ 10) (hI : tq_NI nf fr N G a_kind a_left a_right a_needs) (hN : N ≤ 24) (hnp : np ≤ 24) (hpt : ∀ j, j < np → a_part j = nI (pt j) ∧ pt j < N)
    (hp : ∀ (a_truth a_current a_canCount a_can : Nat → Int32) (cc : Nat → Nat) (cn : Nat → Nat → Nat), (∀ p, p < nf → tq_CN (rn (fr p)) (tq_own nf fr a_cells G np pt p) p (cc p) (cn p) a_canCount a_can) → post ((nI nf), (nI ni), (nI nt), f_group, f_distinct, f_orderItem, f_orderDown, f_limit, f_nodes, f_waitingNodes, f_waitingWords, f_broken, f_top, (nI np), f_combos, f_nextCombos, f_placed, f_results, (tq_n rn), a_cells, (tq_n fr), (tq_n ik), (tq_n ic), (tq_n tk), a_kind, a_left, a_right, a_needs, a_truth, a_waitNode, a_waitWord, a_part, a_canCount, a_can, a_combo, a_nextCombo, a_current, a_stays, a_result, a_index, a_sorted, a_key, a_table)) : wpX_chooseRows post ((nI nf), (nI ni), (nI nt), f_group, f_distinct, f_orderItem, f_orderDown, f_limit, f_nodes, f_waitingNodes, f_waitingWords, f_broken, f_top, (nI np), f_combos, f_nextCombos, f_placed, f_results, (tq_n rn), a_cells, (tq_n fr), (tq_n ik), (tq_n ic), (tq_n tk), a_kind, a_left, a_right, a_needs, a_truth, a_waitNode, a_waitWord, a_part, a_canCount, a_can, a_combo, a_nextCombo, a_current, a_stays, a_result, a_index, a_sorted, a_key, a_table) :=
  ⟨nf + 1, xw_cr2 d fl rl hI hN hnp hpt hp (nf + 1) 0 (fun _ => 0) (fun _ _ => 0) a_truth a_current a_canCount a_can (by omega) (by omega) (fun q hq => absurd hq (by omega))⟩
end
end
section
/-! a segment of rows, sorted by a column -/
def tq_seg (p c : Nat) (s : Nat → Nat) (ac : Nat → Int32) : Prop := ∀ j, j < c → ac (10 * p + j) = nI (s j) ∧ s j < 10
def tq_pm (c : Nat) (s0 s : Nat → Nat) : Prop := (∀ i j, i < c → j < c → s i = s j → i = j) ∧ (∀ j, j < c → ∃ i, i < c ∧ s0 i = s j) ∧ (∀ j, j < c → ∃ i, i < c ∧ s i = s0 j)
def tq_sw (s : Nat → Nat) (m : Nat) : Nat → Nat := tq_u (tq_u s m (s (m + 1))) (m + 1) (s m)
def tq_sg (m x : Nat) : Nat := if x = m + 1 then m else if x = m then m + 1 else x
theorem tq_sw_eq (s : Nat → Nat) (m x : Nat) : tq_sw s m x = s (tq_sg m x) := by
  unfold tq_sw tq_sg tq_u
  by_cases a : x = m + 1
  · rw [if_pos a, if_pos a]
  · rw [if_neg a, if_neg a]
    by_cases b : x = m
    · rw [if_pos b, if_pos b]
    · rw [if_neg b, if_neg b]
theorem tq_sg_sg (m x : Nat) : tq_sg m (tq_sg m x) = x := by
  unfold tq_sg
  by_cases a : x = m + 1
  · rw [if_pos a, if_neg (by omega), if_pos rfl, a]
  · rw [if_neg a]
    by_cases b : x = m
    · rw [if_pos b, if_pos rfl, b]
    · rw [if_neg b, if_neg a, if_neg b]
theorem tq_sg_lt {m x c : Nat} (h : m + 1 < c) (hx : x < c) : tq_sg m x < c := by
  unfold tq_sg
  split
  · omega
  · split <;> omega
theorem tq_pm_sw {c m : Nat} {s0 s : Nat → Nat} (h : m + 1 < c) (q : tq_pm c s0 s) : tq_pm c s0 (tq_sw s m) := by
  refine ⟨fun i j hi hj e => ?_, fun j hj => ?_, fun j hj => ?_⟩
  · rw [tq_sw_eq, tq_sw_eq] at e
    have := q.1 _ _ (tq_sg_lt h hi) (tq_sg_lt h hj) e
    rw [← tq_sg_sg m i, this, tq_sg_sg]
  · rw [tq_sw_eq]
    exact q.2.1 _ (tq_sg_lt h hj)
  · obtain ⟨i, hi, e⟩ := q.2.2 j hj
    exact ⟨tq_sg m i, tq_sg_lt h hi, by rw [tq_sw_eq, tq_sg_sg]; exact e⟩
theorem tq_pm_rf {c : Nat} {s : Nat → Nat} (h : ∀ i j, i < j → j < c → s i ≠ s j) : tq_pm c s s := by
  refine ⟨fun i j hi hj e => ?_, fun j hj => ⟨j, hj, rfl⟩, fun j hj => ⟨j, hj, rfl⟩⟩
  rcases Nat.lt_trichotomy i j with z | z | z
  · exact absurd e (h i j z hj)
  · exact z
  · exact absurd e.symm (h j i z hi)
/-- the insertion's step -/
theorem tq_ins_t {s : Nat → Nat} {ky : Nat → Int32} {i m : Nat} (hm : m + 1 ≤ i) (h : ∀ a b, a < b → b ≤ i → b ≠ m + 1 → ky (s a) ≤ ky (s b)) (g : ky (s m) ≤ ky (s (m + 1))) : ∀ a b, a < b → b ≤ i → b ≠ m → ky (s a) ≤ ky (s b) := by
  intro a b hab hb hbm
  by_cases e : b = m + 1
  · subst e
    rcases Nat.lt_or_ge a m with z | z
    · exact Int32.le_trans (h a m z (by omega) (by omega)) g
    · have : a = m := by omega
      subst this; exact g
  · exact h a b hab hb e
theorem tq_ins_f {s : Nat → Nat} {ky : Nat → Int32} {i m : Nat} (hm : m + 1 ≤ i) (h : ∀ a b, a < b → b ≤ i → b ≠ m + 1 → ky (s a) ≤ ky (s b)) (g : ¬ ky (s m) ≤ ky (s (m + 1))) : ∀ a b, a < b → b ≤ i → b ≠ m → ky (tq_sw s m a) ≤ ky (tq_sw s m b) := by
  intro a b hab hb hbm
  have g' : ky (s (m + 1)) ≤ ky (s m) := Int32.le_of_lt (Int32.not_le.mp g)
  have sm : tq_sw s m m = s (m + 1) := by rw [tq_sw_eq]; unfold tq_sg; rw [if_neg (by omega), if_pos rfl]
  have sm1 : tq_sw s m (m + 1) = s m := by rw [tq_sw_eq]; unfold tq_sg; rw [if_pos rfl]
  have so : ∀ x, x ≠ m → x ≠ m + 1 → tq_sw s m x = s x := fun x h1 h2 => by rw [tq_sw_eq]; unfold tq_sg; rw [if_neg h2, if_neg h1]
  by_cases e : b = m + 1
  · subst e
    rw [sm1]
    by_cases e2 : a = m
    · rw [e2, sm]; exact g'
    · rw [so a e2 (by omega)]
      exact h a m (by omega) (by omega) (by omega)
  · rw [so b hbm e]
    by_cases e2 : a = m
    · rw [e2, sm]
      exact h (m + 1) b (by omega) hb e
    · by_cases e3 : a = m + 1
      · rw [e3, sm1]
        exact h m b (by omega) hb e
      · rw [so a e2 e3]
        exact h a b hab hb e
theorem tq_seg_sw {p c m : Nat} {s : Nat → Nat} {ac : Nat → Int32} (h : tq_seg p c s ac) (hm : m + 1 < c) : tq_seg p c (tq_sw s m) (upd (upd ac (10 * p + m) (nI (s (m + 1)))) (10 * p + (m + 1)) (nI (s m))) := by
  intro j hj
  unfold tq_sw
  by_cases a : j = m + 1
  · rw [a, pk_us, tq_us]
    exact ⟨rfl, (h m (by omega)).2⟩
  · rw [pk_un (by omega), tq_un a]
    by_cases b : j = m
    · rw [b, pk_us, tq_us]
      exact ⟨rfl, (h (m + 1) hm).2⟩
    · rw [pk_un (by omega), tq_un b]
      exact h j hj
def tq_ky (cells : Nat → Int32) (k : Nat) (r : Nat) : Int32 := cells (30 * (k / 3) + 3 * r + k % 3)
section
variable {nf ni nt : Nat} {fr ik ic tk rn : Nat → Nat} {f_group f_distinct f_orderItem f_orderDown f_limit f_nodes f_waitingNodes f_waitingWords f_broken f_top f_parts f_combos f_nextCombos f_placed f_results : Int32} {a_cells a_kind a_left a_right a_needs a_truth a_waitNode a_waitWord a_part a_canCount a_combo a_nextCombo a_current a_stays a_result a_index a_sorted a_key a_table : Nat → Int32}
theorem xw_sr1 {post : SX → Prop} {J : Int32 → (Nat → Int32) → (Nat → Int32) → (Nat → Int32) → (Nat → Int32) → (Nat → Int32) → (Nat → Int32) → (Nat → Int32) → (Nat → Int32) → (Nat → Int32) → (Nat → Int32) → (Nat → Int32) → (Nat → Int32) → (Nat → Int32) → (Nat → Int32) → (Nat → Int32) → (Nat → Int32) → (Nat → Int32) → (Nat → Int32) → (Nat → Int32) → (Nat → Int32) → (Nat → Int32) → (Nat → Int32) → (Nat → Int32) → (Nat → Int32) → (Nat → Int32) → Prop} {p c k i : Nat} {s0 : Nat → Nat} {ac0 : Nat → Int32} (hp3 : p < 3) (hc : c ≤ 10) (hk : k < 9) (hi : i < c)
    (hJ : ∀ (s : Nat → Nat) (a_can : Nat → Int32), tq_seg p c s a_can → tq_pm c s0 s → (∀ a b, a < b → b ≤ i → tq_ky a_cells k (s a) ≤ tq_ky a_cells k (s b)) → (∀ x, ¬ (10 * p ≤ x ∧ x < 10 * p + c) → a_can x = ac0 x) → J (nI (i + 1)) (tq_n rn) a_cells (tq_n fr) (tq_n ik) (tq_n ic) (tq_n tk) a_kind a_left a_right a_needs a_truth a_waitNode a_waitWord a_part a_canCount a_can a_combo a_nextCombo a_current a_stays a_result a_index a_sorted a_key a_table) :
    ∀ (n j : Nat) (s : Nat → Nat) (a_can : Nat → Int32), j < n → j ≤ i → tq_seg p c s a_can → tq_pm c s0 s → (∀ a b, a < b → b ≤ i → b ≠ j → tq_ky a_cells k (s a) ≤ tq_ky a_cells k (s b)) → (∀ x, ¬ (10 * p ≤ x ∧ x < 10 * p + c) → a_can x = ac0 x) →
    wX_sortRows_15 post J (nI p) (nI k) (nI i) (nI nf) (nI ni) (nI nt) f_group f_distinct f_orderItem f_orderDown f_limit f_nodes f_waitingNodes f_waitingWords f_broken f_top f_parts f_combos f_nextCombos f_placed f_results n (nI j) (tq_n rn) a_cells (tq_n fr) (tq_n ik) (tq_n ic) (tq_n tk) a_kind a_left a_right a_needs a_truth a_waitNode a_waitWord a_part a_canCount a_can a_combo a_nextCombo a_current a_stays a_result a_index a_sorted a_key a_table := by
  intro n
  induction n with
  | zero => intro j s a_can h; omega
  | succ n ih =>
    intro j s a_can hn hj hs hm ho hf
    cases j with
    | zero =>
      exact br_t (Int32.le_refl _) (nm_r (nI_1 i) (hJ s a_can hs hm (fun a b hab hb => ho a b hab hb (by omega)) hf))
    | succ m =>
      have e1 : (10 * nI p + nI (m + 1)) - 1 = nI (10 * p + m) := by
        show (nI 10 * nI p + nI (m + 1)) - 1 = _
        rw [pk_mul, nI_add]
        exact nI_pred _
      have e2 : 10 * nI p + nI (m + 1) = nI (10 * p + (m + 1)) := by
        show nI 10 * nI p + nI (m + 1) = _
        rw [pk_mul, nI_add]
      obtain ⟨a1, a2⟩ := hs m (by omega)
      obtain ⟨b1, b2⟩ := hs (m + 1) (by omega)
      refine br_f (nI_nle (by omega) (by omega)) ?_
      rw [e1, e2, nI_clamp (show 10 * p + m < 2 ^ 31 by omega), nI_clamp (show 10 * p + (m + 1) < 2 ^ 31 by omega), a1, b1, pk_m1]
      have va : vp_in (nI (10 * p + m)) 30 := vp_in_nI (by omega) (by decide)
      have vb : vp_in (nI (10 * p + (m + 1))) 30 := vp_in_nI (by omega) (by decide)
      refine ⟨va, nm_e ⟨vb, nm_e (xw_at hk a2 ⟨vp_in_nI (by omega) (by decide), xw_at hk b2 ⟨vp_in_nI (by omega) (by decide), ?_⟩⟩)⟩⟩
      rw [nI_clamp (show 30 * (k / 3) + 3 * s m + k % 3 < 2 ^ 31 by omega), nI_clamp (show 30 * (k / 3) + 3 * s (m + 1) + k % 3 < 2 ^ 31 by omega)]
      refine br_c (fun g => ?_) (fun g => ⟨va, nm_e ⟨vb, nm_e (nm_e ?_)⟩⟩)
      · exact nm_e (ih m s a_can (by omega) (by omega) hs hm (tq_ins_t (ky := tq_ky a_cells k) hj ho g) hf)
      · refine ih m (tq_sw s m) _ (by omega) (by omega) (tq_seg_sw hs (by omega)) (tq_pm_sw (by omega) hm) (tq_ins_f (ky := tq_ky a_cells k) hj ho g) (fun x hx => ?_)
        rw [pk_un (by omega), pk_un (by omega)]
        exact hf x hx
theorem xw_sr2 {post : SX → Prop} {p c k : Nat} {s0 : Nat → Nat} {ac0 : Nat → Int32} (hp3 : p < 3) (hc : c ≤ 10) (hC : a_canCount p = nI c) (hk : k < 9)
    (hp : ∀ (s : Nat → Nat) (a_can : Nat → Int32), tq_seg p c s a_can → tq_pm c s0 s → (∀ a b, a < b → b < c → tq_ky a_cells k (s a) ≤ tq_ky a_cells k (s b)) → (∀ x, ¬ (10 * p ≤ x ∧ x < 10 * p + c) → a_can x = ac0 x) → post ((nI nf), (nI ni), (nI nt), f_group, f_distinct, f_orderItem, f_orderDown, f_limit, f_nodes, f_waitingNodes, f_waitingWords, f_broken, f_top, f_parts, f_combos, f_nextCombos, f_placed, f_results, (tq_n rn), a_cells, (tq_n fr), (tq_n ik), (tq_n ic), (tq_n tk), a_kind, a_left, a_right, a_needs, a_truth, a_waitNode, a_waitWord, a_part, a_canCount, a_can, a_combo, a_nextCombo, a_current, a_stays, a_result, a_index, a_sorted, a_key, a_table)) :
    ∀ (n i : Nat) (s : Nat → Nat) (a_can : Nat → Int32), 11 < n + i → i ≤ 11 → tq_seg p c s a_can → tq_pm c s0 s → (∀ a b, a < b → b < i → tq_ky a_cells k (s a) ≤ tq_ky a_cells k (s b)) → (∀ x, ¬ (10 * p ≤ x ∧ x < 10 * p + c) → a_can x = ac0 x) →
    wX_sortRows_2 post (nI p) (nI k) (nI nf) (nI ni) (nI nt) f_group f_distinct f_orderItem f_orderDown f_limit f_nodes f_waitingNodes f_waitingWords f_broken f_top f_parts f_combos f_nextCombos f_placed f_results n (nI i) (tq_n rn) a_cells (tq_n fr) (tq_n ik) (tq_n ic) (tq_n tk) a_kind a_left a_right a_needs a_truth a_waitNode a_waitWord a_part a_canCount a_can a_combo a_nextCombo a_current a_stays a_result a_index a_sorted a_key a_table := by
  intro n
  induction n with
  | zero => intro i s a_can h; omega
  | succ n ih =>
    intro i s a_can hn hi hs hm ho hf
    refine ⟨vp_in_nI hp3 (by decide), ?_⟩
    rw [nI_clamp (show p < 2 ^ 31 by omega), hC]
    refine pk_le c i (fun z => hp s a_can hs hm (fun a b hab hb => ho a b hab (by omega)) hf) (fun z => ⟨i + 1, ?_⟩)
    refine xw_sr1 hp3 hc hk z (fun s a_can h1 h2 h3 h4 => ?_) (i + 1) i s a_can (by omega) (by omega) hs hm (fun a b hab hb hne => ho a b hab (by omega)) hf
    exact ih (i + 1) s a_can (by omega) (by omega) h1 h2 (fun a b hab hb => h3 a b hab (by omega)) h4
theorem xw_sortRows {post : SX → Prop} {p c k : Nat} {s0 : Nat → Nat} {a_can : Nat → Int32} (hp3 : p < 3) (hc : c ≤ 10) (hC : a_canCount p = nI c) (hk : k < 9) (hs : tq_seg p c s0 a_can) (hd : ∀ i j, i < j → j < c → s0 i ≠ s0 j)
    (hp : ∀ (s : Nat → Nat) (ac' : Nat → Int32), tq_seg p c s ac' → tq_pm c s0 s → (∀ a b, a < b → b < c → tq_ky a_cells k (s a) ≤ tq_ky a_cells k (s b)) → (∀ x, ¬ (10 * p ≤ x ∧ x < 10 * p + c) → ac' x = a_can x) → post ((nI nf), (nI ni), (nI nt), f_group, f_distinct, f_orderItem, f_orderDown, f_limit, f_nodes, f_waitingNodes, f_waitingWords, f_broken, f_top, f_parts, f_combos, f_nextCombos, f_placed, f_results, (tq_n rn), a_cells, (tq_n fr), (tq_n ik), (tq_n ic), (tq_n tk), a_kind, a_left, a_right, a_needs, a_truth, a_waitNode, a_waitWord, a_part, a_canCount, ac', a_combo, a_nextCombo, a_current, a_stays, a_result, a_index, a_sorted, a_key, a_table)) : wpX_sortRows post ((nI nf), (nI ni), (nI nt), f_group, f_distinct, f_orderItem, f_orderDown, f_limit, f_nodes, f_waitingNodes, f_waitingWords, f_broken, f_top, f_parts, f_combos, f_nextCombos, f_placed, f_results, (tq_n rn), a_cells, (tq_n fr), (tq_n ik), (tq_n ic), (tq_n tk), a_kind, a_left, a_right, a_needs, a_truth, a_waitNode, a_waitWord, a_part, a_canCount, a_can, a_combo, a_nextCombo, a_current, a_stays, a_result, a_index, a_sorted, a_key, a_table) (nI p) (nI k) :=
  ⟨11, xw_sr2 hp3 hc hC hk hp 11 1 s0 a_can (by omega) (by omega) hs (tq_pm_rf hd) (fun a b hab hb => by omega) (fun _ _ => rfl)⟩
end
section
variable {nf ni nt : Nat} {fr ik ic tk rn : Nat → Nat} {f_group f_distinct f_orderItem f_orderDown f_limit f_nodes f_waitingNodes f_waitingWords f_broken f_top f_parts f_combos f_nextCombos f_placed f_results : Int32} {a_cells a_kind a_left a_right a_needs a_truth a_waitNode a_waitWord a_part a_canCount a_can a_combo a_nextCombo a_current a_stays a_result a_index a_sorted a_key a_table : Nat → Int32}
theorem xw_ff1 {post : Int32 → Prop} {p c k : Nat} {v : Int32} {s : Nat → Nat} (hp3 : p < 3) (hc : c ≤ 10) (hk : k < 9) (hs : tq_seg p c s a_can) (ho : ∀ a b, a < b → b < c → tq_ky a_cells k (s a) ≤ tq_ky a_cells k (s b))
    (hp : ∀ x, x ≤ c → (∀ j, j < x → ¬ v ≤ tq_ky a_cells k (s j)) → (∀ j, x ≤ j → j < c → v ≤ tq_ky a_cells k (s j)) → post (nI x)) :
    ∀ (n it lo hi : Nat), 5 < n + it → it ≤ 4 → lo ≤ hi → hi ≤ c → (hi - lo) * 2 ^ it < 16 → (∀ j, j < lo → ¬ v ≤ tq_ky a_cells k (s j)) → (∀ j, hi ≤ j → j < c → v ≤ tq_ky a_cells k (s j)) →
    wX_firstFrom_14 post (nI p) (nI k) v (nI nf) (nI ni) (nI nt) f_group f_distinct f_orderItem f_orderDown f_limit f_nodes f_waitingNodes f_waitingWords f_broken f_top f_parts f_combos f_nextCombos f_placed f_results (tq_n rn) a_cells (tq_n fr) (tq_n ik) (tq_n ic) (tq_n tk) a_kind a_left a_right a_needs a_truth a_waitNode a_waitWord a_part a_canCount a_can a_combo a_nextCombo a_current a_stays a_result a_index a_sorted a_key a_table n (nI lo) (nI hi) (nI it) := by
  intro n
  induction n with
  | zero => intro it lo hi h; omega
  | succ n ih =>
    intro it lo hi hn hit hlh hhc hw hl hh
    refine br_f (nI_ge (b := 5) (by omega) (by decide)) (pk_le hi lo (fun z => ?_) (fun z => ?_))
    · have : lo = hi := by omega
      subst this
      exact hp lo hhc hl hh
    · have it3 : it ≤ 3 := by
        rcases Nat.lt_or_ge it 4 with y | y
        · omega
        · have : it = 4 := by omega
          subst this
          omega
      have em : (nI lo + nI hi) >>> ((1 : Int32) &&& 31) = nI ((lo + hi) / 2) := by
        rw [nI_add]
        exact pk_shrN (by omega) _ 1 (by decide)
      have ix : 10 * nI p + nI ((lo + hi) / 2) = nI (10 * p + (lo + hi) / 2) := by
        show nI 10 * nI p + _ = _
        rw [pk_mul, nI_add]
      obtain ⟨a1, a2⟩ := hs ((lo + hi) / 2) (by omega)
      refine nm_r em ?_
      rw [ix, nI_clamp (show 10 * p + (lo + hi) / 2 < 2 ^ 31 by omega), a1, nI_1, nI_1]
      refine ⟨vp_in_nI (by omega) (by decide), xw_at hk a2 ⟨vp_in_nI (by omega) (by decide), ?_⟩⟩
      rw [nI_clamp (show 30 * (k / 3) + 3 * s ((lo + hi) / 2) + k % 3 < 2 ^ 31 by omega)]
      have pw : 2 ^ (it + 1) = 2 * 2 ^ it := by rw [Nat.pow_succ]; omega
      have wid : ∀ w, 2 * w ≤ hi - lo → w * 2 ^ (it + 1) < 16 := by
        intro w hw2
        rw [pw, show w * (2 * 2 ^ it) = (2 * w) * 2 ^ it by rw [← Nat.mul_assoc, Nat.mul_comm w 2]]
        exact Nat.lt_of_le_of_lt (Nat.mul_le_mul_right _ hw2) hw
      refine br_c (fun g => nm_e (ih (it + 1) lo ((lo + hi) / 2) (by omega) (by omega) (by omega) (by omega) (wid _ (by omega)) hl (fun j hj hj2 => ?_))) (fun g => nm_e (nm_e (ih (it + 1) ((lo + hi) / 2 + 1) hi (by omega) (by omega) (by omega) hhc (wid _ (by omega)) (fun j hj => ?_) hh)))
      · rcases Nat.lt_or_ge ((lo + hi) / 2) j with y | y
        · exact Int32.le_trans g (ho _ _ y hj2)
        · have : j = (lo + hi) / 2 := by omega
          rw [this]; exact g
      · rcases Nat.lt_or_ge j ((lo + hi) / 2) with y | y
        · exact fun q => g (Int32.le_trans q (ho _ _ y (by omega)))
        · have : j = (lo + hi) / 2 := by omega
          rw [this]; exact g
theorem xw_firstFrom {post : Int32 → Prop} {p c k : Nat} {v : Int32} {s : Nat → Nat} (hp3 : p < 3) (hc : c ≤ 10) (hC : a_canCount p = nI c) (hk : k < 9) (hs : tq_seg p c s a_can) (ho : ∀ a b, a < b → b < c → tq_ky a_cells k (s a) ≤ tq_ky a_cells k (s b))
    (hp : ∀ x, x ≤ c → (∀ j, j < x → ¬ v ≤ tq_ky a_cells k (s j)) → (∀ j, x ≤ j → j < c → v ≤ tq_ky a_cells k (s j)) → post (nI x)) : wpX_firstFrom post ((nI nf), (nI ni), (nI nt), f_group, f_distinct, f_orderItem, f_orderDown, f_limit, f_nodes, f_waitingNodes, f_waitingWords, f_broken, f_top, f_parts, f_combos, f_nextCombos, f_placed, f_results, (tq_n rn), a_cells, (tq_n fr), (tq_n ik), (tq_n ic), (tq_n tk), a_kind, a_left, a_right, a_needs, a_truth, a_waitNode, a_waitWord, a_part, a_canCount, a_can, a_combo, a_nextCombo, a_current, a_stays, a_result, a_index, a_sorted, a_key, a_table) (nI p) (nI k) v := by
  unfold wpX_firstFrom
  dsimp only
  refine ⟨vp_in_nI hp3 (by decide), ?_⟩
  rw [nI_clamp (show p < 2 ^ 31 by omega), hC]
  exact nm_e ⟨6, xw_ff1 hp3 hc hk hs ho hp 6 0 0 c (by omega) (by omega) (by omega) (by omega) (by omega) (fun j hj => absurd hj (by omega)) (fun j h1 h2 => absurd h2 (by omega))⟩
end
end
section
/-! combinations as codes -/
def tq_dg (c p : Nat) : Nat := if p = 0 then c / 100 else if p = 1 then c / 10 % 10 else c % 10
def tq_wt (p : Nat) : Nat := if p = 0 then 100 else if p = 1 then 10 else 1
theorem tq_dg10 {c : Nat} (h : c < 1000) (p : Nat) : tq_dg c p < 10 := by
  unfold tq_dg
  split
  · omega
  · split <;> omega
theorem tq_3c {p : Nat} (h : p < 3) : p = 0 ∨ p = 1 ∨ p = 2 := by omega
theorem tq_dg_add {c p r q : Nat} (hp : p < 3) (hq : q < 3) (hc : c < 1000) (h0 : tq_dg c p = 0) (hr : r < 10) : tq_dg (c + tq_wt p * r) q = (if q = p then r else tq_dg c q) ∧ c + tq_wt p * r < 1000 := by
  rcases tq_3c hp with rfl | rfl | rfl <;> rcases tq_3c hq with rfl | rfl | rfl <;> simp [tq_dg, tq_wt] at h0 ⊢ <;> omega
theorem tq_dg_sub {c p q : Nat} (hp : p < 3) (hq : q < 3) (hc : c < 1000) : tq_dg (c - tq_wt p * tq_dg c p) q = (if q = p then 0 else tq_dg c q) ∧ c - tq_wt p * tq_dg c p < 1000 ∧ tq_wt p * tq_dg c p ≤ c := by
  rcases tq_3c hp with rfl | rfl | rfl <;> rcases tq_3c hq with rfl | rfl | rfl <;> simp [tq_dg, tq_wt] <;> omega
theorem tq_dg_inj {c c' : Nat} (hc : c < 1000) (hc' : c' < 1000) (h : ∀ p, p < 3 → tq_dg c p = tq_dg c' p) : c = c' := by
  have h0 := h 0 (by omega)
  have h1 := h 1 (by omega)
  have h2 := h 2 (by omega)
  simp [tq_dg] at h0 h1 h2
  omega
/-! a node looks only at the tables that it needs -/
theorem tq_vv_dep {nf : Nat} {fr : Nat → Nat} {c : Nat → Int32} {x : Nat} {cur cur' : Nat → Nat} (hx : tq_ok nf fr x = true) (h : ∀ p, p < 3 → (tq_nd nf fr x).testBit p = true → cur p = cur' p) : tq_vv c (tq_rho nf fr cur) x = tq_vv c (tq_rho nf fr cur') x := by
  have hx' := of_decide_eq_true hx
  by_cases z : x < 9
  · rw [tq_vv_lo z, tq_vv_lo z]
    have pc : tq_pc nf fr (x / 3) < 3 := by rcases hx'.2 with q | q <;> omega
    have e1 : tq_nd nf fr x = 2 ^ tq_pc nf fr (x / 3) := if_pos ⟨z, pc⟩
    have := h _ pc (by rw [e1, tq_tp]; exact decide_eq_true rfl)
    unfold tq_rho
    rw [this]
  · rw [tq_vv_hi z, tq_vv_hi z]
theorem tq_dep {nf : Nat} {fr : Nat → Nat} {N : Nat} {G : Nat → tq_Nd} {c : Nat → Int32} (hS : ∀ i, i < N → tq_NS nf fr G i) {cur cur' : Nat → Nat} : ∀ n, n < N → (∀ p, p < 3 → (G n).2.2.2.1.testBit p = true → cur p = cur' p) → (G n).2.2.2.2.1 (tq_vv c (tq_rho nf fr cur)) = (G n).2.2.2.2.1 (tq_vv c (tq_rho nf fr cur')) := by
  intro n
  induction n using Nat.strongRecOn with
  | ind n ih =>
    intro hn h
    rcases hS n hn with s | s | s
    · obtain ⟨_, _, s2, s3, s4, s5, _⟩ := s
      rw [s5]
      unfold tq_cmp
      rw [tq_vv_dep s2 (fun p hp q => h p hp (by rw [s4, Nat.testBit_or, q]; rfl)), tq_vv_dep s3 (fun p hp q => h p hp (by rw [s4, Nat.testBit_or, q, Bool.or_true]))]
    · obtain ⟨_, s1, _, s3, s4, _⟩ := s
      rw [s4]
      unfold tq_not
      rw [ih _ s1 (by omega) (fun p hp q => h p hp (by rw [s3]; exact q))]
    · obtain ⟨_, s1, s2, s3, s4, _⟩ := s
      rw [s4]
      unfold tq_bin
      rw [ih _ s1 (by omega) (fun p hp q => h p hp (by rw [s3, Nat.testBit_or, q]; rfl)), ih _ s2 (by omega) (fun p hp q => h p hp (by rw [s3, Nat.testBit_or, q, Bool.or_true]))]
theorem tq_nd_nf {nf : Nat} {fr : Nat → Nat} {x p : Nat} (h : (tq_nd nf fr x).testBit p = true) : p < nf := by
  unfold tq_nd at h
  split at h
  · rename_i z
    rw [tq_tp] at h
    have e := of_decide_eq_true h
    have := (tq_pc_lt z.2).1
    omega
  · simp at h
theorem tq_nds {nf : Nat} {fr : Nat → Nat} {N : Nat} {G : Nat → tq_Nd} (hS : ∀ i, i < N → tq_NS nf fr G i) : ∀ n p, n < N → (G n).2.2.2.1.testBit p = true → p < nf := by
  intro n p
  induction n using Nat.strongRecOn with
  | ind n ih =>
    intro hn h
    rcases hS n hn with s | s | s
    · obtain ⟨_, _, _, _, s4, _⟩ := s
      rw [s4, Nat.testBit_or] at h
      cases c : (tq_nd nf fr (G n).2.1).testBit p
      · rw [c] at h
        exact tq_nd_nf (by simpa using h)
      · exact tq_nd_nf c
    · obtain ⟨_, s1, _, s3, _⟩ := s
      rw [s3] at h
      exact ih _ s1 (by omega) h
    · obtain ⟨_, s1, s2, s3, _⟩ := s
      rw [s3, Nat.testBit_or] at h
      cases c : (G (G n).2.1).2.2.2.1.testBit p
      · rw [c] at h
        exact ih _ s2 (by omega) (by simpa using h)
      · exact ih _ s1 (by omega) c
/-! sets that are listed -/
def tq_es (n : Nat) (e : Nat → Nat) (P : Nat → Prop) : Prop := (∀ i j, i < j → j < n → e i ≠ e j) ∧ (∀ i, i < n → P (e i)) ∧ (∀ x, P x → ∃ i, i < n ∧ e i = x)
theorem tq_es_iff {n : Nat} {e : Nat → Nat} {P Q : Nat → Prop} (q : ∀ x, P x ↔ Q x) (h : tq_es n e P) : tq_es n e Q :=
  ⟨h.1, fun i hi => (q _).mp (h.2.1 i hi), fun x hx => h.2.2 x ((q x).mpr hx)⟩
theorem tq_es_add {n x : Nat} {e : Nat → Nat} {P Q : Nat → Prop} (h : tq_es n e P) (hx : ¬ P x) (hq : ∀ y, Q y ↔ (P y ∨ y = x)) : tq_es (n + 1) (tq_u e n x) Q := by
  refine ⟨fun i j hij hj => ?_, fun i hi => ?_, fun y hy => ?_⟩
  · by_cases a : j = n
    · rw [a, tq_us, tq_un (by omega)]
      intro q
      have := h.2.1 i (by omega)
      rw [q] at this
      exact hx this
    · rw [tq_un a, tq_un (by omega)]
      exact h.1 i j hij (by omega)
  · by_cases a : i = n
    · rw [a, tq_us]; exact (hq _).mpr (Or.inr rfl)
    · rw [tq_un a]; exact (hq _).mpr (Or.inl (h.2.1 i (by omega)))
  · rcases (hq y).mp hy with z | z
    · obtain ⟨i, i1, i2⟩ := h.2.2 y z
      exact ⟨i, by omega, by rw [tq_un (by omega)]; exact i2⟩
    · exact ⟨n, by omega, by rw [tq_us, z]⟩
theorem tq_es_le {n m : Nat} {e : Nat → Nat} {P : Nat → Prop} (h : tq_es n e P) (hb : ∀ x, P x → x < m) : n ≤ m :=
  tq_pg m n e (fun j => j) h.1 (fun i hi => ⟨e i, hb _ (h.2.1 i hi), rfl⟩)
theorem tq_es_lt {n m x : Nat} {e : Nat → Nat} {P : Nat → Prop} (h : tq_es n e P) (hb : ∀ x, P x → x < m) (hx : x < m) (hp : ¬ P x) : n < m :=
  tq_es_le (tq_es_add (Q := fun y => P y ∨ y = x) h hp (fun _ => Iff.rfl)) (fun y hy => by rcases hy with z | z; exact hb y z; omega)
theorem tq_es_en {n m : Nat} {e e' : Nat → Nat} {P : Nat → Prop} (h : tq_es n e P) (h' : tq_EN (· < ·) P e' m) : n = m := by
  apply Nat.le_antisymm
  · exact tq_pg m n e e' h.1 (fun i hi => h'.2.2 _ (h.2.1 i hi))
  · exact tq_pg n m e' e (fun i j hij hj => Nat.ne_of_lt (h'.1 i j hij hj)) (fun i hi => h.2.2 _ (h'.2.1 i hi))
/-! the combinations of the tables in S that stay -/
def tq_gd (nf : Nat) (fr rn : Nat → Nat) (cells : Nat → Int32) (G : Nat → tq_Nd) (np : Nat) (pt : Nat → Nat) (S c : Nat) : Prop :=
  c < 1000 ∧ (∀ p, p < 3 → (S.testBit p = true → tq_dg c p < rn (fr p)) ∧ (S.testBit p = false → tq_dg c p = 0)) ∧ ∀ j, j < np → (∀ p, p < 3 → (G (pt j)).2.2.2.1.testBit p = true → S.testBit p = true) → (G (pt j)).2.2.2.2.1 (tq_vv cells (tq_rho nf fr (tq_dg c))) = true
/-- the test of a new row r at place p -/
def tq_T (nf : Nat) (fr : Nat → Nat) (cells : Nat → Int32) (G : Nat → tq_Nd) (np : Nat) (pt : Nat → Nat) (S c p r : Nat) : Prop := tq_all G np pt (S ||| 2 ^ p) (2 ^ p) (tq_vv cells (tq_rho nf fr (tq_u (tq_dg c) p r)))
theorem tq_orb (S p q : Nat) : (S ||| 2 ^ p).testBit q = (S.testBit q || decide (p = q)) := by rw [Nat.testBit_or, tq_tp]
theorem tq_gd_step {nf : Nat} {fr rn : Nat → Nat} {cells : Nat → Int32} {G : Nat → tq_Nd} {N np : Nat} {pt : Nat → Nat} {S p m c : Nat} {e cn : Nat → Nat} (rl : ∀ i, rn i ≤ 10) (hS : ∀ i, i < N → tq_NS nf fr G i) (hpt : ∀ j, j < np → pt j < N) (hp3 : p < 3) (hSp : S.testBit p = false)
    (he : tq_es m e (tq_gd nf fr rn cells G np pt S)) (hcn : ∀ j, j < c → cn j < rn (fr p)) (hown : ∀ r, r < rn (fr p) → tq_own nf fr cells G np pt p r → ∃ j, j < c ∧ cn j = r) (y : Nat) :
    (∃ i, i < m ∧ ∃ j, j < c ∧ y = e i + tq_wt p * cn j ∧ tq_T nf fr cells G np pt S (e i) p (cn j)) ↔ tq_gd nf fr rn cells G np pt (S ||| 2 ^ p) y := by
  have rp := rl (fr p)
  constructor
  · rintro ⟨i, hi, j, hj, rfl, hT⟩
    obtain ⟨g1, g2, g3⟩ := he.2.1 i hi
    have r1 := hcn j hj
    have z0 := (g2 p hp3).2 hSp
    have dA : ∀ q, q < 3 → tq_dg (e i + tq_wt p * cn j) q = tq_u (tq_dg (e i)) p (cn j) q := by
      intro q hq
      rw [(tq_dg_add hp3 hq g1 z0 (by omega)).1]
      rfl
    refine ⟨(tq_dg_add hp3 hp3 g1 z0 (by omega)).2, fun q hq => ?_, fun k hk hs => ?_⟩
    · rw [tq_orb, dA q hq]
      by_cases a : q = p
      · rw [a, tq_us, hSp]
        simp only [decide_true, Bool.or_true]
        exact ⟨fun _ => r1, fun z => absurd z (by decide)⟩
      · rw [tq_un a, show decide (p = q) = false from decide_eq_false (fun z => a z.symm), Bool.or_false]
        exact g2 q hq
    · have kN := hpt k hk
      rw [tq_dep (cur' := tq_u (tq_dg (e i)) p (cn j)) hS _ kN (fun q hq _ => dA q hq)]
      by_cases b : (G (pt k)).2.2.2.1.testBit p = true
      · exact hT k hk ⟨hs, Or.inr ⟨Nat.ne_of_gt (Nat.two_pow_pos p), p, hp3, b, by rw [tq_tp]; exact decide_eq_true rfl⟩⟩
      · rw [tq_dep (cur' := tq_dg (e i)) hS _ kN (fun q hq hb => tq_un (by intro z; rw [z] at hb; exact b hb))]
        refine g3 k hk (fun q hq hb => ?_)
        have := hs q hq hb
        rw [tq_orb, show decide (p = q) = false from decide_eq_false (fun z => by rw [← z] at hb; exact b hb), Bool.or_false] at this
        exact this
  · rintro ⟨g1, g2, g3⟩
    have hr : tq_dg y p < rn (fr p) := (g2 p hp3).1 (by rw [tq_orb]; simp)
    have sb := fun q (hq : q < 3) => tq_dg_sub (q := q) hp3 hq g1
    have dA : ∀ q, q < 3 → tq_u (tq_dg (y - tq_wt p * tq_dg y p)) p (tq_dg y p) q = tq_dg y q := by
      intro q hq
      by_cases a : q = p
      · rw [a, tq_us]
      · rw [tq_un a, (sb q hq).1, if_neg a]
    have gS : tq_gd nf fr rn cells G np pt S (y - tq_wt p * tq_dg y p) := by
      refine ⟨(sb p hp3).2.1, fun q hq => ?_, fun k hk hs => ?_⟩
      · rw [(sb q hq).1]
        by_cases a : q = p
        · rw [if_pos a, a, hSp]
          exact ⟨fun z => absurd z (by decide), fun _ => rfl⟩
        · rw [if_neg a]
          have := g2 q hq
          rw [tq_orb, show decide (p = q) = false from decide_eq_false (fun z => a z.symm), Bool.or_false] at this
          exact this
      · rw [tq_dep (cur' := tq_dg y) hS _ (hpt k hk) (fun q hq hb => ?_)]
        · refine g3 k hk (fun q hq hb => ?_)
          rw [tq_orb, hs q hq hb]
          rfl
        · rw [(sb q hq).1, if_neg]
          intro a
          have := hs q hq hb
          rw [a, hSp] at this
          exact absurd this (by decide)
    obtain ⟨i, hi, ei⟩ := he.2.2 _ gS
    obtain ⟨j, hj, ej⟩ := hown _ hr (by
      intro k hk hs
      rw [tq_dep (cur' := tq_dg y) hS _ (hpt k hk) (fun q hq hb => ?_)]
      · refine g3 k hk (fun q hq hb => ?_)
        have := hs.1 q hq hb
        rw [tq_orb, ← tq_tp p q, this, Bool.or_true]
      · have := hs.1 q hq hb
        rw [tq_tp] at this
        rw [of_decide_eq_true this])
    refine ⟨i, hi, j, hj, ?_, ?_⟩
    · rw [ei, ej]
      have := (sb p hp3).2.2
      omega
    · rw [ei, ej]
      intro k hk hs
      rw [tq_dep (cur' := tq_dg y) hS _ (hpt k hk) (fun q hq _ => dA q hq)]
      exact g3 k hk hs.1
/-! counting the placed tables -/
def tq_ct (S nf : Nat) : Nat := (if 0 < nf ∧ S.testBit 0 = true then 1 else 0) + (if 1 < nf ∧ S.testBit 1 = true then 1 else 0) + (if 2 < nf ∧ S.testBit 2 = true then 1 else 0)
theorem tq_ct_s : ∀ (nf : Fin 4) (S : Fin 8) (p : Fin 3), p.val < nf.val → S.val.testBit p = false → tq_ct (S.val ||| 2 ^ p.val) nf = tq_ct S nf + 1 := by decide +kernel
theorem tq_ct_l : ∀ (nf : Fin 4) (S : Fin 8), tq_ct S nf < nf.val → ∃ p, p < 3 ∧ p < nf.val ∧ S.val.testBit p = false := by decide +kernel
theorem tq_ct_f : ∀ (nf : Fin 4) (S : Fin 8), tq_ct S nf = nf.val → ∀ p, p < 3 → p < nf.val → S.val.testBit p = true := by decide +kernel
/-- what is chosen -/
def tq_ch (nf : Nat) (fr rn : Nat → Nat) (cells : Nat → Int32) (f : tq_V) (c : Nat) : Prop := c < 1000 ∧ (∀ p, p < 3 → (p < nf → tq_dg c p < rn (fr p)) ∧ (¬ p < nf → tq_dg c p = 0)) ∧ f (tq_vv cells (tq_rho nf fr (tq_dg c))) = true
theorem tq_gd_ch {nf : Nat} {fr rn : Nat → Nat} {cells : Nat → Int32} {G : Nat → tq_Nd} {N np : Nat} {pt : Nat → Nat} {S : Nat} {f : tq_V} {ap : Nat → Int32} (hS : ∀ i, i < N → tq_NS nf fr G i) (hP : tq_PT N G np pt ap f) (hb : ∀ p, p < 3 → (S.testBit p = true ↔ p < nf)) (c : Nat) : tq_gd nf fr rn cells G np pt S c ↔ tq_ch nf fr rn cells f c := by
  have sub : ∀ j, j < np → (∀ p, p < 3 → (G (pt j)).2.2.2.1.testBit p = true → S.testBit p = true) := fun j hj p hp hb2 => (hb p hp).mpr (tq_nds hS _ p (hP.2.1 j hj).2 hb2)
  have hz : ∀ p, p < 3 → (S.testBit p = false ↔ ¬ p < nf) := by
    intro p hp
    rw [← hb p hp]
    simp
  constructor
  · rintro ⟨g1, g2, g3⟩
    refine ⟨g1, fun p hp => ⟨fun z => (g2 p hp).1 ((hb p hp).mpr z), fun z => (g2 p hp).2 ((hz p hp).mpr z)⟩, (hP.2.2 _).mpr (fun j hj => g3 j hj (sub j hj))⟩
  · rintro ⟨g1, g2, g3⟩
    exact ⟨g1, fun p hp => ⟨fun z => (g2 p hp).1 ((hb p hp).mp z), fun z => (g2 p hp).2 ((hz p hp).mp z)⟩, fun j hj _ => (hP.2.2 _).mp g3 j hj⟩
end
section
section
variable {nf ni nt : Nat} {fr ik ic tk rn : Nat → Nat} {f_group f_distinct f_orderItem f_orderDown f_limit f_nodes f_waitingNodes f_waitingWords f_broken f_top f_parts f_combos f_nextCombos f_placed f_results : Int32} {a_cells a_kind a_left a_right a_needs a_truth a_waitNode a_waitWord a_part a_canCount a_can a_combo a_nextCombo a_current a_stays a_result a_index a_sorted a_key a_table : Nat → Int32}
theorem xw_loadCombo {post : SX → Prop} {c : Nat} (hc : c < 1000) (hp : ∀ ac' : Nat → Int32, (∀ p, p < 3 → ac' p = nI (tq_dg c p)) → post ((nI nf), (nI ni), (nI nt), f_group, f_distinct, f_orderItem, f_orderDown, f_limit, f_nodes, f_waitingNodes, f_waitingWords, f_broken, f_top, f_parts, f_combos, f_nextCombos, f_placed, f_results, (tq_n rn), a_cells, (tq_n fr), (tq_n ik), (tq_n ic), (tq_n tk), a_kind, a_left, a_right, a_needs, a_truth, a_waitNode, a_waitWord, a_part, a_canCount, a_can, a_combo, a_nextCombo, ac', a_stays, a_result, a_index, a_sorted, a_key, a_table)) : wpX_loadCombo post ((nI nf), (nI ni), (nI nt), f_group, f_distinct, f_orderItem, f_orderDown, f_limit, f_nodes, f_waitingNodes, f_waitingWords, f_broken, f_top, f_parts, f_combos, f_nextCombos, f_placed, f_results, (tq_n rn), a_cells, (tq_n fr), (tq_n ik), (tq_n ic), (tq_n tk), a_kind, a_left, a_right, a_needs, a_truth, a_waitNode, a_waitWord, a_part, a_canCount, a_can, a_combo, a_nextCombo, a_current, a_stays, a_result, a_index, a_sorted, a_key, a_table) (nI c) := by
  unfold wpX_loadCombo
  dsimp only
  have e1 : nI c / 100 = nI (c / 100) := pk_div (d := 100) (by omega) (by omega) (by decide)
  have e2 : nI c / 10 = nI (c / 10) := pk_div (d := 10) (by omega) (by omega) (by decide)
  have e3 : nI (c / 10) - nI (c / 10) / 10 * 10 = nI (c / 10 % 10) := pk_rem (d := 10) (by omega) (by omega) (by decide)
  have e4 : nI c - nI (c / 10) * 10 = nI (c % 10) := by rw [← e2]; exact pk_rem (d := 10) (by omega) (by omega) (by decide)
  rw [e1, e2, e3, e4]
  refine ⟨by decide, nm_e ⟨by decide, by decide, nm_e ⟨by decide, nm_e (hp _ (fun p h3 => ?_))⟩⟩⟩
  rcases tq_3c h3 with rfl | rfl | rfl
  · rw [pk_un (by omega), pk_un (by omega), pk_us]; rfl
  · rw [pk_un (by omega), pk_us]; rfl
  · rw [pk_us]; rfl
theorem xw_weight {post : Int32 → Prop} {u : SX} {p : Nat} (hp3 : p < 3) (hp : post (nI (tq_wt p))) : wpX_weight post u (nI p) := by
  obtain ⟨_, _, _, _, _, _, _, _, _, _, _, _, _, _, _, _, _, _, _, _, _, _, _, _, _, _, _, _, _, _, _, _, _, _, _, _, _, _, _, _, _, _, _⟩ := u
  unfold tq_wt at hp
  refine pk_eq p 0 (fun e => ?_) (fun e => pk_eq p 1 (fun e2 => ?_) (fun e2 => ?_))
  · rw [if_pos e] at hp; exact hp
  · rw [if_neg e, if_pos e2] at hp; exact hp
  · rw [if_neg e, if_neg e2] at hp; exact hp
end
theorem tq_wt1 (p : Nat) : 0 < tq_wt p := by
  unfold tq_wt
  split
  · omega
  · split <;> omega
section
variable {nf ni nt : Nat} {fr ik ic tk rn : Nat → Nat} {f_group f_distinct f_orderItem f_orderDown f_limit f_nodes f_waitingNodes f_waitingWords f_broken f_top f_combos f_placed f_results : Int32} {a_cells a_kind a_left a_right a_needs a_waitNode a_waitWord a_part a_canCount a_can a_combo a_stays a_result a_index a_sorted a_key a_table : Nat → Int32}
theorem xw_jr1 {post : SX → Prop} {N np c p S b en cc : Nat} {G : Nat → tq_Nd} {pt cn : Nat → Nat} {P0 : Nat → Prop} (d : tq_ds nf fr) (fl : ∀ i, fr i < 3) (hI : tq_NI nf fr N G a_kind a_left a_right a_needs) (hN : N ≤ 24) (hnp : np ≤ 24) (hpt : ∀ j, j < np → a_part j = nI (pt j) ∧ pt j < N) (hp3 : p < 3) (S8 : S < 8)
    (hseg : tq_seg p cc cn a_can) (hds : ∀ i j, i < j → j < cc → cn i ≠ cn j) (hcc : cc ≤ 10) (hen : en ≤ cc) (hc : c < 1000) (h0 : tq_dg c p = 0) (hP : ∀ y, P0 y → y < 1000) (hnot : ∀ j, j < cc → ¬ P0 (c + tq_wt p * cn j))
    (hp : ∀ (nc : Nat) (nx : Nat → Nat) (a_truth a_current a_nextCombo : Nat → Int32), (∀ j, j < nc → a_nextCombo j = nI (nx j)) → tq_es nc nx (fun y => P0 y ∨ ∃ j, b ≤ j ∧ j < en ∧ y = c + tq_wt p * cn j ∧ tq_T nf fr a_cells G np pt S c p (cn j)) → post ((nI nf), (nI ni), (nI nt), f_group, f_distinct, f_orderItem, f_orderDown, f_limit, f_nodes, f_waitingNodes, f_waitingWords, f_broken, f_top, (nI np), f_combos, (nI nc), f_placed, f_results, (tq_n rn), a_cells, (tq_n fr), (tq_n ik), (tq_n ic), (tq_n tk), a_kind, a_left, a_right, a_needs, a_truth, a_waitNode, a_waitWord, a_part, a_canCount, a_can, a_combo, a_nextCombo, a_current, a_stays, a_result, a_index, a_sorted, a_key, a_table)) :
    ∀ (n i nc : Nat) (nx : Nat → Nat) (a_truth a_current a_nextCombo : Nat → Int32), en < n + i → i ≤ en → b ≤ i → (∀ q, q < 3 → q ≠ p → a_current q = nI (tq_dg c q)) → (∀ j, j < nc → a_nextCombo j = nI (nx j)) → tq_es nc nx (fun y => P0 y ∨ ∃ j, b ≤ j ∧ j < i ∧ y = c + tq_wt p * cn j ∧ tq_T nf fr a_cells G np pt S c p (cn j)) →
    wX_joinRow_64 post (nI c) (nI p) (nI (S ||| 2 ^ p)) (nI en) n (nI i) (nI nf) (nI ni) (nI nt) f_group f_distinct f_orderItem f_orderDown f_limit f_nodes f_waitingNodes f_waitingWords f_broken f_top (nI np) f_combos (nI nc) f_placed f_results (tq_n rn) a_cells (tq_n fr) (tq_n ik) (tq_n ic) (tq_n tk) a_kind a_left a_right a_needs a_truth a_waitNode a_waitWord a_part a_canCount a_can a_combo a_nextCombo a_current a_stays a_result a_index a_sorted a_key a_table := by
  intro n
  induction n with
  | zero => intro i nc nx a_truth a_current a_nextCombo q1 q2; omega
  | succ n ih =>
    intro i nc nx a_truth a_current a_nextCombo hf hi hb hcur hnx hes
    rcases Nat.lt_or_ge i en with z | z
    rotate_left
    · have : i = en := by omega
      subst this
      exact br_t (nI_le z (by omega)) (hp nc nx a_truth a_current a_nextCombo hnx hes)
    have ix : 10 * nI p + nI i = nI (10 * p + i) := by
      show nI 10 * nI p + _ = _
      rw [pk_mul, nI_add]
    obtain ⟨a1, a2⟩ := hseg i (by omega)
    refine br_f (nI_ge z (by omega)) ?_
    rw [ix, nI_clamp (show 10 * p + i < 2 ^ 31 by omega), nI_clamp (show p < 2 ^ 31 by omega), a1, tq_one hp3]
    refine ⟨vp_in_nI (by omega) (by decide), vp_in_nI hp3 (by decide), nm_e ?_⟩
    have cu : tq_cu (S ||| 2 ^ p) (upd a_current p (nI (cn i))) (tq_u (tq_dg c) p (cn i)) := by
      intro q hq _
      by_cases e : q = p
      · rw [e, pk_us, tq_us]; exact ⟨rfl, a2⟩
      · rw [pk_un e, tq_un e]; exact ⟨hcur q hq e, tq_dg10 hc q⟩
    have ad := tq_dg_add hp3 hp3 hc h0 a2
    have step : ∀ j, (b ≤ j ∧ j < i + 1) ↔ ((b ≤ j ∧ j < i) ∨ j = i) := fun j => by omega
    refine xw_fits (cur := tq_u (tq_dg c) p (cn i)) d fl hI hN hnp hpt (tq_or8 S8 (tq_one8 hp3)) (tq_one8 hp3) cu (fun y a_truth => ?_) (fun y a_truth => ?_)
    · refine br_f (by decide) (xw_weight hp3 ⟨vp_in_nI hp3 (by decide), ?_⟩)
      have nin : ¬ (P0 (c + tq_wt p * cn i) ∨ ∃ j, b ≤ j ∧ j < i ∧ c + tq_wt p * cn i = c + tq_wt p * cn j ∧ tq_T nf fr a_cells G np pt S c p (cn j)) := by
        rintro (q | ⟨j, j1, j2, j3, _⟩)
        · exact hnot i (by omega) q
        · have : cn i = cn j := Nat.eq_of_mul_eq_mul_left (tq_wt1 p) (by omega)
          exact hds j i j2 (by omega) this.symm
      have bnd : nc < 1000 := tq_es_lt hes (fun y hy => by
        rcases hy with q | ⟨j, j1, j2, j3, _⟩
        · exact hP y q
        · rw [j3]; exact (tq_dg_add hp3 hp3 hc h0 (hseg j (by omega)).2).2) ad.2 nin
      rw [show upd a_current p (nI (cn i)) p = nI (cn i) from pk_us, pk_mul, nI_add, nI_clamp (show nc < 2 ^ 31 by omega), nI_1, nI_1]
      refine ⟨vp_in_nI bnd (by decide), nm_e (nm_e (nm_e ?_))⟩
      refine ih (i + 1) (nc + 1) (tq_u nx nc (c + tq_wt p * cn i)) a_truth _ _ (by omega) (by omega) (by omega) (fun q hq e => by rw [pk_un e]; exact hcur q hq e) (fun j hj => ?_) (tq_es_add hes nin (fun w => ?_))
      · by_cases e : j = nc
        · rw [e, pk_us, tq_us]
        · rw [pk_un e, tq_un e]; exact hnx j (by omega)
      · constructor
        · rintro (q | ⟨j, j1, j2, j3, j4⟩)
          · exact Or.inl (Or.inl q)
          · by_cases e : j = i
            · exact Or.inr (by rw [j3, e])
            · exact Or.inl (Or.inr ⟨j, j1, by omega, j3, j4⟩)
        · rintro ((q | ⟨j, j1, j2, j3, j4⟩) | q)
          · exact Or.inl q
          · exact Or.inr ⟨j, j1, by omega, j3, j4⟩
          · exact Or.inr ⟨i, hb, by omega, q, y⟩
    · refine br_t rfl (nm_r (nI_1 i) ?_)
      refine ih (i + 1) nc nx a_truth _ _ (by omega) (by omega) (by omega) (fun q hq e => by rw [pk_un e]; exact hcur q hq e) hnx (tq_es_iff (fun w => ?_) hes)
      constructor
      · rintro (q | ⟨j, j1, j2, j3, j4⟩)
        · exact Or.inl q
        · exact Or.inr ⟨j, j1, by omega, j3, j4⟩
      · rintro (q | ⟨j, j1, j2, j3, j4⟩)
        · exact Or.inl q
        · by_cases e : j = i
          · rw [e] at j4; exact absurd j4 y
          · exact Or.inr ⟨j, j1, by omega, j3, j4⟩
end
/-- a link: column k of the new table is to be equal to column o of one that is there -/
def tq_LK (nf : Nat) (fr : Nat → Nat) (cells : Nat → Int32) (G : Nat → tq_Nd) (np : Nat) (pt : Nat → Nat) (S p k o : Nat) : Prop := k < 9 ∧ o < 9 ∧ tq_ok nf fr o = true ∧ ∀ c r, tq_T nf fr cells G np pt S c p r → tq_ky cells k r = tq_vv cells (tq_rho nf fr (tq_dg c)) o
theorem tq_v1 {v x : Int32} (h : tq_rg v) : v + 1 ≤ x ↔ ¬ x ≤ v := by
  unfold tq_rg at h
  have e : (v + 1).toInt = v.toInt + 1 := by
    rw [Int32.toInt_add, show (1 : Int32).toInt = 1 from by decide]
    exact Int.bmod_eq_of_le (by omega) (by omega)
  rw [Int32.le_iff_toInt_le, Int32.le_iff_toInt_le, e]
  omega
section
variable {nf ni nt : Nat} {fr ik ic tk rn : Nat → Nat} {f_group f_distinct f_orderItem f_orderDown f_limit f_nodes f_waitingNodes f_waitingWords f_broken f_top f_combos f_results : Int32} {a_cells a_kind a_left a_right a_needs a_truth a_waitNode a_waitWord a_part a_canCount a_can a_combo a_nextCombo a_current a_stays a_result a_index a_sorted a_key a_table : Nat → Int32}
theorem xw_joinRow {post : SX → Prop} {N np c p S cc nc : Nat} {own other : Int32} {G : Nat → tq_Nd} {pt cn nx : Nat → Nat} {P0 : Nat → Prop} (d : tq_ds nf fr) (fl : ∀ i, fr i < 3) (crg : ∀ i, tq_rg (a_cells i)) (hI : tq_NI nf fr N G a_kind a_left a_right a_needs) (hN : N ≤ 24) (hnp : np ≤ 24) (hpt : ∀ j, j < np → a_part j = nI (pt j) ∧ pt j < N) (hp3 : p < 3) (S8 : S < 8)
    (hC : a_canCount p = nI cc) (hseg : tq_seg p cc cn a_can) (hds : ∀ i j, i < j → j < cc → cn i ≠ cn j) (hcc : cc ≤ 10) (hc : c < 1000) (h0 : tq_dg c p = 0) (hP : ∀ y, P0 y → y < 1000) (hnot : ∀ j, j < cc → ¬ P0 (c + tq_wt p * cn j))
    (hown : own = -1 ∨ ∃ k o, own = nI k ∧ other = nI o ∧ tq_LK nf fr a_cells G np pt S p k o ∧ ∀ a b, a < b → b < cc → tq_ky a_cells k (cn a) ≤ tq_ky a_cells k (cn b))
    (hnx : ∀ j, j < nc → a_nextCombo j = nI (nx j)) (hes : tq_es nc nx P0)
    (hp : ∀ (nc : Nat) (nx : Nat → Nat) (a_truth a_current a_nextCombo : Nat → Int32), (∀ j, j < nc → a_nextCombo j = nI (nx j)) → tq_es nc nx (fun y => P0 y ∨ ∃ j, j < cc ∧ y = c + tq_wt p * cn j ∧ tq_T nf fr a_cells G np pt S c p (cn j)) → post ((nI nf), (nI ni), (nI nt), f_group, f_distinct, f_orderItem, f_orderDown, f_limit, f_nodes, f_waitingNodes, f_waitingWords, f_broken, f_top, (nI np), f_combos, (nI nc), (nI S), f_results, (tq_n rn), a_cells, (tq_n fr), (tq_n ik), (tq_n ic), (tq_n tk), a_kind, a_left, a_right, a_needs, a_truth, a_waitNode, a_waitWord, a_part, a_canCount, a_can, a_combo, a_nextCombo, a_current, a_stays, a_result, a_index, a_sorted, a_key, a_table)) :
    wpX_joinRow post ((nI nf), (nI ni), (nI nt), f_group, f_distinct, f_orderItem, f_orderDown, f_limit, f_nodes, f_waitingNodes, f_waitingWords, f_broken, f_top, (nI np), f_combos, (nI nc), (nI S), f_results, (tq_n rn), a_cells, (tq_n fr), (tq_n ik), (tq_n ic), (tq_n tk), a_kind, a_left, a_right, a_needs, a_truth, a_waitNode, a_waitWord, a_part, a_canCount, a_can, a_combo, a_nextCombo, a_current, a_stays, a_result, a_index, a_sorted, a_key, a_table) (nI c) (nI p) own other := by
  unfold wpX_joinRow
  dsimp only
  rw [tq_one hp3, tq_or S8 (tq_one8 hp3)]
  refine nm_e (xw_loadCombo hc (fun ac' hac => ?_))
  dsimp only
  refine ⟨vp_in_nI hp3 (by decide), ?_⟩
  rw [nI_clamp (show p < 2 ^ 31 by omega), hC]
  refine nm_e ?_
  have start : ∀ b, tq_es nc nx (fun y => P0 y ∨ ∃ j, b ≤ j ∧ j < b ∧ y = c + tq_wt p * cn j ∧ tq_T nf fr a_cells G np pt S c p (cn j)) := fun b => tq_es_iff (fun w => ⟨Or.inl, fun q => by
    rcases q with q | ⟨j, j1, j2, _⟩
    · exact q
    · omega⟩) hes
  rcases hown with rfl | ⟨k, o, rfl, rfl, lk, so⟩
  · refine br_t tq_m1' ⟨cc + 1, ?_⟩
    refine xw_jr1 (P0 := P0) (b := 0) d fl hI hN hnp hpt hp3 S8 hseg hds hcc (Nat.le_refl _) hc h0 hP hnot (fun nc nx a_truth a_current a_nextCombo q1 q2 => hp nc nx a_truth a_current a_nextCombo q1 (tq_es_iff (fun w => ?_) q2)) (cc + 1) 0 nc nx a_truth ac' a_nextCombo (by omega) (by omega) (by omega) (fun q hq _ => hac q hq) hnx (start 0)
    constructor
    · rintro (q | ⟨j, j1, j2, j3, j4⟩)
      · exact Or.inl q
      · exact Or.inr ⟨j, j2, j3, j4⟩
    · rintro (q | ⟨j, j2, j3, j4⟩)
      · exact Or.inl q
      · exact Or.inr ⟨j, by omega, j2, j3, j4⟩
  · obtain ⟨k9, o9, ok, lt⟩ := lk
    refine br_f (nI_pos (by omega)) ?_
    refine xw_valueOf (hv := 7) (cur := tq_dg c) d fl ok (fun q hq _ => ⟨hac q hq, tq_dg10 hc q⟩) (fun q hq _ => by rcases tq_3c hq with rfl | rfl | rfl <;> decide) ?_
    have vr : tq_rg (tq_vv a_cells (tq_rho nf fr (tq_dg c)) o) := by rw [tq_vv_lo o9]; exact crg _
    refine xw_firstFrom hp3 hcc hC k9 hseg so (fun b hb b1 b2 => ?_)
    refine xw_firstFrom hp3 hcc hC k9 hseg so (fun en hen e1 e2 => ⟨en + 1, ?_⟩)
    have be : b ≤ en := by
      rcases Nat.lt_or_ge en b with z | z
      · have q1 := b1 en z
        have q2 := e2 en (by omega) (by omega)
        rw [tq_v1 vr] at q2
        exact absurd (Int32.le_of_lt (Int32.not_le.mp q2)) q1
      · exact z
    refine xw_jr1 (P0 := P0) (b := b) d fl hI hN hnp hpt hp3 S8 hseg hds hcc hen hc h0 hP hnot (fun nc nx a_truth a_current a_nextCombo q1 q2 => hp nc nx a_truth a_current a_nextCombo q1 (tq_es_iff (fun w => ?_) q2)) (en + 1) b nc nx a_truth ac' a_nextCombo (by omega) be (by omega) (fun q hq _ => hac q hq) hnx (start b)
    constructor
    · rintro (q | ⟨j, j1, j2, j3, j4⟩)
      · exact Or.inl q
      · exact Or.inr ⟨j, by omega, j3, j4⟩
    · rintro (q | ⟨j, j2, j3, j4⟩)
      · exact Or.inl q
      · have ev := lt c (cn j) j4
        refine Or.inr ⟨j, ?_, ?_, j3, j4⟩
        · rcases Nat.lt_or_ge j b with z | z
          · exact absurd (by rw [ev]; exact Int32.le_refl _) (b1 j z)
          · exact z
        · rcases Nat.lt_or_ge j en with z | z
          · exact z
          · have := e2 j z j2
            rw [tq_v1 vr, ev] at this
            exact absurd (Int32.le_refl _) this
end
end
section
theorem tq_CN_pm {rm : Nat} {own : Nat → Prop} {p c : Nat} {cn s : Nat → Nat} {aC ac ac' : Nat → Int32} (h : tq_CN rm own p c cn aC ac) (hs : tq_seg p c s ac') (hm : tq_pm c cn s) : tq_CN rm own p c s aC ac' := by
  refine ⟨h.1, h.2.1, fun j hj => ⟨(hs j hj).1, ?_⟩, fun i j hij hj e => ?_, fun r hr ho => ?_⟩
  · obtain ⟨i, hi, e⟩ := hm.2.1 j hj
    rw [← e]
    exact (h.2.2.1 i hi).2
  · have := hm.1 i j (by omega) hj e
    omega
  · obtain ⟨j, hj, e⟩ := h.2.2.2.2 r hr ho
    obtain ⟨i, hi, e2⟩ := hm.2.2 j hj
    exact ⟨i, hi, by rw [e2, e]⟩
section
variable {nf ni nt : Nat} {fr ik ic tk rn : Nat → Nat} {f_group f_distinct f_orderItem f_orderDown f_limit f_nodes f_waitingNodes f_waitingWords f_broken f_top f_results : Int32} {a_cells a_kind a_left a_right a_needs a_waitNode a_waitWord a_part a_canCount a_can a_stays a_result a_index a_sorted a_key a_table : Nat → Int32}
theorem xw_jt136 {post : SX → Prop} {np nc p S : Nat} {nx : Nat → Nat} {a_truth a_current a_nextCombo : Nat → Int32} (hp3 : p < 3) (S8 : S < 8) (hnc : nc ≤ 1000) (hnx : ∀ j, j < nc → a_nextCombo j = nI (nx j))
    (hp : ∀ a_combo : Nat → Int32, (∀ j, j < nc → a_combo j = nI (nx j)) → post ((nI nf), (nI ni), (nI nt), f_group, f_distinct, f_orderItem, f_orderDown, f_limit, f_nodes, f_waitingNodes, f_waitingWords, f_broken, f_top, (nI np), (nI nc), (nI nc), (nI (S ||| 2 ^ p)), f_results, (tq_n rn), a_cells, (tq_n fr), (tq_n ik), (tq_n ic), (tq_n tk), a_kind, a_left, a_right, a_needs, a_truth, a_waitNode, a_waitWord, a_part, a_canCount, a_can, a_combo, a_nextCombo, a_current, a_stays, a_result, a_index, a_sorted, a_key, a_table)) :
    ∀ (n i : Nat) (a_combo : Nat → Int32), nc < n + i → i ≤ nc → (∀ j, j < i → a_combo j = nI (nx j)) → wX_joinTable_136 post (nI p) (nI nf) (nI ni) (nI nt) f_group f_distinct f_orderItem f_orderDown f_limit f_nodes f_waitingNodes f_waitingWords f_broken f_top (nI np) (nI nc) (nI nc) (nI S) f_results n (nI i) (tq_n rn) a_cells (tq_n fr) (tq_n ik) (tq_n ic) (tq_n tk) a_kind a_left a_right a_needs a_truth a_waitNode a_waitWord a_part a_canCount a_can a_combo a_nextCombo a_current a_stays a_result a_index a_sorted a_key a_table := by
  intro n
  induction n with
  | zero => intro i a_combo q1 q2; omega
  | succ n ih =>
    intro i a_combo hf hi hc
    rcases Nat.lt_or_ge i nc with z | z
    rotate_left
    · have : i = nc := by omega
      subst this
      exact br_t (nI_le z (by omega)) (nm_r (e' := nI (S ||| 2 ^ p)) (by rw [tq_one hp3, tq_or S8 (tq_one8 hp3)]) (hp a_combo hc))
    have v : vp_in (nI i) 1000 := vp_in_nI (by omega) (by decide)
    refine br_f (nI_ge z (by omega)) ⟨v, v, ?_⟩
    rw [nI_clamp (show i < 2 ^ 31 by omega), hnx i z, nI_1]
    refine nm_e (nm_e (ih (i + 1) _ (by omega) (by omega) (fun j hj => ?_)))
    by_cases e : j = i
    · rw [e, pk_us]
    · rw [pk_un e]; exact hc j (by omega)
theorem xw_jt95 {post : SX → Prop} {N np m p S cc : Nat} {own other : Int32} {a_combo : Nat → Int32} {G : Nat → tq_Nd} {pt cn e : Nat → Nat} (d : tq_ds nf fr) (fl : ∀ i, fr i < 3) (rl : ∀ i, rn i ≤ 10) (crg : ∀ i, tq_rg (a_cells i)) (hI : tq_NI nf fr N G a_kind a_left a_right a_needs) (hN : N ≤ 24) (hnp : np ≤ 24) (hpt : ∀ j, j < np → a_part j = nI (pt j) ∧ pt j < N) (hp3 : p < 3) (S8 : S < 8) (hSp : S.testBit p = false)
    (hCN : tq_CN (rn (fr p)) (tq_own nf fr a_cells G np pt p) p cc cn a_canCount a_can)
    (hown : own = -1 ∨ ∃ k o, own = nI k ∧ other = nI o ∧ tq_LK nf fr a_cells G np pt S p k o ∧ ∀ a b, a < b → b < cc → tq_ky a_cells k (cn a) ≤ tq_ky a_cells k (cn b))
    (hm : m ≤ 1000) (hcb : ∀ j, j < m → a_combo j = nI (e j)) (hes : tq_es m e (tq_gd nf fr rn a_cells G np pt S))
    (hp : ∀ (nc : Nat) (nx : Nat → Nat) (a_truth a_current a_nextCombo a_combo : Nat → Int32), nc ≤ 1000 → (∀ j, j < nc → a_combo j = nI (nx j)) → tq_es nc nx (tq_gd nf fr rn a_cells G np pt (S ||| 2 ^ p)) → post ((nI nf), (nI ni), (nI nt), f_group, f_distinct, f_orderItem, f_orderDown, f_limit, f_nodes, f_waitingNodes, f_waitingWords, f_broken, f_top, (nI np), (nI nc), (nI nc), (nI (S ||| 2 ^ p)), f_results, (tq_n rn), a_cells, (tq_n fr), (tq_n ik), (tq_n ic), (tq_n tk), a_kind, a_left, a_right, a_needs, a_truth, a_waitNode, a_waitWord, a_part, a_canCount, a_can, a_combo, a_nextCombo, a_current, a_stays, a_result, a_index, a_sorted, a_key, a_table)) :
    ∀ (n i nc : Nat) (nx : Nat → Nat) (a_truth a_current a_nextCombo : Nat → Int32), m < n + i → i ≤ m → (∀ j, j < nc → a_nextCombo j = nI (nx j)) → tq_es nc nx (fun y => ∃ i', i' < i ∧ ∃ j, j < cc ∧ y = e i' + tq_wt p * cn j ∧ tq_T nf fr a_cells G np pt S (e i') p (cn j)) →
    wX_joinTable_95 post (nI p) own other n (nI i) (nI nf) (nI ni) (nI nt) f_group f_distinct f_orderItem f_orderDown f_limit f_nodes f_waitingNodes f_waitingWords f_broken f_top (nI np) (nI m) (nI nc) (nI S) f_results (tq_n rn) a_cells (tq_n fr) (tq_n ik) (tq_n ic) (tq_n tk) a_kind a_left a_right a_needs a_truth a_waitNode a_waitWord a_part a_canCount a_can a_combo a_nextCombo a_current a_stays a_result a_index a_sorted a_key a_table := by
  have rp := rl (fr p)
  have seg : tq_seg p cc cn a_can := fun j hj => ⟨(hCN.2.2.1 j hj).1, by have := (hCN.2.2.1 j hj).2; omega⟩
  have cb : ∀ i j, i < m → j < cc → (∀ q, q < 3 → tq_dg (e i + tq_wt p * cn j) q = (if q = p then cn j else tq_dg (e i) q)) ∧ e i + tq_wt p * cn j < 1000 := by
    intro i j hi hj
    obtain ⟨g1, g2, _⟩ := hes.2.1 i hi
    have z0 := (g2 p hp3).2 hSp
    exact ⟨fun q hq => (tq_dg_add hp3 hq g1 z0 (seg j hj).2).1, (tq_dg_add hp3 hp3 g1 z0 (seg j hj).2).2⟩
  intro n
  induction n with
  | zero => intro i nc nx a_truth a_current a_nextCombo q1 q2; omega
  | succ n ih =>
    intro i nc nx a_truth a_current a_nextCombo hf hi hnx hns
    have n1000 : nc ≤ 1000 := tq_es_le hns (fun y hy => by
      obtain ⟨i', h1, j, h2, h3, _⟩ := hy
      rw [h3]
      exact (cb i' j (by omega) h2).2)
    rcases Nat.lt_or_ge i m with z | z
    rotate_left
    · have : i = m := by omega
      subst this
      have fin := tq_es_iff (fun y => tq_gd_step rl hI.2 (fun j hj => (hpt j hj).2) hp3 hSp hes (fun j hj => (hCN.2.2.1 j hj).2) hCN.2.2.2.2 y) hns
      refine br_t (nI_le z (by omega)) ⟨nc + 1, ?_⟩
      exact xw_jt136 hp3 S8 n1000 hnx (fun a_combo hc => hp nc nx a_truth a_current a_nextCombo a_combo n1000 hc fin) (nc + 1) 0 a_combo (by omega) (by omega) (fun j hj => absurd hj (by omega))
    refine br_f (nI_ge z (by omega)) ⟨vp_in_nI (by omega) (by decide), ?_⟩
    rw [nI_clamp (show i < 2 ^ 31 by omega), hcb i z]
    obtain ⟨g1, g2, _⟩ := hes.2.1 i z
    refine xw_joinRow (P0 := fun y => ∃ i', i' < i ∧ ∃ j, j < cc ∧ y = e i' + tq_wt p * cn j ∧ tq_T nf fr a_cells G np pt S (e i') p (cn j)) d fl crg hI hN hnp hpt hp3 S8 hCN.1 seg hCN.2.2.2.1 hCN.2.1 g1 ((g2 p hp3).2 hSp) (fun y hy => ?_) (fun j hj hy => ?_) hown hnx hns (fun nc' nx' a_truth a_current a_nextCombo h1 h2 => ?_)
    · obtain ⟨i', h1, j, h2, h3, _⟩ := hy
      rw [h3]
      exact (cb i' j (by omega) h2).2
    · obtain ⟨i', h1, j', h2, h3, _⟩ := hy
      obtain ⟨k1, k2, _⟩ := hes.2.1 i' (by omega)
      have c1 := cb i j z hj
      have c2 := cb i' j' (by omega) h2
      have : e i' = e i := by
        refine tq_dg_inj k1 g1 (fun q hq => ?_)
        have q1 := c1.1 q hq
        have q2 := c2.1 q hq
        rw [h3, q2] at q1
        by_cases a : q = p
        · rw [a, (k2 p hp3).2 hSp, (g2 p hp3).2 hSp]
        · rw [if_neg a, if_neg a] at q1
          exact q1
      exact hes.1 i' i h1 z this
    · refine nm_r (nI_1 i) (ih (i + 1) nc' nx' a_truth a_current a_nextCombo (by omega) (by omega) h1 (tq_es_iff (fun y => ?_) h2))
      constructor
      · rintro (⟨i', q1, q2⟩ | ⟨j, q1, q2, q3⟩)
        · exact ⟨i', by omega, q2⟩
        · exact ⟨i, by omega, j, q1, q2, q3⟩
      · rintro ⟨i', q1, j, q2, q3, q4⟩
        by_cases a : i' = i
        · rw [a] at q3 q4; exact Or.inr ⟨j, q2, q3, q4⟩
        · exact Or.inl ⟨i', by omega, j, q2, q3, q4⟩
end
/-- from a link among the parts -/
theorem tq_LK_of {nf : Nat} {fr : Nat → Nat} {cells : Nat → Int32} {G : Nat → tq_Nd} {np : Nat} {pt : Nat → Nat} {S p l k o : Nat} (d : tq_ds nf fr) (hp3 : p < 3) (hSp : S.testBit p = false) (hl : l < np) (k9 : k < 9) (o9 : o < 9) (okk : tq_ok nf fr k = true) (oko : tq_ok nf fr o = true)
    (pk : tq_pc nf fr (k / 3) = p) (po : S.testBit (tq_pc nf fr (o / 3)) = true) (hm : (G (pt l)).2.2.2.1 = tq_nd nf fr k ||| tq_nd nf fr o) (hF : ∀ v, (G (pt l)).2.2.2.2.1 v = true → v k = v o) : tq_LK nf fr cells G np pt S p k o := by
  have ok' := of_decide_eq_true oko
  have po3 : tq_pc nf fr (o / 3) < 3 := by rcases ok'.2 with q | q <;> omega
  have ek : tq_nd nf fr k = 2 ^ p := by
    have : tq_nd nf fr k = 2 ^ tq_pc nf fr (k / 3) := if_pos ⟨k9, by omega⟩
    rw [this, pk]
  have eo : tq_nd nf fr o = 2 ^ tq_pc nf fr (o / 3) := if_pos ⟨o9, po3⟩
  refine ⟨k9, o9, oko, fun c r hT => ?_⟩
  have q := hF _ (hT l hl ⟨fun q hq hb => ?_, Or.inr ⟨Nat.ne_of_gt (Nat.two_pow_pos p), p, hp3, ?_, ?_⟩⟩)
  · rw [tq_vv_lo k9, tq_vv_lo o9] at q
    unfold tq_rho at q
    rw [pk, tq_us, tq_un (by intro z; rw [z, hSp] at po; exact absurd po (by decide))] at q
    rw [tq_vv_lo o9]
    exact q
  · rw [hm, ek, eo, Nat.testBit_or, tq_tp, tq_tp] at hb
    rw [tq_orb]
    by_cases a : p = q
    · rw [decide_eq_true a, Bool.or_true]
    · rw [decide_eq_false a, Bool.false_or] at hb
      rw [← of_decide_eq_true hb, po]
      rfl
  · rw [hm, ek, Nat.testBit_or, tq_tp, decide_eq_true rfl]
    rfl
  · rw [tq_tp]; exact decide_eq_true rfl
section
variable {nf ni nt : Nat} {fr ik ic tk rn : Nat → Nat} {f_group f_distinct f_orderItem f_orderDown f_limit f_nodes f_waitingNodes f_waitingWords f_broken f_top f_nextCombos f_results : Int32} {a_cells a_kind a_left a_right a_needs a_truth a_waitNode a_waitWord a_part a_canCount a_can a_combo a_nextCombo a_current a_stays a_result a_index a_sorted a_key a_table : Nat → Int32}
theorem xw_joinTable {post : SX → Prop} {N np m p S : Nat} {G : Nat → tq_Nd} {pt e cc : Nat → Nat} {cn : Nat → Nat → Nat} (d : tq_ds nf fr) (fl : ∀ i, fr i < 3) (rl : ∀ i, rn i ≤ 10) (crg : ∀ i, tq_rg (a_cells i)) (hI : tq_NI nf fr N G a_kind a_left a_right a_needs) (hN : N ≤ 24) (hnp : np ≤ 24) (hpt : ∀ j, j < np → a_part j = nI (pt j) ∧ pt j < N) (hpn : p < nf) (S8 : S < 8) (hSp : S.testBit p = false)
    (hCN : ∀ q, q < nf → tq_CN (rn (fr q)) (tq_own nf fr a_cells G np pt q) q (cc q) (cn q) a_canCount a_can)
    (hm : m ≤ 1000) (hcb : ∀ j, j < m → a_combo j = nI (e j)) (hes : tq_es m e (tq_gd nf fr rn a_cells G np pt S))
    (hp : ∀ (nc : Nat) (nx : Nat → Nat) (cn : Nat → Nat → Nat) (a_truth a_current a_can a_nextCombo a_combo : Nat → Int32), (∀ q, q < nf → tq_CN (rn (fr q)) (tq_own nf fr a_cells G np pt q) q (cc q) (cn q) a_canCount a_can) → nc ≤ 1000 → (∀ j, j < nc → a_combo j = nI (nx j)) → tq_es nc nx (tq_gd nf fr rn a_cells G np pt (S ||| 2 ^ p)) → post ((nI nf), (nI ni), (nI nt), f_group, f_distinct, f_orderItem, f_orderDown, f_limit, f_nodes, f_waitingNodes, f_waitingWords, f_broken, f_top, (nI np), (nI nc), (nI nc), (nI (S ||| 2 ^ p)), f_results, (tq_n rn), a_cells, (tq_n fr), (tq_n ik), (tq_n ic), (tq_n tk), a_kind, a_left, a_right, a_needs, a_truth, a_waitNode, a_waitWord, a_part, a_canCount, a_can, a_combo, a_nextCombo, a_current, a_stays, a_result, a_index, a_sorted, a_key, a_table)) :
    wpX_joinTable post ((nI nf), (nI ni), (nI nt), f_group, f_distinct, f_orderItem, f_orderDown, f_limit, f_nodes, f_waitingNodes, f_waitingWords, f_broken, f_top, (nI np), (nI m), f_nextCombos, (nI S), f_results, (tq_n rn), a_cells, (tq_n fr), (tq_n ik), (tq_n ic), (tq_n tk), a_kind, a_left, a_right, a_needs, a_truth, a_waitNode, a_waitWord, a_part, a_canCount, a_can, a_combo, a_nextCombo, a_current, a_stays, a_result, a_index, a_sorted, a_key, a_table) (nI p) := by
  have n3 := d.1
  have hp3 : p < 3 := by omega
  have es0 : tq_es 0 (fun _ => 0) (fun y => ∃ i', i' < 0 ∧ ∃ j, j < cc p ∧ y = e i' + tq_wt p * cn p j ∧ tq_T nf fr a_cells G np pt S (e i') p (cn p j)) := ⟨fun i j _ h => absurd h (by omega), fun i h => absurd h (by omega), fun y hy => by obtain ⟨i', h, _⟩ := hy; omega⟩
  unfold wpX_joinTable
  dsimp only
  refine xw_linkTo hI hN hnp hpt hp3 S8 ?_ ?_
  · refine br_t tq_m1' ⟨m + 1, ?_⟩
    exact xw_jt95 d fl rl crg hI hN hnp hpt hp3 S8 hSp (hCN p hpn) (Or.inl rfl) hm hcb hes (fun nc nx a_truth a_current a_nextCombo a_combo h1 h2 h3 => hp nc nx cn a_truth a_current a_can a_nextCombo a_combo hCN h1 h2 h3) (m + 1) 0 0 (fun _ => 0) a_truth a_current a_nextCombo (by omega) (by omega) (fun j hj => absurd hj (by omega)) es0
  · intro l hl k29 l9 r9 tb ⟨q, q3, qb, qS⟩ ne
    obtain ⟨e1, e2⟩ := hpt l hl
    have ek := hI.1 _ e2
    have vk : vp_in (nI (pt l)) 24 := vp_in_nI (by omega) (by decide)
    have s : tq_ok nf fr (G (pt l)).2.1 = true ∧ tq_ok nf fr (G (pt l)).2.2.1 = true ∧ (G (pt l)).2.2.2.1 = tq_nd nf fr (G (pt l)).2.1 ||| tq_nd nf fr (G (pt l)).2.2.1 ∧ (G (pt l)).2.2.2.2.1 = tq_cmp (G (pt l)).1 (G (pt l)).2.1 (G (pt l)).2.2.1 := by
      rcases hI.2 _ e2 with s | s | s
      · exact ⟨s.2.2.1, s.2.2.2.1, s.2.2.2.2.1, s.2.2.2.2.2.1⟩
      · omega
      · omega
    obtain ⟨okl, okr, sm, sF⟩ := s
    have okl' := of_decide_eq_true okl
    have okr' := of_decide_eq_true okr
    have pl : tq_pc nf fr ((G (pt l)).2.1 / 3) < 3 := by rcases okl'.2 with z | z <;> omega
    have pr : tq_pc nf fr ((G (pt l)).2.2.1 / 3) < 3 := by rcases okr'.2 with z | z <;> omega
    have el : tq_nd nf fr (G (pt l)).2.1 = 2 ^ tq_pc nf fr ((G (pt l)).2.1 / 3) := if_pos ⟨l9, pl⟩
    have er : tq_nd nf fr (G (pt l)).2.2.1 = 2 ^ tq_pc nf fr ((G (pt l)).2.2.1 / 3) := if_pos ⟨r9, pr⟩
    have qp : q ≠ p := by intro z; rw [z, hSp] at qS; exact absurd qS (by decide)
    have bits : ∀ x, (G (pt l)).2.2.2.1.testBit x = true → tq_pc nf fr ((G (pt l)).2.1 / 3) = x ∨ tq_pc nf fr ((G (pt l)).2.2.1 / 3) = x := by
      intro x hx
      rw [sm, el, er, Nat.testBit_or, tq_tp, tq_tp] at hx
      simpa using hx
    have eqv : ∀ v, (G (pt l)).2.2.2.2.1 v = true → v (G (pt l)).2.1 = v (G (pt l)).2.2.1 := by
      intro v hv
      rw [sF, k29] at hv
      unfold tq_cmp at hv
      rw [if_pos rfl] at hv
      exact of_decide_eq_true hv
    have fin : ∀ k o, k < 9 → tq_LK nf fr a_cells G np pt S p k o → wX_joinTable_79 post (nI p) (nI k) (nI o) (nI nf) (nI ni) (nI nt) f_group f_distinct f_orderItem f_orderDown f_limit f_nodes f_waitingNodes f_waitingWords f_broken f_top (nI np) (nI m) f_nextCombos (nI S) f_results (tq_n rn) a_cells (tq_n fr) (tq_n ik) (tq_n ic) (tq_n tk) a_kind a_left a_right a_needs a_truth a_waitNode a_waitWord a_part a_canCount a_can a_combo a_nextCombo a_current a_stays a_result a_index a_sorted a_key a_table := by
      intro k o k9 lk
      have c := hCN p hpn
      have rp := rl (fr p)
      refine xw_sortRows hp3 c.2.1 c.1 k9 (fun j hj => ⟨(c.2.2.1 j hj).1, by have := (c.2.2.1 j hj).2; omega⟩) c.2.2.2.1 (fun s ac' h1 h2 h3 h4 => ⟨m + 1, ?_⟩)
      have CN' : ∀ q, q < nf → tq_CN (rn (fr q)) (tq_own nf fr a_cells G np pt q) q (cc q) (tq_u cn p s q) a_canCount ac' := by
        intro q hq
        by_cases a : q = p
        · rw [a, tq_us]; exact tq_CN_pm c h1 h2
        · rw [tq_un a]
          refine tq_CN_cg (hCN q hq) rfl (fun j hj => h4 _ ?_)
          have := c.2.1
          omega
      have CNp := CN' p hpn
      rw [tq_us] at CNp
      refine xw_jt95 d fl rl crg hI hN hnp hpt hp3 S8 hSp CNp (Or.inr ⟨k, o, rfl, rfl, lk, h3⟩) hm hcb hes (fun nc nx a_truth a_current a_nextCombo a_combo q1 q2 q3 => hp nc nx (tq_u cn p s) a_truth a_current ac' a_nextCombo a_combo CN' q1 q2 q3) (m + 1) 0 0 (fun _ => 0) a_truth a_current a_nextCombo (by omega) (by omega) (fun j hj => absurd hj (by omega)) ⟨fun i j _ h => absurd h (by omega), fun i h => absurd h (by omega), fun y hy => by obtain ⟨i', h, _⟩ := hy; omega⟩
    refine br_f (nI_pos (by omega)) ⟨vk, by decide, ?_⟩
    rw [nI_clamp (show pt l < 2 ^ 31 by omega), ek.2.1, show nI (G (pt l)).2.1 / 3 = nI ((G (pt l)).2.1 / 3) from pk_div (d := 3) (by omega) (by omega) (by decide)]
    refine xw_placeOf d.1 (by omega) fl ?_
    rw [tq_pl_t d pl]
    refine pk_eq (tq_pc nf fr ((G (pt l)).2.1 / 3)) p (fun a => ?_) (fun a => ?_)
    · refine br_f (by decide) ⟨vk, br_f (by decide) ⟨vk, ?_⟩⟩
      rw [nI_clamp (show pt l < 2 ^ 31 by omega), ek.2.1, ek.2.2.1]
      refine fin _ _ l9 (tq_LK_of d hp3 hSp hl l9 r9 okl okr a ?_ sm eqv)
      rcases bits q qb with z | z
      · omega
      · rw [z]; exact qS
    · refine br_t rfl ⟨vk, br_t rfl ⟨vk, ?_⟩⟩
      rw [nI_clamp (show pt l < 2 ^ 31 by omega), ek.2.1, ek.2.2.1]
      refine fin _ _ r9 (tq_LK_of d hp3 hSp hl r9 l9 okr okl ?_ ?_ (by rw [sm, Nat.or_comm]) (fun v hv => (eqv v hv).symm))
      · rcases bits p tb with z | z
        · exact absurd z a
        · exact z
      · rcases bits q qb with z | z
        · rw [z]; exact qS
        · rcases bits p tb with y | y
          · exact absurd y a
          · omega
end
end
section
theorem tq_dg0 (p : Nat) : tq_dg 0 p = 0 := by
  unfold tq_dg
  split
  · rfl
  · split <;> rfl
section
variable {nf ni nt : Nat} {fr ik ic tk rn : Nat → Nat} {f_group f_distinct f_orderItem f_orderDown f_limit f_nodes f_waitingNodes f_waitingWords f_broken f_top f_parts f_nextCombos f_placed f_results : Int32} {a_cells a_kind a_left a_right a_needs a_truth a_waitNode a_waitWord a_part a_canCount a_can a_nextCombo a_current a_result a_index a_sorted a_key a_table : Nat → Int32}
theorem xw_cb116 {post : SX → Prop} {m : Nat} {P : Nat → Prop} {a_stays : Nat → Int32} (hst : ∀ c, c < 1000 → (a_stays c = 0 ↔ ¬ P c)) (hP : ∀ c, P c → c < 1000)
    (hp : ∀ (k : Nat) (e : Nat → Nat) (a_combo : Nat → Int32), tq_EN (· < ·) P e k → (∀ j, j < k → a_combo j = nI (e j)) → post ((nI nf), (nI ni), (nI nt), f_group, f_distinct, f_orderItem, f_orderDown, f_limit, f_nodes, f_waitingNodes, f_waitingWords, f_broken, f_top, f_parts, (nI m), f_nextCombos, f_placed, f_results, (tq_n rn), a_cells, (tq_n fr), (tq_n ik), (tq_n ic), (tq_n tk), a_kind, a_left, a_right, a_needs, a_truth, a_waitNode, a_waitWord, a_part, a_canCount, a_can, a_combo, a_nextCombo, a_current, a_stays, a_result, a_index, a_sorted, a_key, a_table)) :
    ∀ (n k c : Nat) (e : Nat → Nat) (a_combo : Nat → Int32), 1000 < n + c → c ≤ 1000 → k ≤ c → tq_EN (· < ·) (fun y => y < c ∧ P y) e k → (∀ j, j < k → a_combo j = nI (e j)) → wX_combine_116 post (nI nf) (nI ni) (nI nt) f_group f_distinct f_orderItem f_orderDown f_limit f_nodes f_waitingNodes f_waitingWords f_broken f_top f_parts (nI m) f_nextCombos f_placed f_results n (nI k) (nI c) (tq_n rn) a_cells (tq_n fr) (tq_n ik) (tq_n ic) (tq_n tk) a_kind a_left a_right a_needs a_truth a_waitNode a_waitWord a_part a_canCount a_can a_combo a_nextCombo a_current a_stays a_result a_index a_sorted a_key a_table := by
  intro n
  induction n with
  | zero => intro k c e a_combo q1 q2; omega
  | succ n ih =>
    intro k c e a_combo hf hc hk hes hcb
    rcases Nat.lt_or_ge c 1000 with z | z
    rotate_left
    · have : c = 1000 := by omega
      subst this
      exact br_t (nI_le (a := 1000) (by omega) (by omega)) (hp k e a_combo (tq_en_iff (fun x => ⟨fun q => q.2, fun q => ⟨hP x q, q⟩⟩) hes) hcb)
    refine br_f (nI_ge (b := 1000) (by omega) (by decide)) ⟨vp_in_nI z (by decide), ?_⟩
    rw [nI_clamp (show c < 2 ^ 31 by omega), nI_clamp (show k < 2 ^ 31 by omega), nI_1, nI_1]
    refine br_c (fun y => nm_e (ih k (c + 1) e a_combo (by omega) (by omega) (by omega) (tq_en_iff (fun x => ?_) hes) hcb)) (fun y => ⟨vp_in_nI (by omega) (by decide), nm_e (nm_e (nm_e (ih (k + 1) (c + 1) (tq_u e k c) _ (by omega) (by omega) (by omega) (tq_en_s (x := c) hes (fun i hi => tq_un (by omega)) tq_us (fun y hy => hy.1) (fun x => ?_)) (fun j hj => ?_))))⟩)
    · rw [hst c z] at y
      constructor
      · rintro ⟨q1, q2⟩
        exact ⟨by omega, q2⟩
      · rintro ⟨q1, q2⟩
        refine ⟨?_, q2⟩
        rcases Nat.lt_or_ge x c with w | w
        · exact w
        · have : x = c := by omega
          rw [this] at q2; exact absurd q2 y
    · rw [hst c z] at y
      have y' : P c := Classical.byContradiction y
      constructor
      · rintro ⟨q1, q2⟩
        rcases Nat.lt_or_ge x c with w | w
        · exact Or.inl ⟨w, q2⟩
        · exact Or.inr (by omega)
      · rintro (⟨q1, q2⟩ | q)
        · exact ⟨by omega, q2⟩
        · rw [q]; exact ⟨by omega, y'⟩
    · by_cases e1 : j = k
      · rw [e1, pk_us, tq_us]
      · rw [pk_un e1, tq_un e1]; exact hcb j (by omega)
theorem xw_cb86 {post : SX → Prop} {m : Nat} {e : Nat → Nat} {a_combo : Nat → Int32} (hm : m ≤ 1000) (he : ∀ j, j < m → a_combo j = nI (e j) ∧ e j < 1000)
    (hp : ∀ (a_stays : Nat → Int32), (∀ c, c < 1000 → (a_stays c = 0 ↔ ¬ ∃ j, j < m ∧ e j = c)) → ∃ n116 : Nat, wX_combine_116 post (nI nf) (nI ni) (nI nt) f_group f_distinct f_orderItem f_orderDown f_limit f_nodes f_waitingNodes f_waitingWords f_broken f_top f_parts (nI m) f_nextCombos f_placed f_results n116 0 0 (tq_n rn) a_cells (tq_n fr) (tq_n ik) (tq_n ic) (tq_n tk) a_kind a_left a_right a_needs a_truth a_waitNode a_waitWord a_part a_canCount a_can a_combo a_nextCombo a_current a_stays a_result a_index a_sorted a_key a_table) :
    ∀ (n i : Nat) (a_stays : Nat → Int32), m < n + i → i ≤ m → (∀ c, c < 1000 → (a_stays c = 0 ↔ ¬ ∃ j, j < i ∧ e j = c)) → wX_combine_86 post (nI nf) (nI ni) (nI nt) f_group f_distinct f_orderItem f_orderDown f_limit f_nodes f_waitingNodes f_waitingWords f_broken f_top f_parts (nI m) f_nextCombos f_placed f_results n (nI i) (tq_n rn) a_cells (tq_n fr) (tq_n ik) (tq_n ic) (tq_n tk) a_kind a_left a_right a_needs a_truth a_waitNode a_waitWord a_part a_canCount a_can a_combo a_nextCombo a_current a_stays a_result a_index a_sorted a_key a_table := by
  intro n
  induction n with
  | zero => intro i a_stays q1 q2; omega
  | succ n ih =>
    intro i a_stays hf hi hs
    rcases Nat.lt_or_ge i m with z | z
    rotate_left
    · have : i = m := by omega
      subst this
      exact br_t (nI_le z (by omega)) (hp a_stays hs)
    obtain ⟨e1, e2⟩ := he i z
    refine br_f (nI_ge z (by omega)) ⟨vp_in_nI (by omega) (by decide), ?_⟩
    rw [nI_clamp (show i < 2 ^ 31 by omega), e1, nI_clamp (show e i < 2 ^ 31 by omega), nI_1, show vp_nar .boolean 1 = 1 from rfl]
    refine ⟨vp_in_nI e2 (by decide), nm_e (nm_e (ih (i + 1) _ (by omega) (by omega) (fun c hc => ?_)))⟩
    by_cases a : c = e i
    · rw [a, pk_us]
      exact ⟨fun z => absurd z (by decide), fun q => absurd ⟨i, by omega, rfl⟩ q⟩
    · rw [pk_un a, hs c hc]
      constructor
      · rintro q ⟨j, j1, j2⟩
        by_cases b : j = i
        · rw [b] at j2; exact a j2.symm
        · exact q ⟨j, by omega, j2⟩
      · rintro q ⟨j, j1, j2⟩
        exact q ⟨j, by omega, j2⟩
theorem xw_cb64 {post : SX → Prop} {m : Nat} {a_combo : Nat → Int32}
    (hp : ∀ (a_stays : Nat → Int32), (∀ c, c < 1000 → a_stays c = 0) → ∃ n86 : Nat, wX_combine_86 post (nI nf) (nI ni) (nI nt) f_group f_distinct f_orderItem f_orderDown f_limit f_nodes f_waitingNodes f_waitingWords f_broken f_top f_parts (nI m) f_nextCombos f_placed f_results n86 0 (tq_n rn) a_cells (tq_n fr) (tq_n ik) (tq_n ic) (tq_n tk) a_kind a_left a_right a_needs a_truth a_waitNode a_waitWord a_part a_canCount a_can a_combo a_nextCombo a_current a_stays a_result a_index a_sorted a_key a_table) :
    ∀ (n i : Nat) (a_stays : Nat → Int32), 1000 < n + i → i ≤ 1000 → (∀ c, c < i → a_stays c = 0) → wX_combine_64 post (nI nf) (nI ni) (nI nt) f_group f_distinct f_orderItem f_orderDown f_limit f_nodes f_waitingNodes f_waitingWords f_broken f_top f_parts (nI m) f_nextCombos f_placed f_results n (nI i) (tq_n rn) a_cells (tq_n fr) (tq_n ik) (tq_n ic) (tq_n tk) a_kind a_left a_right a_needs a_truth a_waitNode a_waitWord a_part a_canCount a_can a_combo a_nextCombo a_current a_stays a_result a_index a_sorted a_key a_table := by
  intro n
  induction n with
  | zero => intro i a_stays q1 q2; omega
  | succ n ih =>
    intro i a_stays hf hi hs
    rcases Nat.lt_or_ge i 1000 with z | z
    rotate_left
    · have : i = 1000 := by omega
      subst this
      exact br_t (nI_le (a := 1000) (by omega) (by omega)) (hp a_stays hs)
    refine br_f (nI_ge (b := 1000) (by omega) (by decide)) ⟨vp_in_nI z (by decide), ?_⟩
    rw [nI_clamp (show i < 2 ^ 31 by omega), nI_1, show vp_nar .boolean 0 = 0 from rfl]
    refine nm_e (nm_e (ih (i + 1) _ (by omega) (by omega) (fun c hc => ?_)))
    by_cases a : c = i
    · rw [a, pk_us]
    · rw [pk_un a]; exact hs c (by omega)
end
section
variable {nf ni nt : Nat} {fr ik ic tk rn : Nat → Nat} {f_group f_distinct f_orderItem f_orderDown f_limit f_nodes f_waitingNodes f_waitingWords f_broken f_top f_results : Int32} {a_cells a_kind a_left a_right a_needs a_waitNode a_waitWord a_part a_canCount a_result a_index a_sorted a_key a_table : Nat → Int32}
theorem xw_cb38 {post : SX → Prop} {N np : Nat} {f : tq_V} {G : Nat → tq_Nd} {pt cc : Nat → Nat} {a_stays : Nat → Int32} (d : tq_ds nf fr) (fl : ∀ i, fr i < 3) (rl : ∀ i, rn i ≤ 10) (crg : ∀ i, tq_rg (a_cells i)) (hI : tq_NI nf fr N G a_kind a_left a_right a_needs) (hN : N ≤ 24) (hPT : tq_PT N G np pt a_part f)
    (hp : ∀ (m : Nat) (e : Nat → Nat) (f_placed f_nextCombos : Int32) (a_truth a_current a_can a_nextCombo a_stays a_combo : Nat → Int32), m ≤ 1000 → tq_EN (· < ·) (tq_ch nf fr rn a_cells f) e m → (∀ j, j < m → a_combo j = nI (e j)) → post ((nI nf), (nI ni), (nI nt), f_group, f_distinct, f_orderItem, f_orderDown, f_limit, f_nodes, f_waitingNodes, f_waitingWords, f_broken, f_top, (nI np), (nI m), f_nextCombos, f_placed, f_results, (tq_n rn), a_cells, (tq_n fr), (tq_n ik), (tq_n ic), (tq_n tk), a_kind, a_left, a_right, a_needs, a_truth, a_waitNode, a_waitWord, a_part, a_canCount, a_can, a_combo, a_nextCombo, a_current, a_stays, a_result, a_index, a_sorted, a_key, a_table)) :
    ∀ (n i S m : Nat) (e : Nat → Nat) (cn : Nat → Nat → Nat) (f_nextCombos : Int32) (a_truth a_current a_can a_combo a_nextCombo : Nat → Int32), nf < n + i → i ≤ nf → S < 8 → (∀ p, p < 3 → S.testBit p = true → p < nf) → tq_ct S nf = i → (∀ q, q < nf → tq_CN (rn (fr q)) (tq_own nf fr a_cells G np pt q) q (cc q) (cn q) a_canCount a_can) → m ≤ 1000 → (∀ j, j < m → a_combo j = nI (e j)) → tq_es m e (tq_gd nf fr rn a_cells G np pt S) →
    wX_combine_38 post n (nI i) (nI nf) (nI ni) (nI nt) f_group f_distinct f_orderItem f_orderDown f_limit f_nodes f_waitingNodes f_waitingWords f_broken f_top (nI np) (nI m) f_nextCombos (nI S) f_results (tq_n rn) a_cells (tq_n fr) (tq_n ik) (tq_n ic) (tq_n tk) a_kind a_left a_right a_needs a_truth a_waitNode a_waitWord a_part a_canCount a_can a_combo a_nextCombo a_current a_stays a_result a_index a_sorted a_key a_table := by
  have n3 := d.1
  intro n
  induction n with
  | zero => intro i S m e cn f_nextCombos a_truth a_current a_can a_combo a_nextCombo q1 q2; omega
  | succ n ih =>
    intro i S m e cn f_nextCombos a_truth a_current a_can a_combo a_nextCombo hf hi S8 hSb hct hCN hm hcb hes
    rcases Nat.lt_or_ge i nf with z | z
    rotate_left
    · have hin : i = nf := by omega
      have full : ∀ p, p < 3 → (S.testBit p = true ↔ p < nf) := fun p hp3 => ⟨hSb p hp3, fun q => tq_ct_f ⟨nf, by omega⟩ ⟨S, S8⟩ (by show tq_ct S nf = nf; omega) p hp3 q⟩
      have hes' := tq_es_iff (fun c => tq_gd_ch (rn := rn) (cells := a_cells) hI.2 hPT full c) hes
      refine br_t (nI_le z (by omega)) ⟨1001, ?_⟩
      refine xw_cb64 (fun a_stays h1 => ⟨m + 1, ?_⟩) 1001 0 a_stays (by omega) (by omega) (fun c hc => absurd hc (by omega))
      refine xw_cb86 hm (fun j hj => ⟨hcb j hj, (hes'.2.1 j hj).1⟩) (fun a_stays h2 => ⟨1001, ?_⟩) (m + 1) 0 a_stays (by omega) (by omega) (fun c hc => ⟨fun _ ⟨j, j1, _⟩ => by omega, fun _ => h1 c hc⟩)
      refine xw_cb116 (P := tq_ch nf fr rn a_cells f) (fun c hc => ?_) (fun c hc => hc.1) (fun k e' a_combo h3 h4 => ?_) 1001 0 0 (fun _ => 0) a_combo (by omega) (by omega) (by omega) (tq_en_0 (fun x hx => by omega)) (fun j hj => absurd hj (by omega))
      · rw [h2 c hc]
        exact ⟨fun q r => q (hes'.2.2 c r), fun q ⟨j, j1, j2⟩ => q (by rw [← j2]; exact hes'.2.1 j j1)⟩
      · have ek := tq_es_en hes' h3
        subst ek
        exact hp m e' _ _ _ _ _ _ _ _ hm h3 h4
    refine br_f (nI_ge z (by omega)) ?_
    refine xw_nextTable (cc := cc) n3 hI hN hPT.1 hPT.2.1 S8 (fun p hpn => ⟨(hCN p hpn).1, (hCN p hpn).2.1⟩) ?_ (fun p hpn hSp => ?_)
    · obtain ⟨p, _, p2, p3⟩ := tq_ct_l ⟨nf, by omega⟩ ⟨S, S8⟩ (by show tq_ct S nf < nf; omega)
      exact ⟨p, p2, p3⟩
    · have hp3 : p < 3 := by omega
      refine xw_joinTable (cc := cc) (cn := cn) (e := e) d fl rl crg hI hN hPT.1 hPT.2.1 hpn S8 hSp hCN hm hcb hes (fun nc nx cn' a_truth a_current a_can a_nextCombo a_combo h1 h2 h3 h4 => ?_)
      refine nm_r (nI_1 i) (ih (i + 1) (S ||| 2 ^ p) nc nx cn' _ a_truth a_current a_can a_combo a_nextCombo (by omega) (by omega) (tq_or8 S8 (tq_one8 hp3)) (fun q hq hb => ?_) ?_ h1 h2 h3 h4)
      · rw [tq_orb] at hb
        by_cases a : p = q
        · omega
        · rw [decide_eq_false a, Bool.or_false] at hb
          exact hSb q hq hb
      · have := tq_ct_s ⟨nf, by omega⟩ ⟨S, S8⟩ ⟨p, hp3⟩ hpn hSp
        rw [show tq_ct (S ||| 2 ^ p) nf = tq_ct S nf + 1 from this, hct]
end
section
variable {nf ni nt : Nat} {fr ik ic tk rn : Nat → Nat} {f_group f_distinct f_orderItem f_orderDown f_limit f_nodes f_waitingNodes f_waitingWords f_broken f_top f_combos f_nextCombos f_placed f_results : Int32} {a_cells a_kind a_left a_right a_needs a_truth a_waitNode a_waitWord a_part a_canCount a_can a_combo a_nextCombo a_current a_stays a_result a_index a_sorted a_key a_table : Nat → Int32}
theorem xw_combine {post : SX → Prop} {N np : Nat} {f : tq_V} {G : Nat → tq_Nd} {pt : Nat → Nat} (d : tq_ds nf fr) (fl : ∀ i, fr i < 3) (rl : ∀ i, rn i ≤ 10) (crg : ∀ i, tq_rg (a_cells i)) (hI : tq_NI nf fr N G a_kind a_left a_right a_needs) (hN : N ≤ 24) (hPT : tq_PT N G np pt a_part f)
    (hp : ∀ (m : Nat) (e : Nat → Nat) (f_placed f_nextCombos : Int32) (a_truth a_current a_canCount a_can a_nextCombo a_stays a_combo : Nat → Int32), m ≤ 1000 → tq_EN (· < ·) (tq_ch nf fr rn a_cells f) e m → (∀ j, j < m → a_combo j = nI (e j)) → post ((nI nf), (nI ni), (nI nt), f_group, f_distinct, f_orderItem, f_orderDown, f_limit, f_nodes, f_waitingNodes, f_waitingWords, f_broken, f_top, (nI np), (nI m), f_nextCombos, f_placed, f_results, (tq_n rn), a_cells, (tq_n fr), (tq_n ik), (tq_n ic), (tq_n tk), a_kind, a_left, a_right, a_needs, a_truth, a_waitNode, a_waitWord, a_part, a_canCount, a_can, a_combo, a_nextCombo, a_current, a_stays, a_result, a_index, a_sorted, a_key, a_table)) : wpX_combine post ((nI nf), (nI ni), (nI nt), f_group, f_distinct, f_orderItem, f_orderDown, f_limit, f_nodes, f_waitingNodes, f_waitingWords, f_broken, f_top, (nI np), f_combos, f_nextCombos, f_placed, f_results, (tq_n rn), a_cells, (tq_n fr), (tq_n ik), (tq_n ic), (tq_n tk), a_kind, a_left, a_right, a_needs, a_truth, a_waitNode, a_waitWord, a_part, a_canCount, a_can, a_combo, a_nextCombo, a_current, a_stays, a_result, a_index, a_sorted, a_key, a_table) := by
  unfold wpX_combine
  dsimp only
  have cu : tq_cu 0 a_current (fun _ => 0) := fun p _ hb => absurd hb (by simp)
  have ct0 : tq_ct 0 nf = 0 := by simp [tq_ct]
  have es : ∀ v : Nat, (v = 1 ∧ tq_all G np pt 0 0 (tq_vv a_cells (tq_rho nf fr (fun _ => 0))) ∨ v = 0 ∧ ¬ tq_all G np pt 0 0 (tq_vv a_cells (tq_rho nf fr (fun _ => 0)))) → tq_es v (fun _ => 0) (tq_gd nf fr rn a_cells G np pt 0) := by
    intro v hv
    have conv : ∀ c, tq_gd nf fr rn a_cells G np pt 0 c → c = 0 ∧ tq_all G np pt 0 0 (tq_vv a_cells (tq_rho nf fr (fun _ => 0))) := by
      rintro c ⟨g1, g2, g3⟩
      have ez : c = 0 := tq_dg_inj g1 (by omega) (fun p hp => by
        rw [(g2 p hp).2 (by simp), tq_dg0])
      refine ⟨ez, fun j hj hs => ?_⟩
      rw [tq_dep (cur' := tq_dg c) hI.2 _ (hPT.2.1 j hj).2 (fun p hp hb => absurd (hs.1 p hp hb) (by simp))]
      exact g3 j hj hs.1
    rcases hv with ⟨rfl, h⟩ | ⟨rfl, h⟩
    · refine ⟨fun i j hij hj => absurd hij (by omega), fun i hi => ⟨show 0 < 1000 by omega, fun p hp => ⟨fun q => absurd q (by simp), fun _ => tq_dg0 p⟩, fun j hj hs => ?_⟩, fun x hx => ⟨0, by omega, (conv x hx).1.symm⟩⟩
      · have m8 := (hI.1 _ (hPT.2.1 j hj).2).2.2.2.2
        rw [tq_dep (cur' := fun _ => 0) hI.2 _ (hPT.2.1 j hj).2 (fun p hp hb => absurd (hs p hp hb) (by simp))]
        refine h j hj ⟨hs, Or.inl ⟨rfl, ?_⟩⟩
        refine tq_ext8 ⟨_, m8⟩ ⟨0, by omega⟩ (fun p hp => ?_)
        show (G (pt j)).2.2.2.1.testBit p = (0 : Nat).testBit p
        cases c : (G (pt j)).2.2.2.1.testBit p
        · simp
        · have := hs p hp c
          rw [this]
    · exact ⟨fun i j _ hj => absurd hj (by omega), fun i hi => absurd hi (by omega), fun x hx => absurd (conv x hx).2 h⟩
  have go : ∀ (v : Nat) (a_truth a_current a_canCount a_can : Nat → Int32) (cc : Nat → Nat) (cn : Nat → Nat → Nat), v ≤ 1 → tq_es v (fun _ => 0) (tq_gd nf fr rn a_cells G np pt 0) → (∀ p, p < nf → tq_CN (rn (fr p)) (tq_own nf fr a_cells G np pt p) p (cc p) (cn p) a_canCount a_can) → wX_combine_26 post (nI v) (nI nf) (nI ni) (nI nt) f_group f_distinct f_orderItem f_orderDown f_limit f_nodes f_waitingNodes f_waitingWords f_broken f_top (nI np) f_combos f_nextCombos 0 f_results (tq_n rn) a_cells (tq_n fr) (tq_n ik) (tq_n ic) (tq_n tk) a_kind a_left a_right a_needs a_truth a_waitNode a_waitWord a_part a_canCount a_can a_combo a_nextCombo a_current a_stays a_result a_index a_sorted a_key a_table := by
    intro v a_truth a_current a_canCount a_can cc cn hv hes hCN
    refine nm_e ⟨nf + 1, ?_⟩
    exact xw_cb38 (cc := cc) d fl rl crg hI hN hPT (fun m e f_placed f_nextCombos a_truth a_current a_can a_nextCombo a_stays a_combo h1 h2 h3 => hp m e f_placed f_nextCombos a_truth a_current a_canCount a_can a_nextCombo a_stays a_combo h1 h2 h3) (nf + 1) 0 0 v (fun _ => 0) cn f_nextCombos a_truth a_current a_can _ a_nextCombo (by omega) (by omega) (by omega) (fun p _ hb => absurd hb (by simp)) ct0 hCN (by omega) (fun j hj => by rw [show j = 0 by omega, pk_us]; rfl) hes
  refine xw_fits (hv := 0) (fs := 0) (cur := fun _ => 0) d fl hI hN hPT.1 hPT.2.1 (by omega) (by omega) cu (fun y a_truth => ?_) (fun y a_truth => ?_)
  · refine xw_chooseRows d fl rl hI hN hPT.1 hPT.2.1 (fun a_truth a_current a_canCount a_can cc cn hCN => br_f (by decide) ?_)
    exact go 1 a_truth a_current a_canCount a_can cc cn (by omega) (es 1 (Or.inl ⟨rfl, y⟩)) hCN
  · refine xw_chooseRows d fl rl hI hN hPT.1 hPT.2.1 (fun a_truth a_current a_canCount a_can cc cn hCN => br_t rfl ?_)
    exact go 0 a_truth a_current a_canCount a_can cc cn (by omega) (es 0 (Or.inr ⟨rfl, y⟩)) hCN
end
end
section
def tq_su (ni : Nat) (ik : Nat → Nat) (grp : Int32) : Prop := ¬ grp < 0 ∨ ∃ i, i < ni ∧ 0 < ik i
def tq_bi (nf : Nat) (fr ik ic : Nat → Nat) (grp : Int32) (su : Prop) (i : Nat) : Prop := (ik i ≠ 1 ∧ ¬ tq_pc nf fr (ic i / 3) < 3) ∨ (su ∧ ik i = 0 ∧ nI (ic i) ≠ grp)
def tq_bz (nf ni : Nat) (fr : Nat → Nat) (grp oi : Int32) : Prop := ni = 0 ∨ nI ni ≤ oi ∨ ∃ g, g ≤ 8 ∧ grp = nI g ∧ ¬ tq_pc nf fr (g / 3) < 3
def tq_bad (nf ni : Nat) (fr ik ic : Nat → Nat) (grp oi : Int32) : Prop := tq_bz nf ni fr grp oi ∨ ∃ i, i < ni ∧ tq_bi nf fr ik ic grp (tq_su ni ik grp) i
theorem tq_g_neg {grp : Int32} (hg : grp = -1 ∨ ∃ g, g ≤ 8 ∧ grp = nI g) (h : grp < 0) : grp = -1 := by
  rcases hg with q | ⟨g, g1, rfl⟩
  · exact q
  · exact absurd h (nI_pos (by omega))
theorem tq_g_pos {grp : Int32} (hg : grp = -1 ∨ ∃ g, g ≤ 8 ∧ grp = nI g) (h : ¬ grp < 0) : ∃ g, g ≤ 8 ∧ grp = nI g := by
  rcases hg with q | q
  · rw [q] at h; exact absurd (by decide) h
  · exact q
section
variable {nf ni nt : Nat} {fr ik ic tk rn : Nat → Nat} {f_group f_distinct f_orderItem f_orderDown f_limit f_nodes f_waitingNodes f_waitingWords f_broken f_top f_parts f_combos f_nextCombos f_placed f_results : Int32} {a_cells a_kind a_left a_right a_needs a_truth a_waitNode a_waitWord a_part a_canCount a_can a_combo a_nextCombo a_current a_stays a_result a_index a_sorted a_key a_table : Nat → Int32}
theorem xw_foreign {post : Int32 → Prop} {k : Nat} (d : tq_ds nf fr) (fl : ∀ i, fr i < 3) (hk : k < 9) (h0 : tq_pc nf fr (k / 3) < 3 → post 0) (h1 : ¬ tq_pc nf fr (k / 3) < 3 → post 1) : wpX_foreign post ((nI nf), (nI ni), (nI nt), f_group, f_distinct, f_orderItem, f_orderDown, f_limit, f_nodes, f_waitingNodes, f_waitingWords, f_broken, f_top, f_parts, f_combos, f_nextCombos, f_placed, f_results, (tq_n rn), a_cells, (tq_n fr), (tq_n ik), (tq_n ic), (tq_n tk), a_kind, a_left, a_right, a_needs, a_truth, a_waitNode, a_waitWord, a_part, a_canCount, a_can, a_combo, a_nextCombo, a_current, a_stays, a_result, a_index, a_sorted, a_key, a_table) (nI k) := by
  unfold wpX_foreign
  dsimp only
  rw [show nI k / 3 = nI (k / 3) from pk_div (d := 3) (by omega) (by omega) (by decide)]
  refine ⟨by decide, xw_placeOf d.1 (by omega) fl ?_⟩
  by_cases z : tq_pc nf fr (k / 3) < 3
  · rw [tq_pl_t d z]; exact br_t (nI_pos' (by omega)) (h0 z)
  · rw [tq_pl_f d z]; exact br_f tq_m1 (h1 z)
theorem xw_su1 {post : Int32 → Prop} (hni : ni ≤ 4) (il : ∀ i, ik i ≤ 4) (h1 : tq_su ni ik f_group → post 1) (h0 : ¬ tq_su ni ik f_group → post 0) : ∀ (n i : Nat) (x1 : Int32), ni < n + i → i ≤ ni → ((x1 = 1 ∧ tq_su ni ik f_group) ∨ (x1 = 0 ∧ f_group < 0 ∧ ∀ j, j < i → ik j = 0)) → wX_summarised_15 post (nI nf) (nI ni) (nI nt) f_group f_distinct f_orderItem f_orderDown f_limit f_nodes f_waitingNodes f_waitingWords f_broken f_top f_parts f_combos f_nextCombos f_placed f_results (tq_n rn) a_cells (tq_n fr) (tq_n ik) (tq_n ic) (tq_n tk) a_kind a_left a_right a_needs a_truth a_waitNode a_waitWord a_part a_canCount a_can a_combo a_nextCombo a_current a_stays a_result a_index a_sorted a_key a_table n x1 (nI i) := by
  intro n
  induction n with
  | zero => intro i x1 q1 q2; omega
  | succ n ih =>
    intro i x1 hf hi hx
    rcases Nat.lt_or_ge i ni with z | z
    rotate_left
    · refine br_t (nI_le z (by omega)) ?_
      rcases hx with ⟨rfl, s⟩ | ⟨rfl, g, s⟩
      · exact ⟨rfl, h1 s⟩
      · refine ⟨rfl, h0 (fun q => ?_)⟩
        rcases q with q | ⟨j, j1, j2⟩
        · exact q g
        · have := s j (by omega); omega
    refine br_f (nI_ge z (by omega)) ?_
    rw [nI_1]
    have b := il i
    rcases hx with ⟨rfl, s⟩ | ⟨rfl, g, s⟩
    · exact br_f (by decide) (nm_e (ih (i + 1) 1 (by omega) (by omega) (Or.inl ⟨rfl, s⟩)))
    · refine br_t rfl ⟨vp_in_nI (by omega) (by decide), ?_⟩
      rw [nI_clamp (show i < 2 ^ 31 by omega)]
      refine pk_le (ik i) 0 (fun q => nm_e (ih (i + 1) 0 (by omega) (by omega) (Or.inr ⟨rfl, g, fun j hj => ?_⟩))) (fun q => nm_e (ih (i + 1) 1 (by omega) (by omega) (Or.inl ⟨rfl, Or.inr ⟨i, z, q⟩⟩)))
      by_cases e : j = i
      · rw [e]; omega
      · exact s j (by omega)
theorem xw_summarised {post : Int32 → Prop} (hni : ni ≤ 4) (il : ∀ i, ik i ≤ 4) (h1 : tq_su ni ik f_group → post 1) (h0 : ¬ tq_su ni ik f_group → post 0) : wpX_summarised post ((nI nf), (nI ni), (nI nt), f_group, f_distinct, f_orderItem, f_orderDown, f_limit, f_nodes, f_waitingNodes, f_waitingWords, f_broken, f_top, f_parts, f_combos, f_nextCombos, f_placed, f_results, (tq_n rn), a_cells, (tq_n fr), (tq_n ik), (tq_n ic), (tq_n tk), a_kind, a_left, a_right, a_needs, a_truth, a_waitNode, a_waitWord, a_part, a_canCount, a_can, a_combo, a_nextCombo, a_current, a_stays, a_result, a_index, a_sorted, a_key, a_table) := by
  unfold wpX_summarised
  dsimp only
  refine br_c (fun q => ⟨ni + 1, ?_⟩) (fun q => ⟨ni + 1, ?_⟩)
  · exact xw_su1 hni il h1 h0 (ni + 1) 0 0 (by omega) (by omega) (Or.inr ⟨rfl, q, fun j hj => absurd hj (by omega)⟩)
  · exact xw_su1 hni il h1 h0 (ni + 1) 0 1 (by omega) (by omega) (Or.inl ⟨rfl, Or.inl q⟩)
theorem xw_bi1 {post : Int32 → Prop} {x2 : Int32} (d : tq_ds nf fr) (fl : ∀ i, fr i < 3) (hni : ni ≤ 4) (il : ∀ i, ik i ≤ 4) (cl : ∀ i, ic i ≤ 8) (hx2 : (x2 = 1 ∧ tq_su ni ik f_group) ∨ (x2 = 0 ∧ ¬ tq_su ni ik f_group)) (h1 : tq_bad nf ni fr ik ic f_group f_orderItem → post 1) (h0 : ¬ tq_bad nf ni fr ik ic f_group f_orderItem → post 0) : ∀ (n i : Nat) (x1 : Int32), ni < n + i → i ≤ ni → ((x1 = 1 ∧ tq_bad nf ni fr ik ic f_group f_orderItem) ∨ (x1 = 0 ∧ ¬ tq_bz nf ni fr f_group f_orderItem ∧ ∀ j, j < i → ¬ tq_bi nf fr ik ic f_group (tq_su ni ik f_group) j)) → wX_badItems_49 post x2 (nI nf) (nI ni) (nI nt) f_group f_distinct f_orderItem f_orderDown f_limit f_nodes f_waitingNodes f_waitingWords f_broken f_top f_parts f_combos f_nextCombos f_placed f_results (tq_n rn) a_cells (tq_n fr) (tq_n ik) (tq_n ic) (tq_n tk) a_kind a_left a_right a_needs a_truth a_waitNode a_waitWord a_part a_canCount a_can a_combo a_nextCombo a_current a_stays a_result a_index a_sorted a_key a_table n x1 (nI i) := by
  intro n
  induction n with
  | zero => intro i x1 q1 q2; omega
  | succ n ih =>
    intro i x1 hf hi hx
    rcases Nat.lt_or_ge i ni with z | z
    rotate_left
    · refine br_t (nI_le z (by omega)) ?_
      rcases hx with ⟨rfl, s⟩ | ⟨rfl, g, s⟩
      · exact ⟨rfl, h1 s⟩
      · refine ⟨rfl, h0 (fun q => ?_)⟩
        rcases q with q | ⟨j, j1, j2⟩
        · exact g q
        · exact s j (by omega) j2
    have b := il i
    have c := cl i
    have vi : vp_in (nI i) 4 := vp_in_nI (by omega) (by decide)
    refine br_f (nI_ge z (by omega)) ⟨vi, ?_⟩
    rw [nI_clamp (show i < 2 ^ 31 by omega)]
    have good : (¬ tq_bi nf fr ik ic f_group (tq_su ni ik f_group) i) → wX_badItems_118 post (wX_badItems_49 post x2 (nI nf) (nI ni) (nI nt) f_group f_distinct f_orderItem f_orderDown f_limit f_nodes f_waitingNodes f_waitingWords f_broken f_top f_parts f_combos f_nextCombos f_placed f_results (tq_n rn) a_cells (tq_n fr) (tq_n ik) (tq_n ic) (tq_n tk) a_kind a_left a_right a_needs a_truth a_waitNode a_waitWord a_part a_canCount a_can a_combo a_nextCombo a_current a_stays a_result a_index a_sorted a_key a_table n) x1 x2 (nI i) 0 0 (nI nf) (nI ni) (nI nt) f_group f_distinct f_orderItem f_orderDown f_limit f_nodes f_waitingNodes f_waitingWords f_broken f_top f_parts f_combos f_nextCombos f_placed f_results (tq_n rn) a_cells (tq_n fr) (tq_n ik) (tq_n ic) (tq_n tk) a_kind a_left a_right a_needs a_truth a_waitNode a_waitWord a_part a_canCount a_can a_combo a_nextCombo a_current a_stays a_result a_index a_sorted a_key a_table := by
      intro nb
      rcases hx with ⟨rfl, s⟩ | ⟨rfl, g, s⟩
      · exact br_f (by decide) (nm_r (nI_1 i) (ih (i + 1) 1 (by omega) (by omega) (Or.inl ⟨rfl, s⟩)))
      · refine br_t rfl (br_t rfl (br_t rfl (nm_r (nI_1 i) (ih (i + 1) 0 (by omega) (by omega) (Or.inr ⟨rfl, g, fun j hj => ?_⟩)))))
        by_cases e : j = i
        · rw [e]; exact nb
        · exact s j (by omega)
    have evil : ∀ a l : Int32, (¬ a = 0 ∨ ¬ l = 0) → tq_bi nf fr ik ic f_group (tq_su ni ik f_group) i → wX_badItems_118 post (wX_badItems_49 post x2 (nI nf) (nI ni) (nI nt) f_group f_distinct f_orderItem f_orderDown f_limit f_nodes f_waitingNodes f_waitingWords f_broken f_top f_parts f_combos f_nextCombos f_placed f_results (tq_n rn) a_cells (tq_n fr) (tq_n ik) (tq_n ic) (tq_n tk) a_kind a_left a_right a_needs a_truth a_waitNode a_waitWord a_part a_canCount a_can a_combo a_nextCombo a_current a_stays a_result a_index a_sorted a_key a_table n) x1 x2 (nI i) a l (nI nf) (nI ni) (nI nt) f_group f_distinct f_orderItem f_orderDown f_limit f_nodes f_waitingNodes f_waitingWords f_broken f_top f_parts f_combos f_nextCombos f_placed f_results (tq_n rn) a_cells (tq_n fr) (tq_n ik) (tq_n ic) (tq_n tk) a_kind a_left a_right a_needs a_truth a_waitNode a_waitWord a_part a_canCount a_can a_combo a_nextCombo a_current a_stays a_result a_index a_sorted a_key a_table := by
      intro a l hal bi
      have K := ih (i + 1) 1 (by omega) (by omega) (Or.inl ⟨rfl, Or.inr ⟨i, z, bi⟩⟩)
      refine br_c (fun _ => br_c (fun a0 => br_f ?_ (nm_r (nI_1 i) K)) (fun _ => nm_r (nI_1 i) K)) (fun _ => nm_r (nI_1 i) K)
      rcases hal with q | q
      · exact absurd a0 q
      · exact q
    have second : ∀ a : Int32, ((¬ a = 0 ∧ (ik i ≠ 1 ∧ ¬ tq_pc nf fr (ic i / 3) < 3)) ∨ (a = 0 ∧ ¬ (ik i ≠ 1 ∧ ¬ tq_pc nf fr (ic i / 3) < 3))) → wX_badItems_85 post (wX_badItems_49 post x2 (nI nf) (nI ni) (nI nt) f_group f_distinct f_orderItem f_orderDown f_limit f_nodes f_waitingNodes f_waitingWords f_broken f_top f_parts f_combos f_nextCombos f_placed f_results (tq_n rn) a_cells (tq_n fr) (tq_n ik) (tq_n ic) (tq_n tk) a_kind a_left a_right a_needs a_truth a_waitNode a_waitWord a_part a_canCount a_can a_combo a_nextCombo a_current a_stays a_result a_index a_sorted a_key a_table n) x1 x2 (nI i) a (nI nf) (nI ni) (nI nt) f_group f_distinct f_orderItem f_orderDown f_limit f_nodes f_waitingNodes f_waitingWords f_broken f_top f_parts f_combos f_nextCombos f_placed f_results (tq_n rn) a_cells (tq_n fr) (tq_n ik) (tq_n ic) (tq_n tk) a_kind a_left a_right a_needs a_truth a_waitNode a_waitWord a_part a_canCount a_can a_combo a_nextCombo a_current a_stays a_result a_index a_sorted a_key a_table := by
      intro a ha
      have fin : (¬ (tq_su ni ik f_group ∧ ik i = 0 ∧ nI (ic i) ≠ f_group)) → wX_badItems_117 post (wX_badItems_49 post x2 (nI nf) (nI ni) (nI nt) f_group f_distinct f_orderItem f_orderDown f_limit f_nodes f_waitingNodes f_waitingWords f_broken f_top f_parts f_combos f_nextCombos f_placed f_results (tq_n rn) a_cells (tq_n fr) (tq_n ik) (tq_n ic) (tq_n tk) a_kind a_left a_right a_needs a_truth a_waitNode a_waitWord a_part a_canCount a_can a_combo a_nextCombo a_current a_stays a_result a_index a_sorted a_key a_table n) x1 x2 (nI i) a (nI nf) (nI ni) (nI nt) f_group f_distinct f_orderItem f_orderDown f_limit f_nodes f_waitingNodes f_waitingWords f_broken f_top f_parts f_combos f_nextCombos f_placed f_results (tq_n rn) a_cells (tq_n fr) (tq_n ik) (tq_n ic) (tq_n tk) a_kind a_left a_right a_needs a_truth a_waitNode a_waitWord a_part a_canCount a_can a_combo a_nextCombo a_current a_stays a_result a_index a_sorted a_key a_table := by
        intro nn
        rcases ha with ⟨h, h2⟩ | ⟨rfl, h2⟩
        · exact evil a 0 (Or.inl h) (Or.inl h2)
        · exact good (fun q => by rcases q with q | q; exact h2 q; exact nn q)
      rcases hx2 with ⟨rfl, su⟩ | ⟨rfl, su⟩
      · refine br_f (by decide) ⟨vi, ?_⟩
        rw [nI_clamp (show i < 2 ^ 31 by omega)]
        refine pk_eq (ik i) 0 (fun e => ⟨vi, br_c (fun g => fin (fun q => q.2.2 g)) (fun g => evil a 1 (Or.inr (by decide)) (Or.inr ⟨su, e, g⟩))⟩) (fun e => fin (fun q => e q.2.1))
      · exact br_t rfl (fin (fun q => su q.1))
    refine pk_eq (ik i) 1 (fun e => second 0 (Or.inr ⟨rfl, fun q => q.1 e⟩)) (fun e => ⟨vi, ?_⟩)
    exact xw_foreign d fl (by omega) (fun q => br_t rfl (second 0 (Or.inr ⟨rfl, fun w => w.2 q⟩))) (fun q => br_f (by decide) (second 1 (Or.inl ⟨by decide, e, q⟩)))
theorem xw_badItems {post : Int32 → Prop} (d : tq_ds nf fr) (fl : ∀ i, fr i < 3) (hni : ni ≤ 4) (il : ∀ i, ik i ≤ 4) (cl : ∀ i, ic i ≤ 8) (hg : f_group = -1 ∨ ∃ g, g ≤ 8 ∧ f_group = nI g) (h1 : tq_bad nf ni fr ik ic f_group f_orderItem → post 1) (h0 : ¬ tq_bad nf ni fr ik ic f_group f_orderItem → post 0) : wpX_badItems post ((nI nf), (nI ni), (nI nt), f_group, f_distinct, f_orderItem, f_orderDown, f_limit, f_nodes, f_waitingNodes, f_waitingWords, f_broken, f_top, f_parts, f_combos, f_nextCombos, f_placed, f_results, (tq_n rn), a_cells, (tq_n fr), (tq_n ik), (tq_n ic), (tq_n tk), a_kind, a_left, a_right, a_needs, a_truth, a_waitNode, a_waitWord, a_part, a_canCount, a_can, a_combo, a_nextCombo, a_current, a_stays, a_result, a_index, a_sorted, a_key, a_table) := by
  unfold wpX_badItems
  dsimp only
  have go : ∀ x1 : Int32, ((x1 = 1 ∧ tq_bad nf ni fr ik ic f_group f_orderItem) ∨ (x1 = 0 ∧ ¬ tq_bz nf ni fr f_group f_orderItem)) → wX_badItems_41 post x1 (nI nf) (nI ni) (nI nt) f_group f_distinct f_orderItem f_orderDown f_limit f_nodes f_waitingNodes f_waitingWords f_broken f_top f_parts f_combos f_nextCombos f_placed f_results (tq_n rn) a_cells (tq_n fr) (tq_n ik) (tq_n ic) (tq_n tk) a_kind a_left a_right a_needs a_truth a_waitNode a_waitWord a_part a_canCount a_can a_combo a_nextCombo a_current a_stays a_result a_index a_sorted a_key a_table := by
    intro x1 hx
    have hx' : (x1 = 1 ∧ tq_bad nf ni fr ik ic f_group f_orderItem) ∨ (x1 = 0 ∧ ¬ tq_bz nf ni fr f_group f_orderItem ∧ ∀ j, j < 0 → ¬ tq_bi nf fr ik ic f_group (tq_su ni ik f_group) j) := by
      rcases hx with q | ⟨q1, q2⟩
      · exact Or.inl q
      · exact Or.inr ⟨q1, q2, fun j hj => absurd hj (by omega)⟩
    refine xw_summarised hni il (fun q => ⟨ni + 1, ?_⟩) (fun q => ⟨ni + 1, ?_⟩)
    · exact xw_bi1 d fl hni il cl (Or.inl ⟨rfl, q⟩) h1 h0 (ni + 1) 0 x1 (by omega) (by omega) hx'
    · exact xw_bi1 d fl hni il cl (Or.inr ⟨rfl, q⟩) h1 h0 (ni + 1) 0 x1 (by omega) (by omega) hx'
  refine pk_eq ni 0 (fun e => go 1 (Or.inl ⟨rfl, Or.inl (Or.inl e)⟩)) (fun e => br_c (fun o => go 1 (Or.inl ⟨rfl, Or.inl (Or.inr (Or.inl o))⟩)) (fun o => br_c (fun g => ?_) (fun g => ?_)))
  · refine go 0 (Or.inr ⟨rfl, fun q => ?_⟩)
    rcases q with q | q | ⟨g', g1, g2, _⟩
    · exact e q
    · exact o q
    · rw [g2] at g; exact absurd g (nI_pos (by omega))
  · obtain ⟨g', g1, g2⟩ := tq_g_pos hg g
    subst g2
    refine xw_foreign d fl (by omega) (fun p => br_t rfl (go 0 (Or.inr ⟨rfl, fun q => ?_⟩))) (fun p => br_f (by decide) (go 1 (Or.inl ⟨rfl, Or.inl (Or.inr (Or.inr ⟨g', g1, rfl, p⟩))⟩)))
    rcases q with q | q | ⟨g'', k1, k2, k3⟩
    · exact e q
    · exact o q
    · rw [nI_eq (by omega) (by omega)] at k2
      subst k2
      exact k3 p
end
section
variable {nf ni nt : Nat} {fr ik ic tk rn : Nat → Nat} {g_grouped g_distinct g_orderItem g_orderDown g_most g_truthCount g_openCount g_chosenCount g_resultCount : Int32} {b_cells b_at b_truths b_open b_chosen b_results : Nat → Int32}
theorem yw_hs1 {post : Int32 → Prop} (hni : ni ≤ 4) (il : ∀ i, ik i ≤ 4) (h1 : (∃ i, i < ni ∧ 0 < ik i) → post 1) (h0 : (¬ ∃ i, i < ni ∧ 0 < ik i) → post 0) : ∀ (n i : Nat), ni < n + i → i ≤ ni → (∀ j, j < i → ik j = 0) → wY_hasSummary_2 post (nI nf) (nI ni) (nI nt) g_grouped g_distinct g_orderItem g_orderDown g_most g_truthCount g_openCount g_chosenCount g_resultCount b_cells (tq_n rn) (tq_n fr) (tq_n ik) (tq_n ic) (tq_n tk) b_at b_truths b_open b_chosen b_results n (nI i) := by
  intro n
  induction n with
  | zero => intro i q1 q2; omega
  | succ n ih =>
    intro i hf hi hx
    rcases Nat.lt_or_ge i ni with z | z
    rotate_left
    · refine br_t (nI_le z (by omega)) (h0 (fun ⟨j, j1, j2⟩ => ?_))
      have := hx j (by omega); omega
    have b := il i
    refine br_f (nI_ge z (by omega)) ⟨vp_in_nI (by omega) (by decide), ?_⟩
    rw [nI_clamp (show i < 2 ^ 31 by omega), nI_1]
    refine pk_le (ik i) 0 (fun q => nm_e (ih (i + 1) (by omega) (by omega) (fun j hj => ?_))) (fun q => h1 ⟨i, z, q⟩)
    by_cases e : j = i
    · rw [e]; omega
    · exact hx j (by omega)
theorem yw_hasSummary {post : Int32 → Prop} (hni : ni ≤ 4) (il : ∀ i, ik i ≤ 4) (h1 : (∃ i, i < ni ∧ 0 < ik i) → post 1) (h0 : (¬ ∃ i, i < ni ∧ 0 < ik i) → post 0) : wpY_hasSummary post ((nI nf), (nI ni), (nI nt), g_grouped, g_distinct, g_orderItem, g_orderDown, g_most, g_truthCount, g_openCount, g_chosenCount, g_resultCount, b_cells, (tq_n rn), (tq_n fr), (tq_n ik), (tq_n ic), (tq_n tk), b_at, b_truths, b_open, b_chosen, b_results) :=
  ⟨ni + 1, yw_hs1 hni il h1 h0 (ni + 1) 0 (by omega) (by omega) (fun j hj => absurd hj (by omega))⟩
theorem yw_ai1 {post : Int32 → Prop} {x1 : Int32} (d : tq_ds nf fr) (fl : ∀ i, fr i < 3) (hni : ni ≤ 4) (il : ∀ i, ik i ≤ 4) (cl : ∀ i, ic i ≤ 8) (hx1 : (x1 = 1 ∧ tq_su ni ik g_grouped) ∨ (x1 = 0 ∧ ¬ tq_su ni ik g_grouped)) (hb : ¬ tq_bz nf ni fr g_grouped g_orderItem) (h1 : ¬ tq_bad nf ni fr ik ic g_grouped g_orderItem → post 1) (h0 : tq_bad nf ni fr ik ic g_grouped g_orderItem → post 0) : ∀ (n i : Nat), ni < n + i → i ≤ ni → (∀ j, j < i → ¬ tq_bi nf fr ik ic g_grouped (tq_su ni ik g_grouped) j) → wY_areItems_62 post x1 (nI nf) (nI ni) (nI nt) g_grouped g_distinct g_orderItem g_orderDown g_most g_truthCount g_openCount g_chosenCount g_resultCount b_cells (tq_n rn) (tq_n fr) (tq_n ik) (tq_n ic) (tq_n tk) b_at b_truths b_open b_chosen b_results n (nI i) := by
  intro n
  induction n with
  | zero => intro i q1 q2; omega
  | succ n ih =>
    intro i hf hi hx
    rcases Nat.lt_or_ge i ni with z | z
    rotate_left
    · refine br_t (nI_le z (by omega)) (h1 (fun q => ?_))
      rcases q with q | ⟨j, j1, j2⟩
      · exact hb q
      · exact hx j (by omega) j2
    have b := il i
    have c := cl i
    have vi : vp_in (nI i) 4 := vp_in_nI (by omega) (by decide)
    refine br_f (nI_ge z (by omega)) ⟨vi, ?_⟩
    rw [nI_clamp (show i < 2 ^ 31 by omega)]
    have bad : tq_bi nf fr ik ic g_grouped (tq_su ni ik g_grouped) i → post 0 := fun q => h0 (Or.inr ⟨i, z, q⟩)
    have second : (¬ (ik i ≠ 1 ∧ ¬ tq_pc nf fr (ic i / 3) < 3)) → wY_areItems_99 post (wY_areItems_62 post x1 (nI nf) (nI ni) (nI nt) g_grouped g_distinct g_orderItem g_orderDown g_most g_truthCount g_openCount g_chosenCount g_resultCount b_cells (tq_n rn) (tq_n fr) (tq_n ik) (tq_n ic) (tq_n tk) b_at b_truths b_open b_chosen b_results n) x1 (nI i) (nI nf) (nI ni) (nI nt) g_grouped g_distinct g_orderItem g_orderDown g_most g_truthCount g_openCount g_chosenCount g_resultCount b_cells (tq_n rn) (tq_n fr) (tq_n ik) (tq_n ic) (tq_n tk) b_at b_truths b_open b_chosen b_results := by
      intro h2
      have fin : (¬ (tq_su ni ik g_grouped ∧ ik i = 0 ∧ nI (ic i) ≠ g_grouped)) → ∀ y, y = nI i + 1 → wY_areItems_62 post x1 (nI nf) (nI ni) (nI nt) g_grouped g_distinct g_orderItem g_orderDown g_most g_truthCount g_openCount g_chosenCount g_resultCount b_cells (tq_n rn) (tq_n fr) (tq_n ik) (tq_n ic) (tq_n tk) b_at b_truths b_open b_chosen b_results n y := by
        intro nn
        refine nm_r (nI_1 i) (ih (i + 1) (by omega) (by omega) (fun j hj => ?_))
        by_cases e : j = i
        · rw [e]
          intro q
          rcases q with q | q
          · exact h2 q
          · exact nn q
        · exact hx j (by omega)
      refine br_t rfl ?_
      rcases hx1 with ⟨rfl, su⟩ | ⟨rfl, su⟩
      · refine br_f (by decide) ⟨vi, ?_⟩
        rw [nI_clamp (show i < 2 ^ 31 by omega)]
        refine pk_eq (ik i) 0 (fun e => ⟨vi, br_c (fun g => fin (fun q => q.2.2 g)) (fun g => bad (Or.inr ⟨su, e, g⟩))⟩) (fun e => fin (fun q => e q.2.1))
      · exact br_t rfl (fin (fun q => su q.1))
    refine pk_eq (ik i) 1 (fun e => second (fun q => q.1 e)) (fun e => ⟨vi, by decide, ?_⟩)
    rw [show tq_n ic i / 3 = nI (ic i / 3) from pk_div (d := 3) (by omega) (by omega) (by decide)]
    exact yw_isFrom d (by omega) fl (fun q => br_f (by decide) (second (fun w => w.2 q))) (fun q => br_t rfl (br_f (by decide) (bad (Or.inl ⟨e, q⟩))))
theorem yw_areItems {post : Int32 → Prop} (d : tq_ds nf fr) (fl : ∀ i, fr i < 3) (hni : ni ≤ 4) (il : ∀ i, ik i ≤ 4) (cl : ∀ i, ic i ≤ 8) (hg : g_grouped = -1 ∨ ∃ g, g ≤ 8 ∧ g_grouped = nI g) (h1 : ¬ tq_bad nf ni fr ik ic g_grouped g_orderItem → post 1) (h0 : tq_bad nf ni fr ik ic g_grouped g_orderItem → post 0) : wpY_areItems post ((nI nf), (nI ni), (nI nt), g_grouped, g_distinct, g_orderItem, g_orderDown, g_most, g_truthCount, g_openCount, g_chosenCount, g_resultCount, b_cells, (tq_n rn), (tq_n fr), (tq_n ik), (tq_n ic), (tq_n tk), b_at, b_truths, b_open, b_chosen, b_results) := by
  unfold wpY_areItems
  dsimp only
  have go : ∀ x1 : Int32, ((x1 = 1 ∧ tq_su ni ik g_grouped) ∨ (x1 = 0 ∧ ¬ tq_su ni ik g_grouped)) → wY_areItems_19 post x1 (nI nf) (nI ni) (nI nt) g_grouped g_distinct g_orderItem g_orderDown g_most g_truthCount g_openCount g_chosenCount g_resultCount b_cells (tq_n rn) (tq_n fr) (tq_n ik) (tq_n ic) (tq_n tk) b_at b_truths b_open b_chosen b_results := by
    intro x1 hx1
    refine pk_eq ni 0 (fun e => h0 (Or.inl (Or.inl e))) (fun e => br_c (fun o => h0 (Or.inl (Or.inr (Or.inl o)))) (fun o => br_c (fun g => ⟨ni + 1, ?_⟩) (fun g => ⟨by decide, ?_⟩)))
    · refine yw_ai1 d fl hni il cl hx1 (fun q => ?_) h1 h0 (ni + 1) 0 (by omega) (by omega) (fun j hj => absurd hj (by omega))
      rcases q with q | q | ⟨g', g1, g2, _⟩
      · exact e q
      · exact o q
      · rw [g2] at g; exact absurd g (nI_pos (by omega))
    · obtain ⟨g', g1, g2⟩ := tq_g_pos hg g
      subst g2
      rw [show nI g' / 3 = nI (g' / 3) from pk_div (d := 3) (by omega) (by omega) (by decide)]
      refine yw_isFrom d (by omega) fl (fun p => br_f (by decide) ⟨ni + 1, ?_⟩) (fun p => br_t rfl (h0 (Or.inl (Or.inr (Or.inr ⟨g', g1, rfl, p⟩)))))
      refine yw_ai1 d fl hni il cl hx1 (fun q => ?_) h1 h0 (ni + 1) 0 (by omega) (by omega) (fun j hj => absurd hj (by omega))
      rcases q with q | q | ⟨g'', k1, k2, k3⟩
      · exact e q
      · exact o q
      · rw [nI_eq (by omega) (by omega)] at k2
        subst k2
        exact k3 p
  refine br_c (fun g => go 1 (Or.inl ⟨rfl, Or.inl (Int32.not_lt.mpr g)⟩)) (fun g => ?_)
  have gn : g_grouped < 0 := Int32.not_le.mp g
  refine yw_hasSummary hni il (fun q => br_f (by decide) (go 1 (Or.inl ⟨rfl, Or.inr q⟩))) (fun q => br_t rfl (go 0 (Or.inr ⟨rfl, fun s => ?_⟩)))
  rcases s with s | s
  · exact s gn
  · exact q s
theorem yw_fault {post : Int32 → Prop} (d : tq_ds nf fr) (fl : ∀ i, fr i < 3) (h24 : nt ≤ 24) (tl : ∀ i, tk i ≤ 36) (hni : ni ≤ 4) (il : ∀ i, ik i ≤ 4) (cl : ∀ i, ic i ≤ 8) (hg : g_grouped = -1 ∨ ∃ g, g ≤ 8 ∧ g_grouped = nI g)
    (h4 : nf = 0 → post (-4000)) (h5 : nf ≠ 0 → tq_cnd nt tk (tq_ok nf fr) = none → post (-5000)) (h6 : ∀ f, nf ≠ 0 → tq_cnd nt tk (tq_ok nf fr) = some f → tq_bad nf ni fr ik ic g_grouped g_orderItem → post (-6000))
    (h0 : ∀ f, nf ≠ 0 → tq_cnd nt tk (tq_ok nf fr) = some f → ¬ tq_bad nf ni fr ik ic g_grouped g_orderItem → post 0) : wpY_fault post ((nI nf), (nI ni), (nI nt), g_grouped, g_distinct, g_orderItem, g_orderDown, g_most, g_truthCount, g_openCount, g_chosenCount, g_resultCount, b_cells, (tq_n rn), (tq_n fr), (tq_n ik), (tq_n ic), (tq_n tk), b_at, b_truths, b_open, b_chosen, b_results) := by
  unfold wpY_fault
  dsimp only
  have n3 := d.1
  refine pk_eq nf 0 h4 (fun e => ?_)
  refine yw_isCondition d fl h24 tl (fun q => br_t rfl (h5 e q)) (fun f q => br_f (by decide) ?_)
  exact yw_areItems d fl hni il cl hg (fun w => br_f (by decide) (h0 f e q w)) (fun w => br_t rfl (h6 f e q w))
end
end
section
/-! sorting by a key, equal ones in their order -/
def tq_lt (key : Nat → Int32) (a b : Nat) : Prop := key a < key b ∨ (key a = key b ∧ a < b)
theorem tq_lt_ir {key : Nat → Int32} (a : Nat) : ¬ tq_lt key a a := by
  rintro (h | h)
  · exact Int32.lt_irrefl h
  · omega
theorem tq_lt_tr {key : Nat → Int32} (a b c : Nat) (h1 : tq_lt key a b) (h2 : tq_lt key b c) : tq_lt key a c := by
  rcases h1 with h1 | ⟨h1, h1'⟩ <;> rcases h2 with h2 | ⟨h2, h2'⟩
  · exact Or.inl (Int32.lt_trans h1 h2)
  · exact Or.inl (by rw [← h2]; exact h1)
  · exact Or.inl (by rw [h1]; exact h2)
  · exact Or.inr ⟨h1.trans h2, by omega⟩
def tq_BK (key : Nat → Int32) (lo hi : Nat) (ix : Nat → Nat) : Prop := (∀ j, lo ≤ j → j < hi → lo ≤ ix j ∧ ix j < hi) ∧ (∀ x, lo ≤ x → x < hi → ∃ j, lo ≤ j ∧ j < hi ∧ ix j = x) ∧ (∀ i j, lo ≤ i → i < j → j < hi → tq_lt key (ix i) (ix j))
theorem tq_BK_cg {key : Nat → Int32} {lo hi : Nat} {ix ix' : Nat → Nat} (h : tq_BK key lo hi ix) (q : ∀ j, lo ≤ j → j < hi → ix' j = ix j) : tq_BK key lo hi ix' := by
  refine ⟨fun j h1 h2 => by rw [q j h1 h2]; exact h.1 j h1 h2, fun x h1 h2 => ?_, fun i j h1 h2 h3 => by rw [q i h1 (by omega), q j (by omega) h3]; exact h.2.2 i j h1 h2 h3⟩
  obtain ⟨j, a, b, c⟩ := h.2.1 x h1 h2
  exact ⟨j, a, b, by rw [q j a b]; exact c⟩
theorem tq_BK_en {key : Nat → Int32} {n : Nat} {ix : Nat → Nat} (h : tq_BK key 0 n ix) : tq_EN (tq_lt key) (fun x => x < n) ix n :=
  ⟨fun i j hij hj => h.2.2 i j (by omega) hij hj, fun i hi => (h.1 i (by omega) hi).2, fun x hx => by
    obtain ⟨j, _, b, c⟩ := h.2.1 x (by omega) hx
    exact ⟨j, b, c⟩⟩
/-- the state of a merge: D is done, R remains, so is sorted from lo to i -/
def tq_MI (key : Nat → Int32) (ix : Nat → Nat) (lo : Nat) (D R : Nat → Prop) (i : Nat) (so : Nat → Nat) : Prop :=
  (∀ j, lo ≤ j → j < i → ∃ q, D q ∧ so j = ix q) ∧ (∀ q, D q → ∃ j, lo ≤ j ∧ j < i ∧ so j = ix q) ∧ (∀ a b, lo ≤ a → a < b → b < i → tq_lt key (so a) (so b)) ∧ (∀ j q, lo ≤ j → j < i → R q → tq_lt key (so j) (ix q))
theorem tq_MI_iff {key : Nat → Int32} {ix : Nat → Nat} {lo i : Nat} {D R D' R' : Nat → Prop} {so : Nat → Nat} (hD : ∀ q, D q ↔ D' q) (hR : ∀ q, R' q → R q) (h : tq_MI key ix lo D R i so) : tq_MI key ix lo D' R' i so := by
  refine ⟨fun j h1 h2 => ?_, fun q hq => h.2.1 q ((hD q).mpr hq), h.2.2.1, fun j q h1 h2 hq => h.2.2.2 j q h1 h2 (hR q hq)⟩
  obtain ⟨q, a, b⟩ := h.1 j h1 h2
  exact ⟨q, (hD q).mp a, b⟩
theorem tq_MI_s {key : Nat → Int32} {ix : Nat → Nat} {lo i q0 : Nat} {D R : Nat → Prop} {so : Nat → Nat} (hlo : lo ≤ i) (h : tq_MI key ix lo D R i so) (h0 : R q0) (hm : ∀ q, R q → q ≠ q0 → tq_lt key (ix q0) (ix q)) : tq_MI key ix lo (fun q => D q ∨ q = q0) (fun q => R q ∧ q ≠ q0) (i + 1) (tq_u so i (ix q0)) := by
  refine ⟨fun j h1 h2 => ?_, fun q hq => ?_, fun a b h1 h2 h3 => ?_, fun j q h1 h2 hq => ?_⟩
  · by_cases e : j = i
    · exact ⟨q0, Or.inr rfl, by rw [e, tq_us]⟩
    · obtain ⟨q, a, b⟩ := h.1 j h1 (by omega)
      exact ⟨q, Or.inl a, by rw [tq_un e]; exact b⟩
  · rcases hq with hq | rfl
    · obtain ⟨j, a, b, c⟩ := h.2.1 q hq
      exact ⟨j, a, by omega, by rw [tq_un (by omega)]; exact c⟩
    · exact ⟨i, hlo, by omega, tq_us⟩
  · by_cases e : b = i
    · rw [e, tq_us, tq_un (by omega)]
      exact h.2.2.2 a q0 h1 (by omega) h0
    · rw [tq_un e, tq_un (by omega)]
      exact h.2.2.1 a b h1 h2 (by omega)
  · by_cases e : j = i
    · rw [e, tq_us]
      exact hm q hq.1 hq.2
    · rw [tq_un e]
      exact h.2.2.2 j q h1 (by omega) hq.1
def tq_DN (lo mid a b q : Nat) : Prop := (lo ≤ q ∧ q < a) ∨ (mid ≤ q ∧ q < b)
def tq_RM (mid hi a b q : Nat) : Prop := (a ≤ q ∧ q < mid) ∨ (b ≤ q ∧ q < hi)
theorem tq_MI_a {key : Nat → Int32} {ix so : Nat → Nat} {lo mid hi a b i : Nat} (h1 : tq_BK key lo mid ix) (h2 : tq_BK key mid hi ix) (ha : lo ≤ a) (ham : a < mid) (hb : mid ≤ b) (hbh : b ≤ hi) (hi1 : i + mid = a + b) (hk : hi ≤ b ∨ ¬ key (ix b) < key (ix a)) (h : tq_MI key ix lo (tq_DN lo mid a b) (tq_RM mid hi a b) i so) : tq_MI key ix lo (tq_DN lo mid (a + 1) b) (tq_RM mid hi (a + 1) b) (i + 1) (tq_u so i (ix a)) := by
  refine tq_MI_iff (fun q => ?_) (fun q hq => ?_) (tq_MI_s (by omega) h (q0 := a) (Or.inl ⟨Nat.le_refl _, ham⟩) (fun q hq hne => ?_))
  · unfold tq_DN; omega
  · unfold tq_RM at hq ⊢; omega
  · rcases hq with hq | hq
    · exact h1.2.2 a q ha (by omega) hq.2
    · have bh : b < hi := by omega
      have kk : ¬ key (ix b) < key (ix a) := by rcases hk with z | z; omega; exact z
      have la := (h1.1 a ha ham).2
      have lb := (h2.1 b hb bh).1
      have l1 : tq_lt key (ix a) (ix b) := by
        rcases Int32.lt_or_eq_of_le (Int32.not_lt.mp kk) with z | z
        · exact Or.inl z
        · exact Or.inr ⟨z, by omega⟩
      rcases Nat.lt_or_ge b q with y | y
      · exact tq_lt_tr _ _ _ l1 (h2.2.2 b q hb y hq.2)
      · have : q = b := by omega
        rw [this]; exact l1
theorem tq_MI_b {key : Nat → Int32} {ix so : Nat → Nat} {lo mid hi a b i : Nat} (h1 : tq_BK key lo mid ix) (h2 : tq_BK key mid hi ix) (ha : lo ≤ a) (ham : a ≤ mid) (hb : mid ≤ b) (hbh : b < hi) (hi1 : i + mid = a + b) (hk : mid ≤ a ∨ key (ix b) < key (ix a)) (h : tq_MI key ix lo (tq_DN lo mid a b) (tq_RM mid hi a b) i so) : tq_MI key ix lo (tq_DN lo mid a (b + 1)) (tq_RM mid hi a (b + 1)) (i + 1) (tq_u so i (ix b)) := by
  refine tq_MI_iff (fun q => ?_) (fun q hq => ?_) (tq_MI_s (by omega) h (q0 := b) (Or.inr ⟨Nat.le_refl _, hbh⟩) (fun q hq hne => ?_))
  · unfold tq_DN; omega
  · unfold tq_RM at hq ⊢; omega
  · rcases hq with hq | hq
    · have kk : key (ix b) < key (ix a) := by rcases hk with z | z; omega; exact z
      rcases Nat.lt_or_ge a q with y | y
      · exact tq_lt_tr _ _ _ (Or.inl kk) (h1.2.2 a q ha y hq.2)
      · have : q = a := by omega
        rw [this]; exact Or.inl kk
    · exact h2.2.2 b q hb (by omega) hq.2
theorem tq_MI_e {key : Nat → Int32} {ix so : Nat → Nat} {lo mid hi : Nat} (h1 : tq_BK key lo mid ix) (h2 : tq_BK key mid hi ix) (hlm : lo ≤ mid) (hmh : mid ≤ hi) (h : tq_MI key ix lo (tq_DN lo mid mid hi) (tq_RM mid hi mid hi) hi so) : tq_BK key lo hi so := by
  refine ⟨fun j q1 q2 => ?_, fun x q1 q2 => ?_, h.2.2.1⟩
  · obtain ⟨q, hq, e⟩ := h.1 j q1 q2
    rw [e]
    rcases hq with hq | hq
    · have := h1.1 q hq.1 hq.2; omega
    · have := h2.1 q hq.1 hq.2; omega
  · rcases Nat.lt_or_ge x mid with z | z
    · obtain ⟨q, a, b, c⟩ := h1.2.1 x q1 z
      obtain ⟨j, e1, e2, e3⟩ := h.2.1 q (Or.inl ⟨a, b⟩)
      exact ⟨j, e1, e2, by rw [e3, c]⟩
    · obtain ⟨q, a, b, c⟩ := h2.2.1 x z q2
      obtain ⟨j, e1, e2, e3⟩ := h.2.1 q (Or.inr ⟨a, b⟩)
      exact ⟨j, e1, e2, by rw [e3, c]⟩
end
section
section
variable {nf ni nt : Nat} {fr ik ic tk rn : Nat → Nat} {f_group f_distinct f_orderItem f_orderDown f_limit f_nodes f_waitingNodes f_waitingWords f_broken f_top f_parts f_combos f_nextCombos f_placed f_results : Int32} {a_cells a_kind a_left a_right a_needs a_truth a_waitNode a_waitWord a_part a_canCount a_can a_combo a_nextCombo a_current a_stays a_result a_index a_key a_table : Nat → Int32}
theorem xw_mg1 {post : SX → Prop} {ix so0 : Nat → Nat} {N lo mid hi : Nat} (hN : N ≤ 1000) (hiN : hi ≤ N) (hlm : lo ≤ mid) (hmh : mid ≤ hi) (hix : ∀ j, j < N → a_index j = nI (ix j)) (h1 : tq_BK a_key lo mid ix) (h2 : tq_BK a_key mid hi ix)
    (hp : ∀ (so : Nat → Nat) (a_sorted : Nat → Int32), (∀ j, j < hi → a_sorted j = nI (so j)) → (∀ j, j < lo → so j = so0 j) → tq_BK a_key lo hi so → post ((nI nf), (nI ni), (nI nt), f_group, f_distinct, f_orderItem, f_orderDown, f_limit, f_nodes, f_waitingNodes, f_waitingWords, f_broken, f_top, f_parts, f_combos, f_nextCombos, f_placed, f_results, (tq_n rn), a_cells, (tq_n fr), (tq_n ik), (tq_n ic), (tq_n tk), a_kind, a_left, a_right, a_needs, a_truth, a_waitNode, a_waitWord, a_part, a_canCount, a_can, a_combo, a_nextCombo, a_current, a_stays, a_result, a_index, a_sorted, a_key, a_table)) :
    ∀ (n a b i : Nat) (so : Nat → Nat) (a_sorted : Nat → Int32), hi < n + i → lo ≤ a → a ≤ mid → mid ≤ b → b ≤ hi → i + mid = a + b → (∀ j, j < i → a_sorted j = nI (so j)) → (∀ j, j < lo → so j = so0 j) → tq_MI a_key ix lo (tq_DN lo mid a b) (tq_RM mid hi a b) i so →
    wX_merge_46 post (nI mid) (nI hi) (nI nf) (nI ni) (nI nt) f_group f_distinct f_orderItem f_orderDown f_limit f_nodes f_waitingNodes f_waitingWords f_broken f_top f_parts f_combos f_nextCombos f_placed f_results n (nI a) (nI b) (nI i) (tq_n rn) a_cells (tq_n fr) (tq_n ik) (tq_n ic) (tq_n tk) a_kind a_left a_right a_needs a_truth a_waitNode a_waitWord a_part a_canCount a_can a_combo a_nextCombo a_current a_stays a_result a_index a_sorted a_key a_table := by
  intro n
  induction n with
  | zero => intro a b i so a_sorted q1 q2 q3 q4 q5 q6; omega
  | succ n ih =>
    intro a b i so a_sorted hf ha ham hb hbh hi1 hso hfr hM
    rcases Nat.lt_or_ge i hi with z | z
    rotate_left
    · have e1 : a = mid := by omega
      have e2 : b = hi := by omega
      have e3 : i = hi := by omega
      rw [e1, e2, e3] at hM
      rw [e3] at hso
      exact br_t (nI_le z (by omega)) (hp so a_sorted hso hfr (tq_MI_e h1 h2 hlm hmh hM))
    have vi : vp_in (nI i) 1000 := vp_in_nI (by omega) (by decide)
    refine br_f (nI_ge z (by omega)) ?_
    have goA : a < mid → (hi ≤ b ∨ ¬ a_key (ix b) < a_key (ix a)) → wX_merge_94 post (wX_merge_46 post (nI mid) (nI hi) (nI nf) (nI ni) (nI nt) f_group f_distinct f_orderItem f_orderDown f_limit f_nodes f_waitingNodes f_waitingWords f_broken f_top f_parts f_combos f_nextCombos f_placed f_results n) (nI mid) (nI hi) (nI a) (nI b) (nI i) (nI nf) (nI ni) (nI nt) f_group f_distinct f_orderItem f_orderDown f_limit f_nodes f_waitingNodes f_waitingWords f_broken f_top f_parts f_combos f_nextCombos f_placed f_results (tq_n rn) a_cells (tq_n fr) (tq_n ik) (tq_n ic) (tq_n tk) a_kind a_left a_right a_needs a_truth a_waitNode a_waitWord a_part a_canCount a_can a_combo a_nextCombo a_current a_stays a_result a_index a_sorted a_key a_table := by
      intro q1 q2
      refine br_f (by decide) ⟨vp_in_nI (by omega) (by decide), vi, ?_⟩
      rw [nI_clamp (show a < 2 ^ 31 by omega), nI_clamp (show i < 2 ^ 31 by omega), hix a (by omega)]
      refine nm_e (br_f (by decide) (nm_r (nI_1 a) (nm_r (nI_1 i) (ih (a + 1) b (i + 1) (tq_u so i (ix a)) _ (by omega) (by omega) (by omega) hb hbh (by omega) (fun j hj => ?_) (fun j hj => ?_) (tq_MI_a h1 h2 ha q1 hb hbh hi1 q2 hM)))))
      · by_cases e : j = i
        · rw [e, pk_us, tq_us]
        · rw [pk_un e, tq_un e]; exact hso j (by omega)
      · rw [tq_un (by omega)]; exact hfr j hj
    have goB : b < hi → (mid ≤ a ∨ a_key (ix b) < a_key (ix a)) → wX_merge_98 post (wX_merge_46 post (nI mid) (nI hi) (nI nf) (nI ni) (nI nt) f_group f_distinct f_orderItem f_orderDown f_limit f_nodes f_waitingNodes f_waitingWords f_broken f_top f_parts f_combos f_nextCombos f_placed f_results n) (nI mid) (nI hi) (nI a) (nI b) (nI i) (nI nf) (nI ni) (nI nt) f_group f_distinct f_orderItem f_orderDown f_limit f_nodes f_waitingNodes f_waitingWords f_broken f_top f_parts f_combos f_nextCombos f_placed f_results (tq_n rn) a_cells (tq_n fr) (tq_n ik) (tq_n ic) (tq_n tk) a_kind a_left a_right a_needs a_truth a_waitNode a_waitWord a_part a_canCount a_can a_combo a_nextCombo a_current a_stays a_result a_index a_sorted a_key a_table := by
      intro q1 q2
      refine br_t rfl ⟨vp_in_nI (by omega) (by decide), vi, ?_⟩
      rw [nI_clamp (show b < 2 ^ 31 by omega), nI_clamp (show i < 2 ^ 31 by omega), hix b (by omega)]
      refine nm_e (br_t rfl (nm_r (nI_1 b) (nm_r (nI_1 i) (ih a (b + 1) (i + 1) (tq_u so i (ix b)) _ (by omega) ha ham (by omega) (by omega) (by omega) (fun j hj => ?_) (fun j hj => ?_) (tq_MI_b h1 h2 ha ham hb q1 hi1 q2 hM)))))
      · by_cases e : j = i
        · rw [e, pk_us, tq_us]
        · rw [pk_un e, tq_un e]; exact hso j (by omega)
      · rw [tq_un (by omega)]; exact hfr j hj
    refine pk_le mid a (fun q => goB (by omega) (Or.inl q)) (fun q => pk_le hi b (fun w => goA q (Or.inl w)) (fun w => ?_))
    have xa := (h1.1 a ha q).2
    have xb := (h2.1 b hb w).2
    rw [nI_clamp (show a < 2 ^ 31 by omega), nI_clamp (show b < 2 ^ 31 by omega), hix a (by omega), hix b (by omega), nI_clamp (show ix a < 2 ^ 31 by omega), nI_clamp (show ix b < 2 ^ 31 by omega)]
    exact ⟨vp_in_nI (by omega) (by decide), vp_in_nI (by omega) (by decide), vp_in_nI (by omega) (by decide), vp_in_nI (by omega) (by decide), br_c (fun y => goB w (Or.inr y)) (fun y => goA q (Or.inr y))⟩
theorem tq_mn (a b : Nat) : (if b ≤ a then b else a) = min a b := by
  rw [Nat.min_def]
  split <;> split <;> omega
theorem xw_merge {post : SX → Prop} {ix so0 : Nat → Nat} {N s w : Nat} {a_sorted : Nat → Int32} (hN : N ≤ 1000) (hw : w ≤ 1000) (hs : s < N) (hix : ∀ j, j < N → a_index j = nI (ix j)) (h1 : tq_BK a_key s (min (s + w) N) ix) (h2 : tq_BK a_key (min (s + w) N) (min (s + 2 * w) N) ix) (hso : ∀ j, j < s → a_sorted j = nI (so0 j))
    (hp : ∀ (so : Nat → Nat) (a_sorted : Nat → Int32), (∀ j, j < min (s + 2 * w) N → a_sorted j = nI (so j)) → (∀ j, j < s → so j = so0 j) → tq_BK a_key s (min (s + 2 * w) N) so → post ((nI nf), (nI ni), (nI nt), f_group, f_distinct, f_orderItem, f_orderDown, f_limit, f_nodes, f_waitingNodes, f_waitingWords, f_broken, f_top, f_parts, f_combos, f_nextCombos, f_placed, f_results, (tq_n rn), a_cells, (tq_n fr), (tq_n ik), (tq_n ic), (tq_n tk), a_kind, a_left, a_right, a_needs, a_truth, a_waitNode, a_waitWord, a_part, a_canCount, a_can, a_combo, a_nextCombo, a_current, a_stays, a_result, a_index, a_sorted, a_key, a_table)) : wpX_merge post ((nI nf), (nI ni), (nI nt), f_group, f_distinct, f_orderItem, f_orderDown, f_limit, f_nodes, f_waitingNodes, f_waitingWords, f_broken, f_top, f_parts, f_combos, f_nextCombos, f_placed, f_results, (tq_n rn), a_cells, (tq_n fr), (tq_n ik), (tq_n ic), (tq_n tk), a_kind, a_left, a_right, a_needs, a_truth, a_waitNode, a_waitWord, a_part, a_canCount, a_can, a_combo, a_nextCombo, a_current, a_stays, a_result, a_index, a_sorted, a_key, a_table) (nI s) (nI w) (nI N) := by
  have e1 : nI s + nI w = nI (s + w) := nI_add _ _
  have e2 : nI s + 2 * nI w = nI (s + 2 * w) := by
    show nI s + nI 2 * nI w = _
    rw [pk_mul, nI_add]
  have M0 : tq_MI a_key ix s (tq_DN s (min (s + w) N) s (min (s + w) N)) (tq_RM (min (s + w) N) (min (s + 2 * w) N) s (min (s + w) N)) s so0 := by
    refine ⟨fun j q1 q2 => by omega, fun q hq => ?_, fun a b q1 q2 q3 => by omega, fun j q q1 q2 => by omega⟩
    unfold tq_DN at hq
    omega
  have go : wX_merge_46 post (nI (min (s + w) N)) (nI (min (s + 2 * w) N)) (nI nf) (nI ni) (nI nt) f_group f_distinct f_orderItem f_orderDown f_limit f_nodes f_waitingNodes f_waitingWords f_broken f_top f_parts f_combos f_nextCombos f_placed f_results (N + 1) (nI s) (nI (min (s + w) N)) (nI s) (tq_n rn) a_cells (tq_n fr) (tq_n ik) (tq_n ic) (tq_n tk) a_kind a_left a_right a_needs a_truth a_waitNode a_waitWord a_part a_canCount a_can a_combo a_nextCombo a_current a_stays a_result a_index a_sorted a_key a_table :=
    xw_mg1 hN (by omega) (by omega) (by omega) hix h1 h2 hp (N + 1) s (min (s + w) N) s so0 a_sorted (by omega) (by omega) (by omega) (by omega) (by omega) (by omega) hso (fun j hj => rfl) M0
  have fin : ∀ z0 : Nat, z0 = min (s + w) N → wX_merge_14 post (nI s) (nI w) (nI N) (nI z0) (nI nf) (nI ni) (nI nt) f_group f_distinct f_orderItem f_orderDown f_limit f_nodes f_waitingNodes f_waitingWords f_broken f_top f_parts f_combos f_nextCombos f_placed f_results (tq_n rn) a_cells (tq_n fr) (tq_n ik) (tq_n ic) (tq_n tk) a_kind a_left a_right a_needs a_truth a_waitNode a_waitWord a_part a_canCount a_can a_combo a_nextCombo a_current a_stays a_result a_index a_sorted a_key a_table := by
    intro z0 ez
    subst ez
    unfold wX_merge_14
    rw [e2]
    refine pk_le N (s + 2 * w) (fun q => ⟨N + 1, ?_⟩) (fun q => nm_e ⟨N + 1, ?_⟩)
    · rw [show min (s + 2 * w) N = N by omega] at go; exact go
    · rw [show min (s + 2 * w) N = s + 2 * w by omega] at go; exact go
  unfold wpX_merge
  dsimp only
  rw [e1]
  exact pk_le N (s + w) (fun q => fin N (by omega)) (fun q => fin (s + w) (by omega))
end
section
variable {nf ni nt : Nat} {fr ik ic tk rn : Nat → Nat} {f_group f_distinct f_orderItem f_orderDown f_limit f_nodes f_waitingNodes f_waitingWords f_broken f_top f_parts f_combos f_nextCombos f_placed f_results : Int32} {a_cells a_kind a_left a_right a_needs a_truth a_waitNode a_waitWord a_part a_canCount a_can a_combo a_nextCombo a_current a_stays a_result a_key a_table : Nat → Int32}
theorem xw_sk52 {post : SX → Prop} {J : Int32 → Int32 → Int32 → Int32 → Int32 → Int32 → Int32 → Int32 → Int32 → Int32 → Int32 → Int32 → Int32 → Int32 → Int32 → Int32 → Int32 → Int32 → Int32 → (Nat → Int32) → (Nat → Int32) → (Nat → Int32) → (Nat → Int32) → (Nat → Int32) → (Nat → Int32) → (Nat → Int32) → (Nat → Int32) → (Nat → Int32) → (Nat → Int32) → (Nat → Int32) → (Nat → Int32) → (Nat → Int32) → (Nat → Int32) → (Nat → Int32) → (Nat → Int32) → (Nat → Int32) → (Nat → Int32) → (Nat → Int32) → (Nat → Int32) → (Nat → Int32) → (Nat → Int32) → (Nat → Int32) → (Nat → Int32) → (Nat → Int32) → Prop} {N w : Nat} {so : Nat → Nat} {a_sorted : Nat → Int32} (hN : N ≤ 1000) (hso : ∀ j, j < N → a_sorted j = nI (so j))
    (hJ : ∀ a_index : Nat → Int32, (∀ j, j < N → a_index j = nI (so j)) → J (nI (w * 2)) (nI nf) (nI ni) (nI nt) f_group f_distinct f_orderItem f_orderDown f_limit f_nodes f_waitingNodes f_waitingWords f_broken f_top f_parts f_combos f_nextCombos f_placed f_results (tq_n rn) a_cells (tq_n fr) (tq_n ik) (tq_n ic) (tq_n tk) a_kind a_left a_right a_needs a_truth a_waitNode a_waitWord a_part a_canCount a_can a_combo a_nextCombo a_current a_stays a_result a_index a_sorted a_key a_table) : ∀ (n i : Nat) (a_index : Nat → Int32), N < n + i → i ≤ N → (∀ j, j < i → a_index j = nI (so j)) → wX_sortByKey_52 post J (nI N) (nI w) (nI nf) (nI ni) (nI nt) f_group f_distinct f_orderItem f_orderDown f_limit f_nodes f_waitingNodes f_waitingWords f_broken f_top f_parts f_combos f_nextCombos f_placed f_results n (nI i) (tq_n rn) a_cells (tq_n fr) (tq_n ik) (tq_n ic) (tq_n tk) a_kind a_left a_right a_needs a_truth a_waitNode a_waitWord a_part a_canCount a_can a_combo a_nextCombo a_current a_stays a_result a_index a_sorted a_key a_table := by
  intro n
  induction n with
  | zero => intro i a_index q1 q2; omega
  | succ n ih =>
    intro i a_index hf hi hx
    rcases Nat.lt_or_ge i N with z | z
    rotate_left
    · have : i = N := by omega
      subst this
      exact br_t (nI_le z (by omega)) (nm_r (pk_mul w 2) (hJ a_index hx))
    have vi : vp_in (nI i) 1000 := vp_in_nI (by omega) (by decide)
    refine br_f (nI_ge z (by omega)) ⟨vi, vi, ?_⟩
    rw [nI_clamp (show i < 2 ^ 31 by omega), hso i z, nI_1]
    refine nm_e (nm_e (ih (i + 1) _ (by omega) (by omega) (fun j hj => ?_)))
    by_cases e : j = i
    · rw [e, pk_us]
    · rw [pk_un e]; exact hx j (by omega)
theorem xw_sk29 {post : SX → Prop} {J : Int32 → Int32 → Int32 → Int32 → Int32 → Int32 → Int32 → Int32 → Int32 → Int32 → Int32 → Int32 → Int32 → Int32 → Int32 → Int32 → Int32 → Int32 → Int32 → (Nat → Int32) → (Nat → Int32) → (Nat → Int32) → (Nat → Int32) → (Nat → Int32) → (Nat → Int32) → (Nat → Int32) → (Nat → Int32) → (Nat → Int32) → (Nat → Int32) → (Nat → Int32) → (Nat → Int32) → (Nat → Int32) → (Nat → Int32) → (Nat → Int32) → (Nat → Int32) → (Nat → Int32) → (Nat → Int32) → (Nat → Int32) → (Nat → Int32) → (Nat → Int32) → (Nat → Int32) → (Nat → Int32) → (Nat → Int32) → (Nat → Int32) → Prop} {N w : Nat} {ix : Nat → Nat} {a_index : Nat → Int32} (hN : N ≤ 1000) (hw : 0 < w) (hwN : w < N) (hix : ∀ j, j < N → a_index j = nI (ix j)) (hbk : ∀ k, w * k < N → tq_BK a_key (w * k) (min (w * k + w) N) ix)
    (hJ : ∀ (so : Nat → Nat) (a_sorted a_index : Nat → Int32), (∀ j, j < N → a_index j = nI (so j)) → (∀ k, 2 * w * k < N → tq_BK a_key (2 * w * k) (min (2 * w * k + 2 * w) N) so) → J (nI (w * 2)) (nI nf) (nI ni) (nI nt) f_group f_distinct f_orderItem f_orderDown f_limit f_nodes f_waitingNodes f_waitingWords f_broken f_top f_parts f_combos f_nextCombos f_placed f_results (tq_n rn) a_cells (tq_n fr) (tq_n ik) (tq_n ic) (tq_n tk) a_kind a_left a_right a_needs a_truth a_waitNode a_waitWord a_part a_canCount a_can a_combo a_nextCombo a_current a_stays a_result a_index a_sorted a_key a_table) :
    ∀ (n k : Nat) (so : Nat → Nat) (a_sorted : Nat → Int32), 0 < n → N < n + 2 * w * k → 2 * w * k < N + 2 * w → (∀ j, j < 2 * w * k → j < N → a_sorted j = nI (so j)) → (∀ k', k' < k → 2 * w * k' < N → tq_BK a_key (2 * w * k') (min (2 * w * k' + 2 * w) N) so) →
    wX_sortByKey_29 post J (nI N) (nI w) n (nI (2 * w * k)) (nI nf) (nI ni) (nI nt) f_group f_distinct f_orderItem f_orderDown f_limit f_nodes f_waitingNodes f_waitingWords f_broken f_top f_parts f_combos f_nextCombos f_placed f_results (tq_n rn) a_cells (tq_n fr) (tq_n ik) (tq_n ic) (tq_n tk) a_kind a_left a_right a_needs a_truth a_waitNode a_waitWord a_part a_canCount a_can a_combo a_nextCombo a_current a_stays a_result a_index a_sorted a_key a_table := by
  intro n
  induction n with
  | zero =>
    intro k so a_sorted h0
    omega
  | succ n ih =>
    intro k so a_sorted _ hf hb hso hk
    rcases Nat.lt_or_ge (2 * w * k) N with z | z
    rotate_left
    · refine br_t (nI_le z (by omega)) ⟨N + 1, ?_⟩
      refine xw_sk52 hN (fun j hj => hso j (by omega) hj) (fun a_index h => hJ so a_sorted a_index h (fun k' hk' => ?_)) (N + 1) 0 a_index (by omega) (by omega) (fun j hj => absurd hj (by omega))
      refine hk k' ?_ hk'
      rcases Nat.lt_or_ge k' k with y | y
      · exact y
      · have := Nat.mul_le_mul_left (2 * w) y
        omega
    refine br_f (nI_ge z (by omega)) ?_
    have es : 2 * w * (k + 1) = 2 * w * k + 2 * w := by rw [Nat.mul_add, Nat.mul_one]
    have ek : w * (2 * k) = 2 * w * k := by rw [← Nat.mul_assoc, Nat.mul_comm w 2]
    have ek1 : w * (2 * k + 1) = 2 * w * k + w := by rw [Nat.mul_add, Nat.mul_one, ek]
    have b1 := hbk (2 * k) (by omega)
    rw [ek] at b1
    have b2 : tq_BK a_key (min (2 * w * k + w) N) (min (2 * w * k + 2 * w) N) ix := by
      rcases Nat.lt_or_ge (2 * w * k + w) N with y | y
      · have b2 := hbk (2 * k + 1) (by omega)
        rw [ek1] at b2
        rw [show min (2 * w * k + w) N = 2 * w * k + w by omega]
        rw [show 2 * w * k + 2 * w = 2 * w * k + w + w by omega]
        exact b2
      · rw [show min (2 * w * k + w) N = N by omega, show min (2 * w * k + 2 * w) N = N by omega]
        exact ⟨fun j q1 q2 => by omega, fun x q1 q2 => by omega, fun i j q1 q2 q3 => by omega⟩
    refine xw_merge (so0 := so) hN (by omega) z hix b1 b2 (fun j hj => hso j hj (by omega)) (fun so' a_sorted h1 h2 h3 => ?_)
    have e3 : nI (2 * w * k) + 2 * nI w = nI (2 * w * (k + 1)) := by
      show nI (2 * w * k) + nI 2 * nI w = _
      rw [pk_mul, nI_add, es]
    refine nm_r e3 (ih (k + 1) so' a_sorted (by omega) (by omega) (by omega) (fun j hj hjN => h1 j (by omega)) (fun k' hk' hk'N => ?_))
    by_cases e : k' = k
    · rw [e]; exact h3
    · have lt : k' + 1 ≤ k := by omega
      have := Nat.mul_le_mul_left (2 * w) lt
      have em : 2 * w * (k' + 1) = 2 * w * k' + 2 * w := by rw [Nat.mul_add, Nat.mul_one]
      refine tq_BK_cg (hk k' (by omega) hk'N) (fun j q1 q2 => h2 j (by omega))
theorem xw_sk22 {post : SX → Prop} {N : Nat} (hN : N ≤ 1000)
    (hp : ∀ (ix : Nat → Nat) (a_sorted a_index : Nat → Int32), (∀ j, j < N → a_index j = nI (ix j)) → tq_BK a_key 0 N ix → post ((nI nf), (nI ni), (nI nt), f_group, f_distinct, f_orderItem, f_orderDown, f_limit, f_nodes, f_waitingNodes, f_waitingWords, f_broken, f_top, f_parts, f_combos, f_nextCombos, f_placed, f_results, (tq_n rn), a_cells, (tq_n fr), (tq_n ik), (tq_n ic), (tq_n tk), a_kind, a_left, a_right, a_needs, a_truth, a_waitNode, a_waitWord, a_part, a_canCount, a_can, a_combo, a_nextCombo, a_current, a_stays, a_result, a_index, a_sorted, a_key, a_table)) :
    ∀ (n w : Nat) (ix : Nat → Nat) (a_sorted a_index : Nat → Int32), 0 < n → N < n + w → 0 < w → w ≤ 2000 → (∀ j, j < N → a_index j = nI (ix j)) → (∀ k, w * k < N → tq_BK a_key (w * k) (min (w * k + w) N) ix) → wX_sortByKey_22 post (nI N) n (nI w) (nI nf) (nI ni) (nI nt) f_group f_distinct f_orderItem f_orderDown f_limit f_nodes f_waitingNodes f_waitingWords f_broken f_top f_parts f_combos f_nextCombos f_placed f_results (tq_n rn) a_cells (tq_n fr) (tq_n ik) (tq_n ic) (tq_n tk) a_kind a_left a_right a_needs a_truth a_waitNode a_waitWord a_part a_canCount a_can a_combo a_nextCombo a_current a_stays a_result a_index a_sorted a_key a_table := by
  intro n
  induction n with
  | zero =>
    intro w ix a_sorted a_index h0
    omega
  | succ n ih =>
    intro w ix a_sorted a_index _ hf hw h2000 hix hbk
    rcases Nat.lt_or_ge w N with z | z
    rotate_left
    · refine br_t (nI_le z (by omega)) (hp ix a_sorted a_index hix ?_)
      rcases Nat.eq_zero_or_pos N with y | y
      · exact ⟨fun j q1 q2 => by omega, fun x q1 q2 => by omega, fun i j q1 q2 q3 => by omega⟩
      · have := hbk 0 (by omega)
        rw [Nat.mul_zero, show min (0 + w) N = N by omega] at this
        exact this
    refine br_f (nI_ge z (by omega)) ⟨N + 1, ?_⟩
    have K := xw_sk29 (post := post) (J := wX_sortByKey_22 post (nI N) n) hN hw z hix hbk (fun so a_sorted a_index h1 h2 => ih (w * 2) so a_sorted a_index (by omega) (by omega) (by omega) (by omega) h1 (fun k hk => by
      rw [Nat.mul_comm w 2] at hk ⊢
      exact h2 k hk)) (N + 1) 0 ix a_sorted (by omega) (by omega) (by omega) (fun j hj => absurd hj (by omega)) (fun k' hk' => absurd hk' (by omega))
    exact K
theorem xw_sk2 {post : SX → Prop} {N : Nat} {a_sorted : Nat → Int32} (hN : N ≤ 1000)
    (hp : ∀ (ix : Nat → Nat) (a_sorted a_index : Nat → Int32), (∀ j, j < N → a_index j = nI (ix j)) → tq_BK a_key 0 N ix → post ((nI nf), (nI ni), (nI nt), f_group, f_distinct, f_orderItem, f_orderDown, f_limit, f_nodes, f_waitingNodes, f_waitingWords, f_broken, f_top, f_parts, f_combos, f_nextCombos, f_placed, f_results, (tq_n rn), a_cells, (tq_n fr), (tq_n ik), (tq_n ic), (tq_n tk), a_kind, a_left, a_right, a_needs, a_truth, a_waitNode, a_waitWord, a_part, a_canCount, a_can, a_combo, a_nextCombo, a_current, a_stays, a_result, a_index, a_sorted, a_key, a_table)) :
    ∀ (n i : Nat) (a_index : Nat → Int32), N < n + i → i ≤ N → (∀ j, j < i → a_index j = nI j) → wX_sortByKey_2 post (nI N) (nI nf) (nI ni) (nI nt) f_group f_distinct f_orderItem f_orderDown f_limit f_nodes f_waitingNodes f_waitingWords f_broken f_top f_parts f_combos f_nextCombos f_placed f_results n (nI i) (tq_n rn) a_cells (tq_n fr) (tq_n ik) (tq_n ic) (tq_n tk) a_kind a_left a_right a_needs a_truth a_waitNode a_waitWord a_part a_canCount a_can a_combo a_nextCombo a_current a_stays a_result a_index a_sorted a_key a_table := by
  intro n
  induction n with
  | zero => intro i a_index q1 q2; omega
  | succ n ih =>
    intro i a_index hf hi hx
    rcases Nat.lt_or_ge i N with z | z
    rotate_left
    · have : i = N := by omega
      subst this
      refine br_t (nI_le z (by omega)) ⟨i + 1, ?_⟩
      refine xw_sk22 hN hp (i + 1) 1 (fun j => j) a_sorted a_index (by omega) (by omega) (by omega) (by omega) hx (fun k hk => ⟨fun j q1 q2 => ⟨q1, q2⟩, fun x q1 q2 => ⟨x, q1, q2, rfl⟩, fun a b q1 q2 q3 => by omega⟩)
    have vi : vp_in (nI i) 1000 := vp_in_nI (by omega) (by decide)
    refine br_f (nI_ge z (by omega)) ⟨vi, ?_⟩
    rw [nI_clamp (show i < 2 ^ 31 by omega), nI_1]
    refine nm_e (nm_e (ih (i + 1) _ (by omega) (by omega) (fun j hj => ?_)))
    by_cases e : j = i
    · rw [e, pk_us]
    · rw [pk_un e]; exact hx j (by omega)
theorem xw_sortByKey {post : SX → Prop} {N : Nat} {a_sorted a_index : Nat → Int32} (hN : N ≤ 1000)
    (hp : ∀ (ix : Nat → Nat) (a_sorted a_index : Nat → Int32), (∀ j, j < N → a_index j = nI (ix j)) → tq_BK a_key 0 N ix → post ((nI nf), (nI ni), (nI nt), f_group, f_distinct, f_orderItem, f_orderDown, f_limit, f_nodes, f_waitingNodes, f_waitingWords, f_broken, f_top, f_parts, f_combos, f_nextCombos, f_placed, f_results, (tq_n rn), a_cells, (tq_n fr), (tq_n ik), (tq_n ic), (tq_n tk), a_kind, a_left, a_right, a_needs, a_truth, a_waitNode, a_waitWord, a_part, a_canCount, a_can, a_combo, a_nextCombo, a_current, a_stays, a_result, a_index, a_sorted, a_key, a_table)) : wpX_sortByKey post ((nI nf), (nI ni), (nI nt), f_group, f_distinct, f_orderItem, f_orderDown, f_limit, f_nodes, f_waitingNodes, f_waitingWords, f_broken, f_top, f_parts, f_combos, f_nextCombos, f_placed, f_results, (tq_n rn), a_cells, (tq_n fr), (tq_n ik), (tq_n ic), (tq_n tk), a_kind, a_left, a_right, a_needs, a_truth, a_waitNode, a_waitWord, a_part, a_canCount, a_can, a_combo, a_nextCombo, a_current, a_stays, a_result, a_index, a_sorted, a_key, a_table) (nI N) :=
  ⟨N + 1, xw_sk2 hN hp (N + 1) 0 a_index (by omega) (by omega) (fun j hj => absurd hj (by omega))⟩
end
end
section
/-! result rows -/
def tq_RW (ni n : Nat) (R : Nat → Nat → Int32) (res : Nat → Int32) : Prop := ∀ r, r < n → ∀ i, i < ni → res (4 * r + i) = R r i
/-- the value of a column in a chosen combination -/
def tq_D (nf : Nat) (fr : Nat → Nat) (cells : Nat → Int32) (e : Nat → Nat) (r k : Nat) : Int32 := tq_vv cells (tq_rho nf fr (tq_dg (e r))) k
/-- one item over values in their order -/
def tq_fd (kd : Nat) (own : Nat → Int32) : Nat → Int32
  | 0 => 0
  | n + 1 => if kd = 1 then tq_fd kd own n + 1 else if kd = 2 then tq_fd kd own n + own n else if n = 0 ∨ (kd = 3 ∧ own n < tq_fd kd own n) ∨ (kd = 4 ∧ tq_fd kd own n < own n) then own n else tq_fd kd own n
theorem tq_fd_cg {kd : Nat} {own own' : Nat → Int32} : ∀ n, (∀ j, j < n → own j = own' j) → tq_fd kd own n = tq_fd kd own' n
  | 0, _ => rfl
  | n + 1, h => by
    have e := tq_fd_cg (kd := kd) n (fun j hj => h j (by omega))
    simp only [tq_fd]
    rw [e, h n (by omega)]
theorem tq_fd1 {own : Nat → Int32} : ∀ n, tq_fd 1 own n = nI n
  | 0 => rfl
  | n + 1 => by
    simp only [tq_fd, if_true]
    rw [tq_fd1 n, nI_1]
theorem tq_fd0 {own : Nat → Int32} : ∀ n, tq_fd 0 own (n + 1) = own 0
  | 0 => by simp [tq_fd]
  | n + 1 => by
    have := tq_fd0 (own := own) n
    rw [tq_fd, if_neg (by decide), if_neg (by decide), if_neg (by omega)]
    exact this
section
variable {nf ni nt : Nat} {fr ik ic tk rn : Nat → Nat} {f_group f_distinct f_orderItem f_orderDown f_limit f_nodes f_waitingNodes f_waitingWords f_broken f_top f_parts f_combos f_nextCombos f_placed f_results : Int32} {a_cells a_kind a_left a_right a_needs a_truth a_waitNode a_waitWord a_part a_canCount a_can a_combo a_nextCombo a_current a_stays a_result a_index a_sorted a_key a_table : Nat → Int32}
theorem xw_columnOf {post : Int32 → SX → Prop} {c k : Nat} (d : tq_ds nf fr) (fl : ∀ i, fr i < 3) (hc : c < 1000) (hk : k ≤ 8) (hpc : tq_pc nf fr (k / 3) < 3) (hp : ∀ a_current : Nat → Int32, post (tq_vv a_cells (tq_rho nf fr (tq_dg c)) k) ((nI nf), (nI ni), (nI nt), f_group, f_distinct, f_orderItem, f_orderDown, f_limit, f_nodes, f_waitingNodes, f_waitingWords, f_broken, f_top, f_parts, f_combos, f_nextCombos, f_placed, f_results, (tq_n rn), a_cells, (tq_n fr), (tq_n ik), (tq_n ic), (tq_n tk), a_kind, a_left, a_right, a_needs, a_truth, a_waitNode, a_waitWord, a_part, a_canCount, a_can, a_combo, a_nextCombo, a_current, a_stays, a_result, a_index, a_sorted, a_key, a_table)) : wpX_columnOf post ((nI nf), (nI ni), (nI nt), f_group, f_distinct, f_orderItem, f_orderDown, f_limit, f_nodes, f_waitingNodes, f_waitingWords, f_broken, f_top, f_parts, f_combos, f_nextCombos, f_placed, f_results, (tq_n rn), a_cells, (tq_n fr), (tq_n ik), (tq_n ic), (tq_n tk), a_kind, a_left, a_right, a_needs, a_truth, a_waitNode, a_waitWord, a_part, a_canCount, a_can, a_combo, a_nextCombo, a_current, a_stays, a_result, a_index, a_sorted, a_key, a_table) (nI c) (nI k) := by
  unfold wpX_columnOf
  dsimp only
  refine xw_loadCombo hc (fun ac' hac => ?_)
  dsimp only
  refine xw_valueOf (hv := 7) (cur := tq_dg c) d fl (decide_eq_true ⟨by omega, Or.inr hpc⟩) (fun q hq _ => ⟨hac q hq, tq_dg10 hc q⟩) (fun q hq _ => by rcases tq_3c hq with rfl | rfl | rfl <;> decide) (hp ac')
end
section
variable {nf ni nt : Nat} {fr ik ic tk rn : Nat → Nat} {f_group f_distinct f_orderItem f_orderDown f_limit f_nodes f_waitingNodes f_waitingWords f_broken f_top f_parts f_nextCombos f_placed f_results : Int32} {a_cells a_kind a_left a_right a_needs a_truth a_waitNode a_waitWord a_part a_canCount a_can a_combo a_nextCombo a_stays a_index a_sorted a_key a_table : Nat → Int32}
theorem xw_pl20 {post : SX → Prop} {J : Int32 → Int32 → Int32 → Int32 → Int32 → Int32 → Int32 → Int32 → Int32 → Int32 → Int32 → Int32 → Int32 → Int32 → Int32 → Int32 → Int32 → Int32 → Int32 → (Nat → Int32) → (Nat → Int32) → (Nat → Int32) → (Nat → Int32) → (Nat → Int32) → (Nat → Int32) → (Nat → Int32) → (Nat → Int32) → (Nat → Int32) → (Nat → Int32) → (Nat → Int32) → (Nat → Int32) → (Nat → Int32) → (Nat → Int32) → (Nat → Int32) → (Nat → Int32) → (Nat → Int32) → (Nat → Int32) → (Nat → Int32) → (Nat → Int32) → (Nat → Int32) → (Nat → Int32) → (Nat → Int32) → (Nat → Int32) → (Nat → Int32) → Prop} {m r : Nat} {e : Nat → Nat} (d : tq_ds nf fr) (fl : ∀ i, fr i < 3) (hni : ni ≤ 4) (cl : ∀ i, ic i ≤ 8) (hok : ∀ i, i < ni → tq_pc nf fr (ic i / 3) < 3) (hm : m ≤ 1000) (hr : r < m) (hcb : ∀ j, j < m → a_combo j = nI (e j) ∧ e j < 1000)
    (hJ : ∀ (a_current a_result : Nat → Int32), tq_RW ni (r + 1) (fun r i => tq_D nf fr a_cells e r (ic i)) a_result → J (nI (r + 1)) (nI nf) (nI ni) (nI nt) f_group f_distinct f_orderItem f_orderDown f_limit f_nodes f_waitingNodes f_waitingWords f_broken f_top f_parts (nI m) f_nextCombos f_placed f_results (tq_n rn) a_cells (tq_n fr) (tq_n ik) (tq_n ic) (tq_n tk) a_kind a_left a_right a_needs a_truth a_waitNode a_waitWord a_part a_canCount a_can a_combo a_nextCombo a_current a_stays a_result a_index a_sorted a_key a_table) :
    ∀ (n i : Nat) (a_current a_result : Nat → Int32), ni < n + i → i ≤ ni → tq_RW ni r (fun r i => tq_D nf fr a_cells e r (ic i)) a_result → (∀ j, j < i → a_result (4 * r + j) = tq_D nf fr a_cells e r (ic j)) → wX_listPlain_20 post J (nI r) n (nI i) (nI nf) (nI ni) (nI nt) f_group f_distinct f_orderItem f_orderDown f_limit f_nodes f_waitingNodes f_waitingWords f_broken f_top f_parts (nI m) f_nextCombos f_placed f_results (tq_n rn) a_cells (tq_n fr) (tq_n ik) (tq_n ic) (tq_n tk) a_kind a_left a_right a_needs a_truth a_waitNode a_waitWord a_part a_canCount a_can a_combo a_nextCombo a_current a_stays a_result a_index a_sorted a_key a_table := by
  intro n
  induction n with
  | zero => intro i a_current a_result q1 q2; omega
  | succ n ih =>
    intro i a_current a_result hf hi h1 h2
    rcases Nat.lt_or_ge i ni with z | z
    rotate_left
    · have : i = ni := by omega
      subst this
      refine br_t (nI_le z (by omega)) (nm_r (nI_1 r) (hJ a_current a_result (fun r' hr' j hj => ?_)))
      by_cases a : r' = r
      · rw [a]; exact h2 j hj
      · exact h1 r' (by omega) j hj
    have c := cl i
    obtain ⟨e1, e2⟩ := hcb r hr
    have ix : 4 * nI r + nI i = nI (4 * r + i) := by
      show nI 4 * nI r + _ = _
      rw [pk_mul, nI_add]
    refine br_f (nI_ge z (by omega)) ⟨vp_in_nI (by omega) (by decide), vp_in_nI (by omega) (by decide), ?_⟩
    rw [ix, nI_clamp (show r < 2 ^ 31 by omega), nI_clamp (show i < 2 ^ 31 by omega), e1]
    refine xw_columnOf d fl e2 c (hok i z) (fun a_current => ⟨vp_in_nI (by omega) (by decide), ?_⟩)
    rw [nI_clamp (show 4 * r + i < 2 ^ 31 by omega)]
    refine nm_e (nm_r (nI_1 i) (ih (i + 1) a_current _ (by omega) (by omega) (fun r' hr' j hj => ?_) (fun j hj => ?_)))
    · rw [pk_un (by omega)]; exact h1 r' hr' j hj
    · by_cases a : j = i
      · rw [a, pk_us]; rfl
      · rw [pk_un (by omega)]; exact h2 j (by omega)
theorem xw_pl10 {post : SX → Prop} {m : Nat} {e : Nat → Nat} (d : tq_ds nf fr) (fl : ∀ i, fr i < 3) (hni : ni ≤ 4) (cl : ∀ i, ic i ≤ 8) (hok : ∀ i, i < ni → tq_pc nf fr (ic i / 3) < 3) (hm : m ≤ 1000) (hcb : ∀ j, j < m → a_combo j = nI (e j) ∧ e j < 1000)
    (hp : ∀ (a_current a_result : Nat → Int32), tq_RW ni m (fun r i => tq_D nf fr a_cells e r (ic i)) a_result → post ((nI nf), (nI ni), (nI nt), f_group, f_distinct, f_orderItem, f_orderDown, f_limit, f_nodes, f_waitingNodes, f_waitingWords, f_broken, f_top, f_parts, (nI m), f_nextCombos, f_placed, f_results, (tq_n rn), a_cells, (tq_n fr), (tq_n ik), (tq_n ic), (tq_n tk), a_kind, a_left, a_right, a_needs, a_truth, a_waitNode, a_waitWord, a_part, a_canCount, a_can, a_combo, a_nextCombo, a_current, a_stays, a_result, a_index, a_sorted, a_key, a_table)) :
    ∀ (n r : Nat) (a_current a_result : Nat → Int32), m < n + r → r ≤ m → tq_RW ni r (fun r i => tq_D nf fr a_cells e r (ic i)) a_result → wX_listPlain_10 post n (nI r) (nI nf) (nI ni) (nI nt) f_group f_distinct f_orderItem f_orderDown f_limit f_nodes f_waitingNodes f_waitingWords f_broken f_top f_parts (nI m) f_nextCombos f_placed f_results (tq_n rn) a_cells (tq_n fr) (tq_n ik) (tq_n ic) (tq_n tk) a_kind a_left a_right a_needs a_truth a_waitNode a_waitWord a_part a_canCount a_can a_combo a_nextCombo a_current a_stays a_result a_index a_sorted a_key a_table := by
  intro n
  induction n with
  | zero => intro r a_current a_result q1 q2; omega
  | succ n ih =>
    intro r a_current a_result hf hr h1
    rcases Nat.lt_or_ge r m with z | z
    rotate_left
    · have : r = m := by omega
      subst this
      exact br_t (nI_le z (by omega)) (hp a_current a_result h1)
    refine br_f (nI_ge z (by omega)) ⟨ni + 1, ?_⟩
    exact xw_pl20 d fl hni cl hok hm z hcb (fun a_current a_result h => ih (r + 1) a_current a_result (by omega) (by omega) h) (ni + 1) 0 a_current a_result (by omega) (by omega) h1 (fun j hj => absurd hj (by omega))
end
section
variable {nf ni nt : Nat} {fr ik ic tk rn : Nat → Nat} {f_group f_distinct f_orderItem f_orderDown f_limit f_nodes f_waitingNodes f_waitingWords f_broken f_top f_parts f_nextCombos f_placed f_results : Int32} {a_cells a_kind a_left a_right a_needs a_truth a_waitNode a_waitWord a_part a_canCount a_can a_combo a_nextCombo a_current a_stays a_result a_index a_sorted a_key a_table : Nat → Int32}
theorem xw_listPlain {post : SX → Prop} {m : Nat} {e : Nat → Nat} (d : tq_ds nf fr) (fl : ∀ i, fr i < 3) (hni : ni ≤ 4) (cl : ∀ i, ic i ≤ 8) (hok : ∀ i, i < ni → tq_pc nf fr (ic i / 3) < 3) (hm : m ≤ 1000) (hcb : ∀ j, j < m → a_combo j = nI (e j) ∧ e j < 1000)
    (hp : ∀ (a_current a_result : Nat → Int32), tq_RW ni m (fun r i => tq_D nf fr a_cells e r (ic i)) a_result → post ((nI nf), (nI ni), (nI nt), f_group, f_distinct, f_orderItem, f_orderDown, f_limit, f_nodes, f_waitingNodes, f_waitingWords, f_broken, f_top, f_parts, (nI m), f_nextCombos, f_placed, (nI m), (tq_n rn), a_cells, (tq_n fr), (tq_n ik), (tq_n ic), (tq_n tk), a_kind, a_left, a_right, a_needs, a_truth, a_waitNode, a_waitWord, a_part, a_canCount, a_can, a_combo, a_nextCombo, a_current, a_stays, a_result, a_index, a_sorted, a_key, a_table)) : wpX_listPlain post ((nI nf), (nI ni), (nI nt), f_group, f_distinct, f_orderItem, f_orderDown, f_limit, f_nodes, f_waitingNodes, f_waitingWords, f_broken, f_top, f_parts, (nI m), f_nextCombos, f_placed, f_results, (tq_n rn), a_cells, (tq_n fr), (tq_n ik), (tq_n ic), (tq_n tk), a_kind, a_left, a_right, a_needs, a_truth, a_waitNode, a_waitWord, a_part, a_canCount, a_can, a_combo, a_nextCombo, a_current, a_stays, a_result, a_index, a_sorted, a_key, a_table) :=
  ⟨m + 1, xw_pl10 d fl hni cl hok hm hcb hp (m + 1) 0 a_current a_result (by omega) (by omega) (fun r hr => absurd hr (by omega))⟩
end
section
variable {nf ni nt : Nat} {fr ik ic tk rn : Nat → Nat} {f_group f_distinct f_orderItem f_orderDown f_limit f_nodes f_waitingNodes f_waitingWords f_broken f_top f_parts f_nextCombos f_placed : Int32} {a_cells a_kind a_left a_right a_needs a_truth a_waitNode a_waitWord a_part a_canCount a_can a_combo a_nextCombo a_stays a_index a_sorted a_key a_table : Nat → Int32}
theorem xw_sm16 {post : SX → Prop} {J : Int32 → Int32 → Int32 → Int32 → Int32 → Int32 → Int32 → Int32 → Int32 → Int32 → Int32 → Int32 → Int32 → Int32 → Int32 → Int32 → Int32 → Int32 → Int32 → (Nat → Int32) → (Nat → Int32) → (Nat → Int32) → (Nat → Int32) → (Nat → Int32) → (Nat → Int32) → (Nat → Int32) → (Nat → Int32) → (Nat → Int32) → (Nat → Int32) → (Nat → Int32) → (Nat → Int32) → (Nat → Int32) → (Nat → Int32) → (Nat → Int32) → (Nat → Int32) → (Nat → Int32) → (Nat → Int32) → (Nat → Int32) → (Nat → Int32) → (Nat → Int32) → (Nat → Int32) → (Nat → Int32) → (Nat → Int32) → (Nat → Int32) → Prop} {m i a b rs : Nat} {e ix : Nat → Nat} {a_result : Nat → Int32} (d : tq_ds nf fr) (fl : ∀ i, fr i < 3) (hi : i < 4) (il : ∀ i, ik i ≤ 4) (cl : ∀ i, ic i ≤ 8) (hok : ik i ≠ 1 → tq_pc nf fr (ic i / 3) < 3) (hm : m ≤ 1000) (hab : a ≤ b) (hb : b ≤ m) (hrs : rs < 1000) (hcb : ∀ j, j < m → a_combo j = nI (e j) ∧ e j < 1000) (hix : ∀ j, j < m → a_index j = nI (ix j) ∧ ix j < m)
    (hJ : ∀ a_current : Nat → Int32, J (nI (i + 1)) (nI nf) (nI ni) (nI nt) f_group f_distinct f_orderItem f_orderDown f_limit f_nodes f_waitingNodes f_waitingWords f_broken f_top f_parts (nI m) f_nextCombos f_placed (nI rs) (tq_n rn) a_cells (tq_n fr) (tq_n ik) (tq_n ic) (tq_n tk) a_kind a_left a_right a_needs a_truth a_waitNode a_waitWord a_part a_canCount a_can a_combo a_nextCombo a_current a_stays (upd a_result (4 * rs + i) (tq_fd (ik i) (fun j => tq_D nf fr a_cells e (ix (a + j)) (ic i)) (b - a))) a_index a_sorted a_key a_table) :
    ∀ (n k : Nat) (x4 : Int32) (a_current : Nat → Int32), b < n + k → a ≤ k → k ≤ b → x4 = tq_fd (ik i) (fun j => tq_D nf fr a_cells e (ix (a + j)) (ic i)) (k - a) → wX_summarise_16 post J (nI a) (nI b) (nI i) n x4 (nI k) (nI nf) (nI ni) (nI nt) f_group f_distinct f_orderItem f_orderDown f_limit f_nodes f_waitingNodes f_waitingWords f_broken f_top f_parts (nI m) f_nextCombos f_placed (nI rs) (tq_n rn) a_cells (tq_n fr) (tq_n ik) (tq_n ic) (tq_n tk) a_kind a_left a_right a_needs a_truth a_waitNode a_waitWord a_part a_canCount a_can a_combo a_nextCombo a_current a_stays a_result a_index a_sorted a_key a_table := by
  intro n
  induction n with
  | zero => intro k x4 a_current q1 q2; omega
  | succ n ih =>
    intro k x4 a_current hf ha hkb hx
    have vi : vp_in (nI i) 4 := vp_in_nI hi (by decide)
    have ixr : 4 * nI rs + nI i = nI (4 * rs + i) := by
      show nI 4 * nI rs + _ = _
      rw [pk_mul, nI_add]
    rcases Nat.lt_or_ge k b with z | z
    rotate_left
    · have : k = b := by omega
      subst this
      refine br_t (nI_le z (by omega)) ?_
      rw [ixr, nI_clamp (show 4 * rs + i < 2 ^ 31 by omega)]
      refine ⟨vp_in_nI (by omega) (by decide), nm_e (nm_r (nI_1 i) ?_)⟩
      rw [hx]
      exact hJ a_current
    have kl := il i
    have c := cl i
    refine br_f (nI_ge z (by omega)) ⟨vi, ?_⟩
    rw [nI_clamp (show i < 2 ^ 31 by omega)]
    have ek : k + 1 - a = (k - a) + 1 := by omega
    have eo : ∀ F : Nat → Int32, F (a + (k - a)) = F k := fun F => by rw [show a + (k - a) = k by omega]
    have st : ∀ (y : Int32) (a_current : Nat → Int32), y = tq_fd (ik i) (fun j => tq_D nf fr a_cells e (ix (a + j)) (ic i)) (k - a + 1) → wX_summarise_16 post J (nI a) (nI b) (nI i) n y (nI (k + 1)) (nI nf) (nI ni) (nI nt) f_group f_distinct f_orderItem f_orderDown f_limit f_nodes f_waitingNodes f_waitingWords f_broken f_top f_parts (nI m) f_nextCombos f_placed (nI rs) (tq_n rn) a_cells (tq_n fr) (tq_n ik) (tq_n ic) (tq_n tk) a_kind a_left a_right a_needs a_truth a_waitNode a_waitWord a_part a_canCount a_can a_combo a_nextCombo a_current a_stays a_result a_index a_sorted a_key a_table := by
      intro y a_current hy
      refine ih (k + 1) y a_current (by omega) (by omega) (by omega) ?_
      rw [ek]; exact hy
    -- the join of the two kinds of values
    have fin : ∀ (v : Int32) (a_current : Nat → Int32), (ik i = 1 → v = 1) → (ik i ≠ 1 → v = tq_D nf fr a_cells e (ix k) (ic i)) → wX_summarise_58 post J (wX_summarise_16 post J (nI a) (nI b) (nI i) n) (nI a) (nI b) (nI i) x4 (nI k) v (nI nf) (nI ni) (nI nt) f_group f_distinct f_orderItem f_orderDown f_limit f_nodes f_waitingNodes f_waitingWords f_broken f_top f_parts (nI m) f_nextCombos f_placed (nI rs) (tq_n rn) a_cells (tq_n fr) (tq_n ik) (tq_n ic) (tq_n tk) a_kind a_left a_right a_needs a_truth a_waitNode a_waitWord a_part a_canCount a_can a_combo a_nextCombo a_current a_stays a_result a_index a_sorted a_key a_table := by
      intro v a_current v1 v2
      have last : ∀ z0 : Int32, (ik i ≠ 1 → ik i ≠ 2 → ((¬ z0 = 0 ∧ (k - a = 0 ∨ (ik i = 3 ∧ v < x4) ∨ (ik i = 4 ∧ x4 < v))) ∨ (z0 = 0 ∧ ¬ (k - a = 0 ∨ (ik i = 3 ∧ v < x4) ∨ (ik i = 4 ∧ x4 < v))))) → wX_summarise_105 post J (wX_summarise_16 post J (nI a) (nI b) (nI i) n) (nI a) (nI b) (nI i) x4 (nI k) v z0 (nI nf) (nI ni) (nI nt) f_group f_distinct f_orderItem f_orderDown f_limit f_nodes f_waitingNodes f_waitingWords f_broken f_top f_parts (nI m) f_nextCombos f_placed (nI rs) (tq_n rn) a_cells (tq_n fr) (tq_n ik) (tq_n ic) (tq_n tk) a_kind a_left a_right a_needs a_truth a_waitNode a_waitWord a_part a_canCount a_can a_combo a_nextCombo a_current a_stays a_result a_index a_sorted a_key a_table := by
        intro z0 hz
        unfold wX_summarise_105
        rw [nI_clamp (show i < 2 ^ 31 by omega), nI_1]
        refine ⟨vi, pk_eq (ik i) 1 (fun q => nm_e (nm_e (st _ _ ?_))) (fun q => ⟨vi, pk_eq (ik i) 2 (fun q2 => nm_e (nm_e (st _ _ ?_))) (fun q2 => ?_)⟩)⟩
        · rw [tq_fd, if_pos q, ← hx, v1 q]
        · rw [tq_fd, if_neg q, if_pos q2, ← hx, v2 q, eo (fun j => tq_D nf fr a_cells e (ix j) (ic i))]
        · rcases hz q q2 with ⟨h1, h2⟩ | ⟨h1, h2⟩
          · refine br_f h1 (nm_e (st _ _ ?_))
            rw [tq_fd, if_neg q, if_neg q2, ← hx, eo (fun j => tq_D nf fr a_cells e (ix j) (ic i)), ← v2 q, if_pos h2]
          · refine br_t h1 (nm_e (st _ _ ?_))
            rw [tq_fd, if_neg q, if_neg q2, ← hx, eo (fun j => tq_D nf fr a_cells e (ix j) (ic i)), ← v2 q, if_neg h2]
      refine pk_eq k a (fun q => last 1 (fun _ _ => Or.inl ⟨by decide, Or.inl (by omega)⟩)) (fun q => ⟨vi, ?_⟩)
      rw [nI_clamp (show i < 2 ^ 31 by omega)]
      have s83 : (¬ (ik i = 3 ∧ v < x4)) → wX_summarise_83 post J (wX_summarise_16 post J (nI a) (nI b) (nI i) n) (nI a) (nI b) (nI i) x4 (nI k) v (nI nf) (nI ni) (nI nt) f_group f_distinct f_orderItem f_orderDown f_limit f_nodes f_waitingNodes f_waitingWords f_broken f_top f_parts (nI m) f_nextCombos f_placed (nI rs) (tq_n rn) a_cells (tq_n fr) (tq_n ik) (tq_n ic) (tq_n tk) a_kind a_left a_right a_needs a_truth a_waitNode a_waitWord a_part a_canCount a_can a_combo a_nextCombo a_current a_stays a_result a_index a_sorted a_key a_table := by
        intro h3
        unfold wX_summarise_83
        rw [nI_clamp (show i < 2 ^ 31 by omega)]
        refine ⟨vi, pk_eq (ik i) 4 (fun q4 => br_c (fun g => last 0 (fun _ _ => Or.inr ⟨rfl, ?_⟩)) (fun g => last 1 (fun _ _ => Or.inl ⟨by decide, Or.inr (Or.inr ⟨q4, Int32.not_le.mp g⟩)⟩))) (fun q4 => last 0 (fun _ _ => Or.inr ⟨rfl, ?_⟩))⟩
        · rintro (w | w | w)
          · omega
          · exact h3 w
          · exact Int32.not_lt.mpr g w.2
        · rintro (w | w | w)
          · omega
          · exact h3 w
          · exact q4 w.1
      exact pk_eq (ik i) 3 (fun q3 => br_c (fun g => last 1 (fun _ _ => Or.inl ⟨by decide, Or.inr (Or.inl ⟨q3, g⟩)⟩)) (fun g => s83 (fun w => g w.2))) (fun q3 => s83 (fun w => q3 w.1))
    refine pk_eq (ik i) 1 (fun q => fin 1 a_current (fun _ => rfl) (fun w => absurd q w)) (fun q => ⟨vp_in_nI (by omega) (by decide), ?_⟩)
    obtain ⟨i1, i2⟩ := hix k (by omega)
    obtain ⟨c1, c2⟩ := hcb (ix k) i2
    rw [nI_clamp (show k < 2 ^ 31 by omega), i1, nI_clamp (show ix k < 2 ^ 31 by omega), c1]
    refine ⟨vp_in_nI (by omega) (by decide), vi, ?_⟩
    exact xw_columnOf d fl c2 c (hok q) (fun a_current => fin _ a_current (fun w => absurd w q) (fun _ => rfl))
theorem xw_sm2 {post : SX → Prop} {m a b rs : Nat} {e ix : Nat → Nat} {res0 : Nat → Int32} (d : tq_ds nf fr) (fl : ∀ i, fr i < 3) (hni : ni ≤ 4) (il : ∀ i, ik i ≤ 4) (cl : ∀ i, ic i ≤ 8) (hok : ∀ i, i < ni → ik i ≠ 1 → tq_pc nf fr (ic i / 3) < 3) (hm : m ≤ 1000) (hab : a ≤ b) (hb : b ≤ m) (hrs : rs < 1000) (hcb : ∀ j, j < m → a_combo j = nI (e j) ∧ e j < 1000) (hix : ∀ j, j < m → a_index j = nI (ix j) ∧ ix j < m)
    (hp : ∀ (a_current a_result : Nat → Int32), (∀ x, x < 4 * rs → a_result x = res0 x) → (∀ i, i < ni → a_result (4 * rs + i) = tq_fd (ik i) (fun j => tq_D nf fr a_cells e (ix (a + j)) (ic i)) (b - a)) → post ((nI nf), (nI ni), (nI nt), f_group, f_distinct, f_orderItem, f_orderDown, f_limit, f_nodes, f_waitingNodes, f_waitingWords, f_broken, f_top, f_parts, (nI m), f_nextCombos, f_placed, (nI (rs + 1)), (tq_n rn), a_cells, (tq_n fr), (tq_n ik), (tq_n ic), (tq_n tk), a_kind, a_left, a_right, a_needs, a_truth, a_waitNode, a_waitWord, a_part, a_canCount, a_can, a_combo, a_nextCombo, a_current, a_stays, a_result, a_index, a_sorted, a_key, a_table)) :
    ∀ (n i : Nat) (a_current a_result : Nat → Int32), ni < n + i → i ≤ ni → (∀ x, x < 4 * rs → a_result x = res0 x) → (∀ j, j < i → a_result (4 * rs + j) = tq_fd (ik j) (fun x => tq_D nf fr a_cells e (ix (a + x)) (ic j)) (b - a)) → wX_summarise_2 post (nI a) (nI b) n (nI i) (nI nf) (nI ni) (nI nt) f_group f_distinct f_orderItem f_orderDown f_limit f_nodes f_waitingNodes f_waitingWords f_broken f_top f_parts (nI m) f_nextCombos f_placed (nI rs) (tq_n rn) a_cells (tq_n fr) (tq_n ik) (tq_n ic) (tq_n tk) a_kind a_left a_right a_needs a_truth a_waitNode a_waitWord a_part a_canCount a_can a_combo a_nextCombo a_current a_stays a_result a_index a_sorted a_key a_table := by
  intro n
  induction n with
  | zero => intro i a_current a_result q1 q2; omega
  | succ n ih =>
    intro i a_current a_result hf hi h1 h2
    rcases Nat.lt_or_ge i ni with z | z
    rotate_left
    · have : i = ni := by omega
      subst this
      exact br_t (nI_le z (by omega)) (nm_r (nI_1 rs) (hp a_current a_result h1 h2))
    refine br_f (nI_ge z (by omega)) ⟨b + 1, ?_⟩
    refine xw_sm16 d fl (by omega) il cl (hok i z) hm hab hb hrs hcb hix (fun a_current => ih (i + 1) a_current _ (by omega) (by omega) (fun x hx => ?_) (fun j hj => ?_)) (b + 1) a 0 a_current (by omega) (Nat.le_refl _) hab (by rw [Nat.sub_self]; rfl)
    · rw [pk_un (by omega)]; exact h1 x hx
    · by_cases q : j = i
      · rw [q, pk_us]
      · rw [pk_un (by omega)]; exact h2 j (by omega)
theorem xw_summarise {post : SX → Prop} {m a b rs : Nat} {e ix : Nat → Nat} {a_current a_result : Nat → Int32} (d : tq_ds nf fr) (fl : ∀ i, fr i < 3) (hni : ni ≤ 4) (il : ∀ i, ik i ≤ 4) (cl : ∀ i, ic i ≤ 8) (hok : ∀ i, i < ni → ik i ≠ 1 → tq_pc nf fr (ic i / 3) < 3) (hm : m ≤ 1000) (hab : a ≤ b) (hb : b ≤ m) (hrs : rs < 1000) (hcb : ∀ j, j < m → a_combo j = nI (e j) ∧ e j < 1000) (hix : ∀ j, j < m → a_index j = nI (ix j) ∧ ix j < m)
    (hp : ∀ (ac' res' : Nat → Int32), (∀ x, x < 4 * rs → res' x = a_result x) → (∀ i, i < ni → res' (4 * rs + i) = tq_fd (ik i) (fun j => tq_D nf fr a_cells e (ix (a + j)) (ic i)) (b - a)) → post ((nI nf), (nI ni), (nI nt), f_group, f_distinct, f_orderItem, f_orderDown, f_limit, f_nodes, f_waitingNodes, f_waitingWords, f_broken, f_top, f_parts, (nI m), f_nextCombos, f_placed, (nI (rs + 1)), (tq_n rn), a_cells, (tq_n fr), (tq_n ik), (tq_n ic), (tq_n tk), a_kind, a_left, a_right, a_needs, a_truth, a_waitNode, a_waitWord, a_part, a_canCount, a_can, a_combo, a_nextCombo, ac', a_stays, res', a_index, a_sorted, a_key, a_table)) : wpX_summarise post ((nI nf), (nI ni), (nI nt), f_group, f_distinct, f_orderItem, f_orderDown, f_limit, f_nodes, f_waitingNodes, f_waitingWords, f_broken, f_top, f_parts, (nI m), f_nextCombos, f_placed, (nI rs), (tq_n rn), a_cells, (tq_n fr), (tq_n ik), (tq_n ic), (tq_n tk), a_kind, a_left, a_right, a_needs, a_truth, a_waitNode, a_waitWord, a_part, a_canCount, a_can, a_combo, a_nextCombo, a_current, a_stays, a_result, a_index, a_sorted, a_key, a_table) (nI a) (nI b) :=
  ⟨ni + 1, xw_sm2 d fl hni il cl hok hm hab hb hrs hcb hix hp (ni + 1) 0 a_current a_result (by omega) (by omega) (fun _ _ => rfl) (fun j hj => absurd hj (by omega))⟩
end
end
section
/-- a group's row -/
def tq_GR (m ni : Nat) (ik ic : Nat → Nat) (D : Nat → Nat → Int32) (K : Nat → Int32) (v : Int32) (row : Nat → Int32) : Prop := ∃ (n : Nat) (es : Nat → Nat), tq_EN (· < ·) (fun c => c < m ∧ K c = v) es n ∧ ∀ i, i < ni → row i = (if ik i = 0 then v else tq_fd (ik i) (fun j => D (es j) (ic i)) n)
/-- the groups' rows, by rising value -/
def tq_GS (m ni : Nat) (ik ic : Nat → Nat) (D : Nat → Nat → Int32) (K : Nat → Int32) (n0 : Nat) (R : Nat → Nat → Int32) : Prop := ∃ gv : Nat → Int32, tq_EN (· < ·) (fun v => ∃ c, c < m ∧ K c = v) gv n0 ∧ ∀ t, t < n0 → tq_GR m ni ik ic D K (gv t) (R t)
theorem tq_GR_cg {m ni : Nat} {ik ic : Nat → Nat} {D : Nat → Nat → Int32} {K : Nat → Int32} {v : Int32} {row row' : Nat → Int32} (q : ∀ i, i < ni → row' i = row i) (h : tq_GR m ni ik ic D K v row) : tq_GR m ni ik ic D K v row' := by
  obtain ⟨n, es, h1, h2⟩ := h
  exact ⟨n, es, h1, fun i hi => by rw [q i hi]; exact h2 i hi⟩
theorem tq_le_lt {a b c : Int32} (h1 : a ≤ b) (h2 : b < c) : a < c := by
  rw [Int32.le_iff_toInt_le] at h1
  rw [Int32.lt_iff_toInt_lt] at h2 ⊢
  omega
theorem tq_lt_le {a b c : Int32} (h1 : a < b) (h2 : b ≤ c) : a < c := by
  rw [Int32.le_iff_toInt_le] at h2
  rw [Int32.lt_iff_toInt_lt] at h1 ⊢
  omega
theorem tq_ne_lt {a b : Int32} (h1 : a ≤ b) (h2 : a ≠ b) : a < b := by
  rw [Int32.le_iff_toInt_le] at h1
  rw [Int32.lt_iff_toInt_lt]
  have : a.toInt ≠ b.toInt := fun q => h2 (Int32.toInt_inj.mp q)
  omega
theorem tq_lt_key {K : Nat → Int32} {a b : Nat} (h : tq_lt K a b) : K a ≤ K b := by
  rcases h with h | h
  · exact Int32.le_of_lt h
  · rw [h.1]; exact Int32.le_refl _
theorem tq_BK_key {K K' : Nat → Int32} {n : Nat} {ix : Nat → Nat} (q : ∀ c, c < n → K' c = K c) (h : tq_BK K 0 n ix) : tq_BK K' 0 n ix := by
  refine ⟨h.1, h.2.1, fun i j h1 h2 h3 => ?_⟩
  have a := (h.1 i h1 (by omega)).2
  have b := (h.1 j (by omega) h3).2
  have := h.2.2 i j h1 h2 h3
  unfold tq_lt at this ⊢
  rw [q _ a, q _ b]
  exact this
/-- a stretch with one value is a group -/
theorem tq_stretch {K : Nat → Int32} {m bg r : Nat} {ix : Nat → Nat} (h : tq_BK K 0 m ix) (hbr : bg < r) (hr : r ≤ m) (hB : ∀ j, j < bg → K (ix j) < K (ix bg)) (hC : ∀ j, bg ≤ j → j < r → K (ix j) = K (ix bg)) (hD : r < m → K (ix r) ≠ K (ix bg)) : tq_EN (· < ·) (fun c => c < m ∧ K c = K (ix bg)) (fun j => ix (bg + j)) (r - bg) := by
  refine ⟨fun i j hij hj => ?_, fun i hi => ⟨(h.1 (bg + i) (by omega) (by omega)).2, hC _ (by omega) (by omega)⟩, fun x hx => ?_⟩
  · have := h.2.2 (bg + i) (bg + j) (by omega) (by omega) (by omega)
    rcases this with z | z
    · rw [hC _ (by omega) (by omega), hC (bg + j) (by omega) (by omega)] at z
      exact absurd z Int32.lt_irrefl
    · exact z.2
  · obtain ⟨q, _, q2, q3⟩ := h.2.1 x (by omega) hx.1
    refine ⟨q - bg, ?_, ?_⟩
    · rcases Nat.lt_or_ge q bg with z | z
      · have := hB q z
        rw [q3, hx.2] at this
        exact absurd this Int32.lt_irrefl
      · rcases Nat.lt_or_ge q r with y | y
        · omega
        · have l1 : K (ix bg) ≤ K (ix r) := tq_lt_key (h.2.2 bg r (by omega) hbr (by omega))
          have l2 := tq_ne_lt l1 (fun w => hD (by omega) w.symm)
          have l3 : K (ix r) ≤ K (ix q) := by
            rcases Nat.lt_or_ge r q with w | w
            · exact tq_lt_key (h.2.2 r q (by omega) w q2)
            · have : q = r := by omega
              rw [this]; exact Int32.le_refl _
          have := tq_lt_le l2 l3
          rw [q3, hx.2] at this
          exact absurd this Int32.lt_irrefl
    · rcases Nat.lt_or_ge q bg with z | z
      · have := hB q z
        rw [q3, hx.2] at this
        exact absurd this Int32.lt_irrefl
      · show ix (bg + (q - bg)) = x
        rw [show bg + (q - bg) = q by omega]; exact q3
section
variable {nf ni nt : Nat} {fr ik ic tk rn : Nat → Nat} {f_group f_distinct f_orderItem f_orderDown f_limit f_nodes f_waitingNodes f_waitingWords f_broken f_top f_parts f_nextCombos f_placed : Int32} {a_cells a_kind a_left a_right a_needs a_truth a_waitNode a_waitWord a_part a_canCount a_can a_combo a_nextCombo a_stays a_index a_sorted a_key a_table : Nat → Int32}
theorem xw_lg81 {post : SX → Prop} {m g : Nat} {e ix : Nat → Nat} (d : tq_ds nf fr) (fl : ∀ i, fr i < 3) (hni : ni ≤ 4) (il : ∀ i, ik i ≤ 4) (cl : ∀ i, ic i ≤ 8) (hok : ∀ i, i < ni → ik i ≠ 1 → tq_pc nf fr (ic i / 3) < 3) (hk0 : ∀ i, i < ni → ik i = 0 → ic i = g) (hm : m ≤ 1000) (hcb : ∀ j, j < m → a_combo j = nI (e j) ∧ e j < 1000) (hix : ∀ j, j < m → a_index j = nI (ix j)) (hkey : ∀ c, c < m → a_key c = tq_D nf fr a_cells e c g) (hBK : tq_BK (fun c => tq_D nf fr a_cells e c g) 0 m ix)
    (hp : ∀ (n0 : Nat) (a_current a_result : Nat → Int32), n0 ≤ 1000 → tq_GS m ni ik ic (tq_D nf fr a_cells e) (fun c => tq_D nf fr a_cells e c g) n0 (fun t i => a_result (4 * t + i)) → post ((nI nf), (nI ni), (nI nt), f_group, f_distinct, f_orderItem, f_orderDown, f_limit, f_nodes, f_waitingNodes, f_waitingWords, f_broken, f_top, f_parts, (nI m), f_nextCombos, f_placed, (nI n0), (tq_n rn), a_cells, (tq_n fr), (tq_n ik), (tq_n ic), (tq_n tk), a_kind, a_left, a_right, a_needs, a_truth, a_waitNode, a_waitWord, a_part, a_canCount, a_can, a_combo, a_nextCombo, a_current, a_stays, a_result, a_index, a_sorted, a_key, a_table)) :
    ∀ (n bg r rs : Nat) (gv : Nat → Int32) (a_current a_result : Nat → Int32), m + 1 < n + r → bg < r → r ≤ m + 1 → (r = m + 1 → bg = m ∨ m = 0) → rs ≤ bg → (bg < m → ∀ j, j < bg → tq_D nf fr a_cells e (ix j) g < tq_D nf fr a_cells e (ix bg) g) → (∀ j, bg ≤ j → j < r → j < m → tq_D nf fr a_cells e (ix j) g = tq_D nf fr a_cells e (ix bg) g) → tq_EN (· < ·) (fun v => ∃ j, j < bg ∧ tq_D nf fr a_cells e (ix j) g = v) gv rs → (∀ t, t < rs → tq_GR m ni ik ic (tq_D nf fr a_cells e) (fun c => tq_D nf fr a_cells e c g) (gv t) (fun i => a_result (4 * t + i))) →
    wX_listGroups_81 post n (nI bg) (nI r) (nI nf) (nI ni) (nI nt) f_group f_distinct f_orderItem f_orderDown f_limit f_nodes f_waitingNodes f_waitingWords f_broken f_top f_parts (nI m) f_nextCombos f_placed (nI rs) (tq_n rn) a_cells (tq_n fr) (tq_n ik) (tq_n ic) (tq_n tk) a_kind a_left a_right a_needs a_truth a_waitNode a_waitWord a_part a_canCount a_can a_combo a_nextCombo a_current a_stays a_result a_index a_sorted a_key a_table := by
  have hix2 : ∀ j, j < m → a_index j = nI (ix j) ∧ ix j < m := fun j hj => ⟨hix j hj, (hBK.1 j (by omega) hj).2⟩
  intro n
  induction n with
  | zero => intro bg r rs gv a_current a_result q1 q2 q3; omega
  | succ n ih =>
    intro bg r rs gv a_current a_result hf hbr hr hrm hrs hB hC hEN hGR
    rcases Nat.lt_or_ge m r with z | z
    · have er : r = m + 1 := by omega
      refine br_t (nI_lt z (by omega)) (hp rs a_current a_result ?_ ⟨gv, tq_en_iff (fun v => ?_) hEN, hGR⟩)
      · rcases hrm er with q | q <;> omega
      · constructor
        · rintro ⟨j, j1, j2⟩
          exact ⟨ix j, (hix2 j (by rcases hrm er with q | q <;> omega)).2, j2⟩
        · rintro ⟨c, c1, c2⟩
          obtain ⟨q, _, q2, q3⟩ := hBK.2.1 c (by omega) c1
          exact ⟨q, by rcases hrm er with w | w <;> omega, by rw [q3]; exact c2⟩
    have close : (r < m → tq_D nf fr a_cells e (ix r) g ≠ tq_D nf fr a_cells e (ix bg) g) → wX_listGroups_122 post (wX_listGroups_81 post n) (nI bg) (nI r) (nI nf) (nI ni) (nI nt) f_group f_distinct f_orderItem f_orderDown f_limit f_nodes f_waitingNodes f_waitingWords f_broken f_top f_parts (nI m) f_nextCombos f_placed (nI rs) (tq_n rn) a_cells (tq_n fr) (tq_n ik) (tq_n ic) (tq_n tk) a_kind a_left a_right a_needs a_truth a_waitNode a_waitWord a_part a_canCount a_can a_combo a_nextCombo a_current a_stays a_result a_index a_sorted a_key a_table := by
      intro hD
      have en := tq_stretch (r := r) hBK hbr z (hB (by omega)) (fun j h1 h2 => hC j h1 h2 (by omega)) hD
      refine xw_summarise d fl hni il cl hok hm (Nat.le_of_lt hbr) z (by omega) hcb hix2 (fun ac' res' h1 h2 => ?_)
      refine nm_r (nI_1 r) (ih r (r + 1) (rs + 1) (tq_u gv rs (tq_D nf fr a_cells e (ix bg) g)) ac' res' (by omega) (by omega) (by omega) (fun q => Or.inl (by omega)) (by omega) (fun q j hj => ?_) (fun j q1 q2 q3 => by rw [show j = r by omega]) (tq_en_s (x := tq_D nf fr a_cells e (ix bg) g) hEN (fun i hi => tq_un (by omega)) tq_us (fun y hy => ?_) (fun y => ?_)) (fun t ht => ?_))
      · have l1 : tq_D nf fr a_cells e (ix bg) g ≤ tq_D nf fr a_cells e (ix r) g := tq_lt_key (hBK.2.2 bg r (by omega) hbr q)
        have l2 := tq_ne_lt l1 (fun w => hD q w.symm)
        rcases Nat.lt_or_ge j bg with w | w
        · exact Int32.lt_trans (hB (by omega) j w) l2
        · rw [hC j w hj (by omega)]; exact l2
      · obtain ⟨j, j1, j2⟩ := hy
        rw [← j2]
        exact hB (by omega) j j1
      · constructor
        · rintro ⟨j, j1, j2⟩
          rcases Nat.lt_or_ge j bg with w | w
          · exact Or.inl ⟨j, w, j2⟩
          · exact Or.inr (by rw [← j2]; exact hC j w j1 (by omega))
        · rintro (⟨j, j1, j2⟩ | q)
          · exact ⟨j, by omega, j2⟩
          · exact ⟨bg, hbr, q.symm⟩
      · by_cases w : t = rs
        · rw [w, tq_us]
          refine ⟨r - bg, fun j => ix (bg + j), en, fun i hi => ?_⟩
          show res' (4 * rs + i) = _
          rw [h2 i hi]
          by_cases k0 : ik i = 0
          · rw [if_pos k0, k0, hk0 i hi k0]
            obtain ⟨x, hx⟩ : ∃ x, r - bg = x + 1 := ⟨r - bg - 1, by omega⟩
            rw [hx, tq_fd0]
            rfl
          · rw [if_neg k0]
        · rw [tq_un w]
          refine tq_GR_cg (fun i hi => ?_) (hGR t (by omega))
          exact h1 _ (by omega)
    refine br_f (nI_nlt (by omega) (by omega)) (pk_eq r m (fun q => close (fun w => by omega)) (fun q => ?_))
    obtain ⟨i1, i2⟩ := hix2 r (by omega)
    obtain ⟨i3, i4⟩ := hix2 bg (by omega)
    rw [nI_clamp (show r < 2 ^ 31 by omega), nI_clamp (show bg < 2 ^ 31 by omega), i1, i3, nI_clamp (show ix r < 2 ^ 31 by omega), nI_clamp (show ix bg < 2 ^ 31 by omega), hkey _ i2, hkey _ i4]
    refine ⟨vp_in_nI (by omega) (by decide), vp_in_nI (by omega) (by decide), vp_in_nI (by omega) (by decide), vp_in_nI (by omega) (by decide), br_c (fun y => nm_r (nI_1 r) ?_) (fun y => close (fun _ => y))⟩
    refine ih bg (r + 1) rs gv a_current a_result (by omega) (by omega) (by omega) (fun w => by omega) hrs hB (fun j q1 q2 q3 => ?_) hEN hGR
    rcases Nat.lt_or_ge j r with w | w
    · exact hC j q1 w q3
    · rw [show j = r by omega]; exact y
end
section
variable {nf ni nt : Nat} {fr ik ic tk rn : Nat → Nat} {f_distinct f_orderItem f_orderDown f_limit f_nodes f_waitingNodes f_waitingWords f_broken f_top f_parts f_nextCombos f_placed f_results : Int32} {a_cells a_kind a_left a_right a_needs a_truth a_waitNode a_waitWord a_part a_canCount a_can a_combo a_nextCombo a_stays a_result a_index a_sorted a_table : Nat → Int32}
theorem xw_lgA {post : SX → Prop} {m g : Nat} {e : Nat → Nat} (d : tq_ds nf fr) (fl : ∀ i, fr i < 3) (hni : ni ≤ 4) (il : ∀ i, ik i ≤ 4) (cl : ∀ i, ic i ≤ 8) (hok : ∀ i, i < ni → ik i ≠ 1 → tq_pc nf fr (ic i / 3) < 3) (hk0 : ∀ i, i < ni → ik i = 0 → ic i = g) (hg : g ≤ 8) (hgp : tq_pc nf fr (g / 3) < 3) (hm : m ≤ 1000) (hcb : ∀ j, j < m → a_combo j = nI (e j) ∧ e j < 1000)
    (hp : ∀ (n0 : Nat) (a_current a_result a_index a_sorted a_key : Nat → Int32), n0 ≤ 1000 → tq_GS m ni ik ic (tq_D nf fr a_cells e) (fun c => tq_D nf fr a_cells e c g) n0 (fun t i => a_result (4 * t + i)) → post ((nI nf), (nI ni), (nI nt), (nI g), f_distinct, f_orderItem, f_orderDown, f_limit, f_nodes, f_waitingNodes, f_waitingWords, f_broken, f_top, f_parts, (nI m), f_nextCombos, f_placed, (nI n0), (tq_n rn), a_cells, (tq_n fr), (tq_n ik), (tq_n ic), (tq_n tk), a_kind, a_left, a_right, a_needs, a_truth, a_waitNode, a_waitWord, a_part, a_canCount, a_can, a_combo, a_nextCombo, a_current, a_stays, a_result, a_index, a_sorted, a_key, a_table)) :
    ∀ (n r : Nat) (a_current a_key : Nat → Int32), m < n + r → r ≤ m → (∀ j, j < r → a_key j = tq_D nf fr a_cells e j g) → wX_listGroups_2 post n (nI r) (nI nf) (nI ni) (nI nt) (nI g) f_distinct f_orderItem f_orderDown f_limit f_nodes f_waitingNodes f_waitingWords f_broken f_top f_parts (nI m) f_nextCombos f_placed f_results (tq_n rn) a_cells (tq_n fr) (tq_n ik) (tq_n ic) (tq_n tk) a_kind a_left a_right a_needs a_truth a_waitNode a_waitWord a_part a_canCount a_can a_combo a_nextCombo a_current a_stays a_result a_index a_sorted a_key a_table := by
  intro n
  induction n with
  | zero => intro r a_current a_key q1 q2; omega
  | succ n ih =>
    intro r a_current a_key hf hr hk
    rcases Nat.lt_or_ge r m with z | z
    rotate_left
    · have : r = m := by omega
      subst this
      refine br_t (nI_le z (by omega)) ?_
      refine xw_sortByKey hm (fun ix a_sorted a_index h1 h2 => br_t (nI_pos' (by omega)) ⟨r + 2, ?_⟩)
      have BK := tq_BK_key (K' := fun c => tq_D nf fr a_cells e c g) (fun c hc => (hk c hc).symm) h2
      refine xw_lg81 d fl hni il cl hok hk0 hm hcb h1 hk BK (fun n0 a_current a_result h3 h4 => hp n0 a_current a_result a_index a_sorted a_key h3 h4) (r + 2) 0 1 0 (fun _ => 0) a_current a_result (by omega) (by omega) (by omega) (fun q => Or.inr (by omega)) (by omega) (fun _ j hj => absurd hj (by omega)) (fun j q1 q2 q3 => by rw [show j = 0 by omega]) (tq_en_0 (fun v ⟨j, j1, _⟩ => by omega)) (fun t ht => absurd ht (by omega))
    obtain ⟨c1, c2⟩ := hcb r z
    refine br_f (nI_ge z (by omega)) (br_t (nI_pos' (by omega)) ⟨vp_in_nI (by omega) (by decide), ?_⟩)
    rw [nI_clamp (show r < 2 ^ 31 by omega), c1]
    refine xw_columnOf d fl c2 hg hgp (fun a_current => ⟨vp_in_nI (by omega) (by decide), nm_e (nm_r (nI_1 r) ?_)⟩)
    refine ih (r + 1) a_current _ (by omega) (by omega) (fun j hj => ?_)
    by_cases q : j = r
    · rw [q, pk_us]; rfl
    · rw [pk_un q]; exact hk j (by omega)
theorem xw_lgB {post : SX → Prop} {m : Nat} {e : Nat → Nat} (d : tq_ds nf fr) (fl : ∀ i, fr i < 3) (hni : ni ≤ 4) (il : ∀ i, ik i ≤ 4) (cl : ∀ i, ic i ≤ 8) (hok : ∀ i, i < ni → ik i ≠ 1 → tq_pc nf fr (ic i / 3) < 3) (hk0 : ∀ i, i < ni → ik i ≠ 0) (hm : m ≤ 1000) (hcb : ∀ j, j < m → a_combo j = nI (e j) ∧ e j < 1000)
    (hp : ∀ (a_current a_result a_index a_sorted a_key : Nat → Int32), tq_GR m ni ik ic (tq_D nf fr a_cells e) (fun _ => 0) 0 (fun i => a_result i) → post ((nI nf), (nI ni), (nI nt), (-1), f_distinct, f_orderItem, f_orderDown, f_limit, f_nodes, f_waitingNodes, f_waitingWords, f_broken, f_top, f_parts, (nI m), f_nextCombos, f_placed, 1, (tq_n rn), a_cells, (tq_n fr), (tq_n ik), (tq_n ic), (tq_n tk), a_kind, a_left, a_right, a_needs, a_truth, a_waitNode, a_waitWord, a_part, a_canCount, a_can, a_combo, a_nextCombo, a_current, a_stays, a_result, a_index, a_sorted, a_key, a_table)) :
    ∀ (n r : Nat) (a_current a_key : Nat → Int32), m < n + r → r ≤ m → (∀ j, j < r → a_key j = 0) → wX_listGroups_2 post n (nI r) (nI nf) (nI ni) (nI nt) (-1) f_distinct f_orderItem f_orderDown f_limit f_nodes f_waitingNodes f_waitingWords f_broken f_top f_parts (nI m) f_nextCombos f_placed f_results (tq_n rn) a_cells (tq_n fr) (tq_n ik) (tq_n ic) (tq_n tk) a_kind a_left a_right a_needs a_truth a_waitNode a_waitWord a_part a_canCount a_can a_combo a_nextCombo a_current a_stays a_result a_index a_sorted a_key a_table := by
  intro n
  induction n with
  | zero => intro r a_current a_key q1 q2; omega
  | succ n ih =>
    intro r a_current a_key hf hr hk
    rcases Nat.lt_or_ge r m with z | z
    rotate_left
    · have : r = m := by omega
      subst this
      refine br_t (nI_le z (by omega)) ?_
      refine xw_sortByKey hm (fun ix a_sorted a_index h1 h2 => br_f tq_m1 ?_)
      have BK := tq_BK_key (K' := fun _ => 0) (fun c hc => (hk c hc).symm) h2
      refine xw_summarise (rs := 0) (a := 0) d fl hni il cl hok hm (Nat.zero_le _) (Nat.le_refl r) (by omega) hcb (fun j hj => ⟨h1 j hj, (BK.1 j (by omega) hj).2⟩) (fun ac' res' h3 h4 => ?_)
      refine hp ac' res' a_index a_sorted a_key ⟨r, ix, ⟨fun i j hij hj => ?_, fun i hi => ⟨(BK.1 i (by omega) hi).2, rfl⟩, fun x hx => ?_⟩, fun i hi => ?_⟩
      · rcases BK.2.2 i j (by omega) hij hj with w | w
        · exact absurd w Int32.lt_irrefl
        · exact w.2
      · obtain ⟨q, _, q2, q3⟩ := BK.2.1 x (by omega) hx.1
        exact ⟨q, q2, q3⟩
      · rw [if_neg (hk0 i hi)]
        have := h4 i hi
        simp only [Nat.mul_zero, Nat.zero_add, Nat.sub_zero] at this
        exact this
    refine br_f (nI_ge z (by omega)) (br_f tq_m1 ⟨vp_in_nI (by omega) (by decide), ?_⟩)
    rw [nI_clamp (show r < 2 ^ 31 by omega)]
    refine nm_e (nm_r (nI_1 r) (ih (r + 1) a_current _ (by omega) (by omega) (fun j hj => ?_)))
    by_cases q : j = r
    · rw [q, pk_us]
    · rw [pk_un q]; exact hk j (by omega)
end
section
variable {nf ni nt : Nat} {fr ik ic tk rn : Nat → Nat} {f_distinct f_orderItem f_orderDown f_limit f_nodes f_waitingNodes f_waitingWords f_broken f_top f_parts f_nextCombos f_placed f_results : Int32} {a_cells a_kind a_left a_right a_needs a_truth a_waitNode a_waitWord a_part a_canCount a_can a_combo a_nextCombo a_current a_stays a_result a_index a_sorted a_key a_table : Nat → Int32}
theorem xw_listGroupsA {post : SX → Prop} {m g : Nat} {e : Nat → Nat} (d : tq_ds nf fr) (fl : ∀ i, fr i < 3) (hni : ni ≤ 4) (il : ∀ i, ik i ≤ 4) (cl : ∀ i, ic i ≤ 8) (hok : ∀ i, i < ni → ik i ≠ 1 → tq_pc nf fr (ic i / 3) < 3) (hk0 : ∀ i, i < ni → ik i = 0 → ic i = g) (hg : g ≤ 8) (hgp : tq_pc nf fr (g / 3) < 3) (hm : m ≤ 1000) (hcb : ∀ j, j < m → a_combo j = nI (e j) ∧ e j < 1000)
    (hp : ∀ (n0 : Nat) (a_current a_result a_index a_sorted a_key : Nat → Int32), n0 ≤ 1000 → tq_GS m ni ik ic (tq_D nf fr a_cells e) (fun c => tq_D nf fr a_cells e c g) n0 (fun t i => a_result (4 * t + i)) → post ((nI nf), (nI ni), (nI nt), (nI g), f_distinct, f_orderItem, f_orderDown, f_limit, f_nodes, f_waitingNodes, f_waitingWords, f_broken, f_top, f_parts, (nI m), f_nextCombos, f_placed, (nI n0), (tq_n rn), a_cells, (tq_n fr), (tq_n ik), (tq_n ic), (tq_n tk), a_kind, a_left, a_right, a_needs, a_truth, a_waitNode, a_waitWord, a_part, a_canCount, a_can, a_combo, a_nextCombo, a_current, a_stays, a_result, a_index, a_sorted, a_key, a_table)) : wpX_listGroups post ((nI nf), (nI ni), (nI nt), (nI g), f_distinct, f_orderItem, f_orderDown, f_limit, f_nodes, f_waitingNodes, f_waitingWords, f_broken, f_top, f_parts, (nI m), f_nextCombos, f_placed, f_results, (tq_n rn), a_cells, (tq_n fr), (tq_n ik), (tq_n ic), (tq_n tk), a_kind, a_left, a_right, a_needs, a_truth, a_waitNode, a_waitWord, a_part, a_canCount, a_can, a_combo, a_nextCombo, a_current, a_stays, a_result, a_index, a_sorted, a_key, a_table) :=
  ⟨m + 1, xw_lgA d fl hni il cl hok hk0 hg hgp hm hcb hp (m + 1) 0 a_current a_key (by omega) (by omega) (fun j hj => absurd hj (by omega))⟩
theorem xw_listGroupsB {post : SX → Prop} {m : Nat} {e : Nat → Nat} (d : tq_ds nf fr) (fl : ∀ i, fr i < 3) (hni : ni ≤ 4) (il : ∀ i, ik i ≤ 4) (cl : ∀ i, ic i ≤ 8) (hok : ∀ i, i < ni → ik i ≠ 1 → tq_pc nf fr (ic i / 3) < 3) (hk0 : ∀ i, i < ni → ik i ≠ 0) (hm : m ≤ 1000) (hcb : ∀ j, j < m → a_combo j = nI (e j) ∧ e j < 1000)
    (hp : ∀ (a_current a_result a_index a_sorted a_key : Nat → Int32), tq_GR m ni ik ic (tq_D nf fr a_cells e) (fun _ => 0) 0 (fun i => a_result i) → post ((nI nf), (nI ni), (nI nt), (-1), f_distinct, f_orderItem, f_orderDown, f_limit, f_nodes, f_waitingNodes, f_waitingWords, f_broken, f_top, f_parts, (nI m), f_nextCombos, f_placed, 1, (tq_n rn), a_cells, (tq_n fr), (tq_n ik), (tq_n ic), (tq_n tk), a_kind, a_left, a_right, a_needs, a_truth, a_waitNode, a_waitWord, a_part, a_canCount, a_can, a_combo, a_nextCombo, a_current, a_stays, a_result, a_index, a_sorted, a_key, a_table)) : wpX_listGroups post ((nI nf), (nI ni), (nI nt), (-1), f_distinct, f_orderItem, f_orderDown, f_limit, f_nodes, f_waitingNodes, f_waitingWords, f_broken, f_top, f_parts, (nI m), f_nextCombos, f_placed, f_results, (tq_n rn), a_cells, (tq_n fr), (tq_n ik), (tq_n ic), (tq_n tk), a_kind, a_left, a_right, a_needs, a_truth, a_waitNode, a_waitWord, a_part, a_canCount, a_can, a_combo, a_nextCombo, a_current, a_stays, a_result, a_index, a_sorted, a_key, a_table) :=
  ⟨m + 1, xw_lgB d fl hni il cl hok hk0 hm hcb hp (m + 1) 0 a_current a_key (by omega) (by omega) (fun j hj => absurd hj (by omega))⟩
end
end
section
/-! repeated rows -/
def tq_same (ni : Nat) (R : Nat → Nat → Int32) (a b : Nat) : Prop := ∀ i, i < ni → R a i = R b i
def tq_fresh (ni : Nat) (R : Nat → Nat → Int32) (x : Nat) : Prop := ∀ y, y < x → ¬ tq_same ni R y x
/-- the rows that are new, in their order -/
def tq_DS (ni N0 : Nat) (R0 : Nat → Nat → Int32) (n : Nat) (R : Nat → Nat → Int32) : Prop := ∃ kp : Nat → Nat, tq_EN (· < ·) (fun x => x < N0 ∧ tq_fresh ni R0 x) kp n ∧ ∀ t, t < n → ∀ i, i < ni → R t i = R0 (kp t) i
theorem tq_least (P : Nat → Prop) (h : ∃ k, P k) : ∃ k, P k ∧ ∀ j, j < k → ¬ P j := by
  obtain ⟨k, hk⟩ := h
  induction k using Nat.strongRecOn with
  | ind k ih =>
    rcases Classical.em (∃ j, j < k ∧ P j) with ⟨j, j1, j2⟩ | q
    · exact ih j j1 j2
    · exact ⟨k, hk, fun j hj hp => q ⟨j, hj, hp⟩⟩
/-- to be seen among the kept rows is to be seen at all -/
theorem tq_seen {ni r n : Nat} {R0 : Nat → Nat → Int32} {kp : Nat → Nat} (h : tq_EN (· < ·) (fun x => x < r ∧ tq_fresh ni R0 x) kp n) : (∃ k, k < n ∧ tq_same ni R0 (kp k) r) ↔ ¬ tq_fresh ni R0 r := by
  constructor
  · rintro ⟨k, k1, k2⟩ q
    exact q _ (h.2.1 k k1).1 k2
  · intro q
    have : ∃ y, y < r ∧ tq_same ni R0 y r := Classical.byContradiction (fun w => q (fun y hy hs => w ⟨y, hy, hs⟩))
    obtain ⟨y, ⟨y1, y2⟩, y3⟩ := tq_least _ this
    obtain ⟨k, k1, k2⟩ := h.2.2 y ⟨y1, fun z hz hs => y3 z hz ⟨by omega, fun i hi => (hs i hi).trans (y2 i hi)⟩⟩
    exact ⟨k, k1, by rw [k2]; exact y2⟩
def tq_hr (row : Nat → Int32) : Nat → Int32
  | 0 => 7
  | i + 1 => tq_hr row i * 31 + row i
theorem tq_hr_cg {row row' : Nat → Int32} : ∀ n, (∀ i, i < n → row i = row' i) → tq_hr row n = tq_hr row' n
  | 0, _ => rfl
  | n + 1, h => by
    simp only [tq_hr]
    rw [tq_hr_cg n (fun i hi => h i (by omega)), h n (by omega)]
def tq_hm (x : Int32) : Nat := ((x ^^^ ((x.toUInt32 >>> ((11 : Int32).toUInt32 &&& Int32.toUInt32 31)).toInt32)) &&& 2047).toNatClampNeg
theorem tq_hm_e (x : Int32) : (x ^^^ ((x.toUInt32 >>> ((11 : Int32).toUInt32 &&& Int32.toUInt32 31)).toInt32)) &&& 2047 = nI (tq_hm x) ∧ tq_hm x < 2048 := by
  obtain ⟨j, hj, e⟩ := pk_andE (x ^^^ ((x.toUInt32 >>> ((11 : Int32).toUInt32 &&& Int32.toUInt32 31)).toInt32)) (m := 2047) 11 (by decide)
  have hj' : j < 2048 := hj
  unfold tq_hm
  rw [e, nI_clamp (by omega)]
  exact ⟨rfl, hj'⟩
def tq_hs (ni : Nat) (row : Nat → Int32) : Nat := tq_hm (tq_hr row ni)
/-- the table of the first n rows -/
def tq_HT (ni : Nat) (Q : Nat → Nat → Int32) (n : Nat) (T : Nat → Int32) : Prop :=
  (∀ s, s < 2048 → T s < 0 ∨ ∃ k, k < n ∧ T s = nI k) ∧ (∀ k, k < n → ∃ d, T ((tq_hs ni (Q k) + d) % 2048) = nI k ∧ ∀ d', d' < d → ¬ T ((tq_hs ni (Q k) + d') % 2048) < 0) ∧ (∀ s s', s < 2048 → s' < 2048 → ¬ T s < 0 → T s = T s' → s = s')
theorem tq_HT_cg {ni n : Nat} {Q Q' : Nat → Nat → Int32} {T : Nat → Int32} (q : ∀ k, k < n → ∀ i, i < ni → Q' k i = Q k i) (h : tq_HT ni Q n T) : tq_HT ni Q' n T := by
  refine ⟨h.1, fun k hk => ?_, h.2.2⟩
  have e : tq_hs ni (Q' k) = tq_hs ni (Q k) := by
    unfold tq_hs
    rw [tq_hr_cg ni (q k hk)]
  rw [e]
  exact h.2.1 k hk
theorem tq_HT_ins {ni n : Nat} {Q : Nat → Nat → Int32} {T : Nat → Int32} {i : Nat} (hn : n < 1000) (h : tq_HT ni Q n T) (h0 : T ((tq_hs ni (Q n) + i) % 2048) < 0) (hb : ∀ d, d < i → ¬ T ((tq_hs ni (Q n) + d) % 2048) < 0) : tq_HT ni Q (n + 1) (upd T ((tq_hs ni (Q n) + i) % 2048) (nI n)) := by
  have pos : ∀ k, k < 1001 → ¬ nI k < 0 := fun k hk => nI_pos (by omega)
  refine ⟨fun s hs => ?_, fun k hk => ?_, fun s s' hs hs' q1 q2 => ?_⟩
  · by_cases e : s = (tq_hs ni (Q n) + i) % 2048
    · rw [e, pk_us]; exact Or.inr ⟨n, by omega, rfl⟩
    · rw [pk_un e]
      rcases h.1 s hs with w | ⟨k, k1, k2⟩
      · exact Or.inl w
      · exact Or.inr ⟨k, by omega, k2⟩
  · by_cases e : k = n
    · subst e
      refine ⟨i, pk_us, fun d hd => ?_⟩
      by_cases w : (tq_hs ni (Q k) + d) % 2048 = (tq_hs ni (Q k) + i) % 2048
      · rw [w, pk_us]; exact pos k (by omega)
      · rw [pk_un w]; exact hb d hd
    · obtain ⟨d, d1, d2⟩ := h.2.1 k (by omega)
      refine ⟨d, ?_, fun d' hd' => ?_⟩
      · rw [pk_un]
        · exact d1
        · intro w
          rw [w] at d1
          rw [d1] at h0
          exact pos k (by omega) h0
      · rw [pk_un]
        · exact d2 d' hd'
        · intro w
          have := d2 d' hd'
          rw [w] at this
          exact this h0
  · have old : ∀ x, x < 2048 → T x ≠ nI n := by
      intro x hx w
      rcases h.1 x hx with y | ⟨k, k1, k2⟩
      · rw [w] at y; exact pos n (by omega) y
      · rw [w, nI_eq (by omega) (by omega)] at k2; omega
    by_cases e : s = (tq_hs ni (Q n) + i) % 2048 <;> by_cases e' : s' = (tq_hs ni (Q n) + i) % 2048
    · rw [e, e']
    · rw [e, pk_us, pk_un e'] at q2
      exact absurd q2.symm (old s' hs')
    · rw [e', pk_us, pk_un e] at q2
      exact absurd q2 (old s hs)
    · rw [pk_un e] at q1
      rw [pk_un e, pk_un e'] at q2
      exact h.2.2 s s' hs hs' q1 q2
theorem tq_HT_room {ni n : Nat} {Q : Nat → Nat → Int32} {T : Nat → Int32} {h0 : Nat} (hn : n ≤ 1000) (h : tq_HT ni Q n T) (hb : ∀ d, d < 2048 → ¬ T ((h0 + d) % 2048) < 0) : False := by
  have occ : ∀ s, s < 2048 → ¬ T s < 0 := by
    intro s hs
    have := hb ((s + 2048 - h0 % 2048) % 2048) (Nat.mod_lt _ (by omega))
    rw [show (h0 + (s + 2048 - h0 % 2048) % 2048) % 2048 = s by omega] at this
    exact this
  have := tq_pg n 2048 T nI (fun i j hij hj q => by
    have := h.2.2 i j (by omega) hj (occ i (by omega)) q
    omega) (fun s hs => by
    rcases h.1 s hs with w | ⟨k, k1, k2⟩
    · exact absurd w (occ s hs)
    · exact ⟨k, k1, k2.symm⟩)
  omega
theorem tq_HT_new {ni n : Nat} {Q : Nat → Nat → Int32} {T : Nat → Int32} {i : Nat} (hn : n ≤ 1000) (h : tq_HT ni Q n T) (h0 : T ((tq_hs ni (Q n) + i) % 2048) < 0) (hb : ∀ d, d < i → ∃ k, k < n ∧ T ((tq_hs ni (Q n) + d) % 2048) = nI k ∧ ¬ tq_same ni Q k n) : ¬ ∃ k, k < n ∧ tq_same ni Q k n := by
  rintro ⟨k, k1, k2⟩
  have e : tq_hs ni (Q k) = tq_hs ni (Q n) := by
    unfold tq_hs
    rw [tq_hr_cg ni k2]
  obtain ⟨d, d1, d2⟩ := h.2.1 k k1
  rw [e] at d1 d2
  rcases Nat.lt_trichotomy d i with z | z | z
  · obtain ⟨k', a, b, c⟩ := hb d z
    rw [d1, nI_eq (by omega) (by omega)] at b
    subst b
    exact c k2
  · rw [← z, d1] at h0
    exact nI_pos (by omega) h0
  · exact d2 i z h0
section
variable {nf ni nt : Nat} {fr ik ic tk rn : Nat → Nat} {f_group f_distinct f_orderItem f_orderDown f_limit f_nodes f_waitingNodes f_waitingWords f_broken f_top f_parts f_combos f_nextCombos f_placed f_results : Int32} {a_cells a_kind a_left a_right a_needs a_truth a_waitNode a_waitWord a_part a_canCount a_can a_combo a_nextCombo a_current a_stays a_result a_index a_sorted a_key a_table : Nat → Int32}
theorem xw_sr5 {post : Int32 → Prop} {r s : Nat} (hni : ni ≤ 4) (hr : r < 1000) (hs : s < 1000) (h1 : tq_same ni (fun r i => a_result (4 * r + i)) r s → post 1) (h0 : ¬ tq_same ni (fun r i => a_result (4 * r + i)) r s → post 0) : ∀ (n i : Nat) (x3 : Int32), ni < n + i → i ≤ ni → ((x3 = 1 ∧ ∀ j, j < i → a_result (4 * r + j) = a_result (4 * s + j)) ∨ (x3 = 0 ∧ ¬ tq_same ni (fun r i => a_result (4 * r + i)) r s)) → wX_sameRow_5 post (nI r) (nI s) (nI nf) (nI ni) (nI nt) f_group f_distinct f_orderItem f_orderDown f_limit f_nodes f_waitingNodes f_waitingWords f_broken f_top f_parts f_combos f_nextCombos f_placed f_results (tq_n rn) a_cells (tq_n fr) (tq_n ik) (tq_n ic) (tq_n tk) a_kind a_left a_right a_needs a_truth a_waitNode a_waitWord a_part a_canCount a_can a_combo a_nextCombo a_current a_stays a_result a_index a_sorted a_key a_table n x3 (nI i) := by
  intro n
  induction n with
  | zero => intro i x3 q1 q2; omega
  | succ n ih =>
    intro i x3 hf hi hx
    rcases Nat.lt_or_ge i ni with z | z
    rotate_left
    · refine br_t (nI_le z (by omega)) ?_
      rcases hx with ⟨rfl, s⟩ | ⟨rfl, s⟩
      · exact ⟨rfl, h1 (fun j hj => s j (by omega))⟩
      · exact ⟨rfl, h0 s⟩
    have e1 : 4 * nI r + nI i = nI (4 * r + i) := by
      show nI 4 * nI r + _ = _
      rw [pk_mul, nI_add]
    have e2 : 4 * nI s + nI i = nI (4 * s + i) := by
      show nI 4 * nI s + _ = _
      rw [pk_mul, nI_add]
    refine br_f (nI_ge z (by omega)) ?_
    rw [e1, e2, nI_1, nI_clamp (show 4 * r + i < 2 ^ 31 by omega), nI_clamp (show 4 * s + i < 2 ^ 31 by omega)]
    rcases hx with ⟨rfl, q⟩ | ⟨rfl, q⟩
    · refine br_f (by decide) ⟨vp_in_nI (by omega) (by decide), vp_in_nI (by omega) (by decide), br_c (fun g => nm_e (ih (i + 1) 1 (by omega) (by omega) (Or.inl ⟨rfl, fun j hj => ?_⟩))) (fun g => nm_e (ih (i + 1) 0 (by omega) (by omega) (Or.inr ⟨rfl, fun w => g (w i z)⟩)))⟩
      by_cases a : j = i
      · rw [a]; exact g
      · exact q j (by omega)
    · exact br_t rfl (nm_e (ih (i + 1) 0 (by omega) (by omega) (Or.inr ⟨rfl, q⟩)))
theorem xw_sameRow {post : Int32 → Prop} {r s : Nat} (hni : ni ≤ 4) (hr : r < 1000) (hs : s < 1000) (h1 : tq_same ni (fun r i => a_result (4 * r + i)) r s → post 1) (h0 : ¬ tq_same ni (fun r i => a_result (4 * r + i)) r s → post 0) : wpX_sameRow post ((nI nf), (nI ni), (nI nt), f_group, f_distinct, f_orderItem, f_orderDown, f_limit, f_nodes, f_waitingNodes, f_waitingWords, f_broken, f_top, f_parts, f_combos, f_nextCombos, f_placed, f_results, (tq_n rn), a_cells, (tq_n fr), (tq_n ik), (tq_n ic), (tq_n tk), a_kind, a_left, a_right, a_needs, a_truth, a_waitNode, a_waitWord, a_part, a_canCount, a_can, a_combo, a_nextCombo, a_current, a_stays, a_result, a_index, a_sorted, a_key, a_table) (nI r) (nI s) :=
  ⟨ni + 1, xw_sr5 hni hr hs h1 h0 (ni + 1) 0 1 (by omega) (by omega) (Or.inl ⟨rfl, fun j hj => absurd hj (by omega)⟩)⟩
theorem xw_en48 {post : Int32 → SX → Prop} {k : Nat} (hni : ni ≤ 4) (hk : k < 1000) (hT : tq_HT ni (fun r i => a_result (4 * r + i)) k a_table)
    (h0 : (∃ y, y < k ∧ tq_same ni (fun r i => a_result (4 * r + i)) y k) → post 0 ((nI nf), (nI ni), (nI nt), f_group, f_distinct, f_orderItem, f_orderDown, f_limit, f_nodes, f_waitingNodes, f_waitingWords, f_broken, f_top, f_parts, f_combos, f_nextCombos, f_placed, f_results, (tq_n rn), a_cells, (tq_n fr), (tq_n ik), (tq_n ic), (tq_n tk), a_kind, a_left, a_right, a_needs, a_truth, a_waitNode, a_waitWord, a_part, a_canCount, a_can, a_combo, a_nextCombo, a_current, a_stays, a_result, a_index, a_sorted, a_key, a_table))
    (h1 : (¬ ∃ y, y < k ∧ tq_same ni (fun r i => a_result (4 * r + i)) y k) → ∀ T', tq_HT ni (fun r i => a_result (4 * r + i)) (k + 1) T' → post 1 ((nI nf), (nI ni), (nI nt), f_group, f_distinct, f_orderItem, f_orderDown, f_limit, f_nodes, f_waitingNodes, f_waitingWords, f_broken, f_top, f_parts, f_combos, f_nextCombos, f_placed, f_results, (tq_n rn), a_cells, (tq_n fr), (tq_n ik), (tq_n ic), (tq_n tk), a_kind, a_left, a_right, a_needs, a_truth, a_waitNode, a_waitWord, a_part, a_canCount, a_can, a_combo, a_nextCombo, a_current, a_stays, a_result, a_index, a_sorted, a_key, T')) :
    ∀ (n i : Nat), 2048 < n + i → i ≤ 2048 → (∀ d, d < i → ∃ y, y < k ∧ a_table ((tq_hs ni (fun i => a_result (4 * k + i)) + d) % 2048) = nI y ∧ ¬ tq_same ni (fun r i => a_result (4 * r + i)) y k) → wX_enter_48 post (nI k) (nI nf) (nI ni) (nI nt) f_group f_distinct f_orderItem f_orderDown f_limit f_nodes f_waitingNodes f_waitingWords f_broken f_top f_parts f_combos f_nextCombos f_placed f_results (tq_n rn) a_cells (tq_n fr) (tq_n ik) (tq_n ic) (tq_n tk) a_kind a_left a_right a_needs a_truth a_waitNode a_waitWord a_part a_canCount a_can a_combo a_nextCombo a_current a_stays a_result a_index a_sorted a_key a_table n (nI ((tq_hs ni (fun i => a_result (4 * k + i)) + i) % 2048)) (nI i) := by
  intro n
  induction n with
  | zero => intro i q1 q2; omega
  | succ n ih =>
    intro i hf hi hb
    have occ : ∀ d, d < i → ¬ a_table ((tq_hs ni (fun i => a_result (4 * k + i)) + d) % 2048) < 0 := by
      intro d hd
      obtain ⟨y, y1, y2, _⟩ := hb d hd
      rw [y2]
      exact nI_pos (by omega)
    rcases Nat.lt_or_ge i 2048 with z | z
    rotate_left
    · exact (tq_HT_room (by omega) hT (fun d hd => occ d (by omega))).elim
    have sl : (tq_hs ni (fun i => a_result (4 * k + i)) + i) % 2048 < 2048 := Nat.mod_lt _ (by omega)
    have vs : vp_in (nI ((tq_hs ni (fun i => a_result (4 * k + i)) + i) % 2048)) 2048 := vp_in_nI sl (by decide)
    refine br_f (nI_ge (b := 2048) (by omega) (by decide)) ⟨vs, ?_⟩
    rw [nI_clamp (show (tq_hs ni (fun i => a_result (4 * k + i)) + i) % 2048 < 2 ^ 31 by omega)]
    refine br_c (fun g => ⟨vs, nm_e (h1 (tq_HT_new (by omega) hT g hb) _ (tq_HT_ins hk hT g occ))⟩) (fun g => ⟨vs, ?_⟩)
    rcases hT.1 _ sl with w | ⟨y, y1, y2⟩
    · exact absurd w g
    rw [y2]
    refine xw_sameRow hni (by omega) hk (fun q => br_f (by decide) (h0 ⟨y, y1, q⟩)) (fun q => br_t rfl (nm_r (e' := nI ((tq_hs ni (fun i => a_result (4 * k + i)) + (i + 1)) % 2048)) ?_ (nm_r (nI_1 i) (ih (i + 1) (by omega) (by omega) (fun d hd => ?_)))))
    · rw [nI_1, pk_andN (by omega) 11 (by decide)]
      exact congrArg nI (by omega)
    · by_cases a : d = i
      · rw [a]; exact ⟨y, y1, y2, q⟩
      · exact hb d (by omega)
theorem xw_en5 {post : Int32 → SX → Prop} {k : Nat} (hni : ni ≤ 4) (hk : k < 1000)
    (hp : ∃ n48, wX_enter_48 post (nI k) (nI nf) (nI ni) (nI nt) f_group f_distinct f_orderItem f_orderDown f_limit f_nodes f_waitingNodes f_waitingWords f_broken f_top f_parts f_combos f_nextCombos f_placed f_results (tq_n rn) a_cells (tq_n fr) (tq_n ik) (tq_n ic) (tq_n tk) a_kind a_left a_right a_needs a_truth a_waitNode a_waitWord a_part a_canCount a_can a_combo a_nextCombo a_current a_stays a_result a_index a_sorted a_key a_table n48 (nI (tq_hs ni (fun i => a_result (4 * k + i)))) 0) :
    ∀ (n i : Nat), ni < n + i → i ≤ ni → wX_enter_5 post (nI k) (nI nf) (nI ni) (nI nt) f_group f_distinct f_orderItem f_orderDown f_limit f_nodes f_waitingNodes f_waitingWords f_broken f_top f_parts f_combos f_nextCombos f_placed f_results (tq_n rn) a_cells (tq_n fr) (tq_n ik) (tq_n ic) (tq_n tk) a_kind a_left a_right a_needs a_truth a_waitNode a_waitWord a_part a_canCount a_can a_combo a_nextCombo a_current a_stays a_result a_index a_sorted a_key a_table n (tq_hr (fun i => a_result (4 * k + i)) i) (nI i) := by
  intro n
  induction n with
  | zero => intro i q1 q2; omega
  | succ n ih =>
    intro i hf hi
    rcases Nat.lt_or_ge i ni with z | z
    rotate_left
    · have : i = ni := by omega
      subst this
      exact br_t (nI_le z (by omega)) (nm_r (tq_hm_e _).1 hp)
    have e1 : 4 * nI k + nI i = nI (4 * k + i) := by
      show nI 4 * nI k + _ = _
      rw [pk_mul, nI_add]
    refine br_f (nI_ge z (by omega)) ?_
    rw [e1, nI_1, nI_clamp (show 4 * k + i < 2 ^ 31 by omega)]
    exact ⟨vp_in_nI (by omega) (by decide), nm_e (nm_e (ih (i + 1) (by omega) (by omega)))⟩
theorem xw_enter {post : Int32 → SX → Prop} {k : Nat} (hni : ni ≤ 4) (hk : k < 1000) (hT : tq_HT ni (fun r i => a_result (4 * r + i)) k a_table)
    (h0 : (∃ y, y < k ∧ tq_same ni (fun r i => a_result (4 * r + i)) y k) → post 0 ((nI nf), (nI ni), (nI nt), f_group, f_distinct, f_orderItem, f_orderDown, f_limit, f_nodes, f_waitingNodes, f_waitingWords, f_broken, f_top, f_parts, f_combos, f_nextCombos, f_placed, f_results, (tq_n rn), a_cells, (tq_n fr), (tq_n ik), (tq_n ic), (tq_n tk), a_kind, a_left, a_right, a_needs, a_truth, a_waitNode, a_waitWord, a_part, a_canCount, a_can, a_combo, a_nextCombo, a_current, a_stays, a_result, a_index, a_sorted, a_key, a_table))
    (h1 : (¬ ∃ y, y < k ∧ tq_same ni (fun r i => a_result (4 * r + i)) y k) → ∀ T', tq_HT ni (fun r i => a_result (4 * r + i)) (k + 1) T' → post 1 ((nI nf), (nI ni), (nI nt), f_group, f_distinct, f_orderItem, f_orderDown, f_limit, f_nodes, f_waitingNodes, f_waitingWords, f_broken, f_top, f_parts, f_combos, f_nextCombos, f_placed, f_results, (tq_n rn), a_cells, (tq_n fr), (tq_n ik), (tq_n ic), (tq_n tk), a_kind, a_left, a_right, a_needs, a_truth, a_waitNode, a_waitWord, a_part, a_canCount, a_can, a_combo, a_nextCombo, a_current, a_stays, a_result, a_index, a_sorted, a_key, T')) : wpX_enter post ((nI nf), (nI ni), (nI nt), f_group, f_distinct, f_orderItem, f_orderDown, f_limit, f_nodes, f_waitingNodes, f_waitingWords, f_broken, f_top, f_parts, f_combos, f_nextCombos, f_placed, f_results, (tq_n rn), a_cells, (tq_n fr), (tq_n ik), (tq_n ic), (tq_n tk), a_kind, a_left, a_right, a_needs, a_truth, a_waitNode, a_waitWord, a_part, a_canCount, a_can, a_combo, a_nextCombo, a_current, a_stays, a_result, a_index, a_sorted, a_key, a_table) (nI k) := by
  refine ⟨ni + 1, xw_en5 hni hk ⟨2049, ?_⟩ (ni + 1) 0 (by omega) (by omega)⟩
  have K := xw_en48 hni hk hT h0 h1 2049 0 (by omega) (by omega) (fun d hd => absurd hd (by omega))
  have e : (tq_hs ni (fun i => a_result (4 * k + i)) + 0) % 2048 = tq_hs ni (fun i => a_result (4 * k + i)) := Nat.mod_eq_of_lt (tq_hm_e _).2
  rw [e] at K
  exact K
end
section
variable {nf ni nt : Nat} {fr ik ic tk rn : Nat → Nat} {f_group f_distinct f_orderItem f_orderDown f_limit f_nodes f_waitingNodes f_waitingWords f_broken f_top f_parts f_combos f_nextCombos f_placed : Int32} {a_cells a_kind a_left a_right a_needs a_truth a_waitNode a_waitWord a_part a_canCount a_can a_combo a_nextCombo a_current a_stays a_index a_sorted a_key : Nat → Int32}
theorem xw_dr36 {post : SX → Prop} {J : Int32 → Int32 → Int32 → Int32 → Int32 → Int32 → Int32 → Int32 → Int32 → Int32 → Int32 → Int32 → Int32 → Int32 → Int32 → Int32 → Int32 → Int32 → Int32 → Int32 → (Nat → Int32) → (Nat → Int32) → (Nat → Int32) → (Nat → Int32) → (Nat → Int32) → (Nat → Int32) → (Nat → Int32) → (Nat → Int32) → (Nat → Int32) → (Nat → Int32) → (Nat → Int32) → (Nat → Int32) → (Nat → Int32) → (Nat → Int32) → (Nat → Int32) → (Nat → Int32) → (Nat → Int32) → (Nat → Int32) → (Nat → Int32) → (Nat → Int32) → (Nat → Int32) → (Nat → Int32) → (Nat → Int32) → (Nat → Int32) → (Nat → Int32) → Prop} {N0 k r : Nat} {res0 : Nat → Int32} {a_table : Nat → Int32} (hni : ni ≤ 4) (hN : N0 ≤ 1000) (hr : r < N0) (hk : k ≤ r) (hT : tq_HT ni (fun r i => res0 (4 * r + i)) k a_table)
    (h0 : (∃ y, y < k ∧ ∀ i, i < ni → res0 (4 * y + i) = res0 (4 * r + i)) → ∀ a_result : Nat → Int32, (∀ x, x < 4 * k ∨ 4 * r + ni ≤ x → a_result x = res0 x) → (∀ i, i < ni → a_result (4 * k + i) = res0 (4 * r + i)) → J (nI k) (nI (r + 1)) (nI nf) (nI ni) (nI nt) f_group f_distinct f_orderItem f_orderDown f_limit f_nodes f_waitingNodes f_waitingWords f_broken f_top f_parts f_combos f_nextCombos f_placed (nI N0) (tq_n rn) a_cells (tq_n fr) (tq_n ik) (tq_n ic) (tq_n tk) a_kind a_left a_right a_needs a_truth a_waitNode a_waitWord a_part a_canCount a_can a_combo a_nextCombo a_current a_stays a_result a_index a_sorted a_key a_table)
    (h1 : (¬ ∃ y, y < k ∧ ∀ i, i < ni → res0 (4 * y + i) = res0 (4 * r + i)) → ∀ a_result a_table : Nat → Int32, (∀ x, x < 4 * k ∨ 4 * r + ni ≤ x → a_result x = res0 x) → (∀ i, i < ni → a_result (4 * k + i) = res0 (4 * r + i)) → tq_HT ni (fun r i => a_result (4 * r + i)) (k + 1) a_table → J (nI (k + 1)) (nI (r + 1)) (nI nf) (nI ni) (nI nt) f_group f_distinct f_orderItem f_orderDown f_limit f_nodes f_waitingNodes f_waitingWords f_broken f_top f_parts f_combos f_nextCombos f_placed (nI N0) (tq_n rn) a_cells (tq_n fr) (tq_n ik) (tq_n ic) (tq_n tk) a_kind a_left a_right a_needs a_truth a_waitNode a_waitWord a_part a_canCount a_can a_combo a_nextCombo a_current a_stays a_result a_index a_sorted a_key a_table) :
    ∀ (n i : Nat) (a_result : Nat → Int32), ni < n + i → i ≤ ni → (∀ x, x < 4 * k ∨ 4 * r + ni ≤ x → a_result x = res0 x) → (∀ j, i ≤ j → j < ni → a_result (4 * r + j) = res0 (4 * r + j)) → (∀ j, j < i → a_result (4 * k + j) = res0 (4 * r + j)) → wX_dropRepeated_36 post J (nI k) (nI r) (nI nf) (nI ni) (nI nt) f_group f_distinct f_orderItem f_orderDown f_limit f_nodes f_waitingNodes f_waitingWords f_broken f_top f_parts f_combos f_nextCombos f_placed (nI N0) n (nI i) (tq_n rn) a_cells (tq_n fr) (tq_n ik) (tq_n ic) (tq_n tk) a_kind a_left a_right a_needs a_truth a_waitNode a_waitWord a_part a_canCount a_can a_combo a_nextCombo a_current a_stays a_result a_index a_sorted a_key a_table := by
  intro n
  induction n with
  | zero => intro i a_result q1 q2; omega
  | succ n ih =>
    intro i a_result hf hi ha hb hc
    rcases Nat.lt_or_ge i ni with z | z
    rotate_left
    · have : i = ni := by omega
      subst this
      have hT' : tq_HT i (fun r i => a_result (4 * r + i)) k a_table := tq_HT_cg (fun y hy j hj => ha _ (Or.inl (by omega))) hT
      have sm : (∃ y, y < k ∧ tq_same i (fun r i => a_result (4 * r + i)) y k) ↔ (∃ y, y < k ∧ ∀ j, j < i → res0 (4 * y + j) = res0 (4 * r + j)) := by
        constructor
        · rintro ⟨y, y1, y2⟩
          refine ⟨y, y1, fun j hj => ?_⟩
          have := y2 j hj
          simp only at this
          rw [ha _ (Or.inl (by omega)), hc j hj] at this
          exact this
        · rintro ⟨y, y1, y2⟩
          refine ⟨y, y1, fun j hj => ?_⟩
          show a_result (4 * y + j) = a_result (4 * k + j)
          rw [ha _ (Or.inl (by omega)), hc j hj]
          exact y2 j hj
      refine br_t (nI_le z (by omega)) (xw_enter hni (by omega) hT' (fun q => br_t rfl (nm_r (nI_1 r) (h0 (sm.mp q) a_result ha hc))) (fun q T' hT2 => br_f (by decide) (nm_r (nI_1 k) (nm_r (nI_1 r) (h1 (fun w => q (sm.mpr w)) a_result T' ha hc hT2)))))
    have e1 : 4 * nI k + nI i = nI (4 * k + i) := by
      show nI 4 * nI k + _ = _
      rw [pk_mul, nI_add]
    have e2 : 4 * nI r + nI i = nI (4 * r + i) := by
      show nI 4 * nI r + _ = _
      rw [pk_mul, nI_add]
    refine br_f (nI_ge z (by omega)) ?_
    rw [e1, e2, nI_1, nI_clamp (show 4 * k + i < 2 ^ 31 by omega), nI_clamp (show 4 * r + i < 2 ^ 31 by omega)]
    refine ⟨vp_in_nI (by omega) (by decide), vp_in_nI (by omega) (by decide), nm_e (nm_e (ih (i + 1) _ (by omega) (by omega) (fun x hx => ?_) (fun j q1 q2 => ?_) (fun j hj => ?_)))⟩
    · rw [pk_un (by omega)]; exact ha x hx
    · rw [pk_un (by omega)]; exact hb j (by omega) q2
    · by_cases a : j = i
      · rw [a, pk_us]; exact hb i (Nat.le_refl _) z
      · rw [pk_un (by omega)]; exact hc j (by omega)
theorem xw_dr26 {post : SX → Prop} {N0 : Nat} {R0 : Nat → Nat → Int32} (hni : ni ≤ 4) (hN : N0 ≤ 1000)
    (hp : ∀ (k : Nat) (a_result a_table : Nat → Int32), k ≤ N0 → tq_DS ni N0 R0 k (fun r i => a_result (4 * r + i)) → post ((nI nf), (nI ni), (nI nt), f_group, f_distinct, f_orderItem, f_orderDown, f_limit, f_nodes, f_waitingNodes, f_waitingWords, f_broken, f_top, f_parts, f_combos, f_nextCombos, f_placed, (nI k), (tq_n rn), a_cells, (tq_n fr), (tq_n ik), (tq_n ic), (tq_n tk), a_kind, a_left, a_right, a_needs, a_truth, a_waitNode, a_waitWord, a_part, a_canCount, a_can, a_combo, a_nextCombo, a_current, a_stays, a_result, a_index, a_sorted, a_key, a_table)) :
    ∀ (n k r : Nat) (kp : Nat → Nat) (a_result a_table : Nat → Int32), N0 < n + r → r ≤ N0 → k ≤ r → tq_EN (· < ·) (fun x => x < r ∧ tq_fresh ni R0 x) kp k → (∀ t, t < k → ∀ i, i < ni → a_result (4 * t + i) = R0 (kp t) i) → (∀ t, r ≤ t → t < N0 → ∀ i, i < ni → a_result (4 * t + i) = R0 t i) → tq_HT ni (fun r i => a_result (4 * r + i)) k a_table → wX_dropRepeated_26 post n (nI k) (nI r) (nI nf) (nI ni) (nI nt) f_group f_distinct f_orderItem f_orderDown f_limit f_nodes f_waitingNodes f_waitingWords f_broken f_top f_parts f_combos f_nextCombos f_placed (nI N0) (tq_n rn) a_cells (tq_n fr) (tq_n ik) (tq_n ic) (tq_n tk) a_kind a_left a_right a_needs a_truth a_waitNode a_waitWord a_part a_canCount a_can a_combo a_nextCombo a_current a_stays a_result a_index a_sorted a_key a_table := by
  intro n
  induction n with
  | zero => intro k r kp a_result a_table q1 q2; omega
  | succ n ih =>
    intro k r kp a_result a_table hf hr hk hEN hA hB hT
    rcases Nat.lt_or_ge r N0 with z | z
    rotate_left
    · have : r = N0 := by omega
      subst this
      exact br_t (nI_le z (by omega)) (hp k a_result a_table hk ⟨kp, hEN, hA⟩)
    have sm : (∃ y, y < k ∧ ∀ i, i < ni → a_result (4 * y + i) = a_result (4 * r + i)) ↔ ¬ tq_fresh ni R0 r := by
      rw [← tq_seen hEN]
      constructor
      · rintro ⟨y, y1, y2⟩
        refine ⟨y, y1, fun i hi => ?_⟩
        rw [← hA y y1 i hi, ← hB r (Nat.le_refl _) z i hi]
        exact y2 i hi
      · rintro ⟨y, y1, y2⟩
        refine ⟨y, y1, fun i hi => ?_⟩
        rw [hA y y1 i hi, hB r (Nat.le_refl _) z i hi]
        exact y2 i hi
    refine br_f (nI_ge z (by omega)) ⟨ni + 1, ?_⟩
    refine xw_dr36 (res0 := a_result) hni hN z hk hT (fun q a_result' w1 w2 => ?_) (fun q a_result' a_table w1 w2 w3 => ?_) (ni + 1) 0 a_result (by omega) (by omega) (fun _ _ => rfl) (fun _ _ _ => rfl) (fun j hj => absurd hj (by omega))
    · have nfr := sm.mp q
      refine ih k (r + 1) kp a_result' a_table (by omega) (by omega) (by omega) (tq_en_iff (fun x => ?_) hEN) (fun t ht i hi => by rw [w1 _ (Or.inl (by omega))]; exact hA t ht i hi) (fun t t1 t2 i hi => by rw [w1 _ (Or.inr (by omega))]; exact hB t (by omega) t2 i hi) (tq_HT_cg (fun y hy j hj => w1 _ (Or.inl (by omega))) hT)
      constructor
      · rintro ⟨x1, x2⟩
        exact ⟨by omega, x2⟩
      · rintro ⟨x1, x2⟩
        refine ⟨?_, x2⟩
        rcases Nat.lt_or_ge x r with y | y
        · exact y
        · rw [show x = r by omega] at x2; exact absurd x2 nfr
    · have isf : tq_fresh ni R0 r := Classical.byContradiction (fun w => q (sm.mpr w))
      refine ih (k + 1) (r + 1) (tq_u kp k r) a_result' a_table (by omega) (by omega) (by omega) (tq_en_s (x := r) hEN (fun i hi => tq_un (by omega)) tq_us (fun y hy => hy.1) (fun x => ?_)) (fun t ht i hi => ?_) (fun t t1 t2 i hi => by rw [w1 _ (Or.inr (by omega))]; exact hB t (by omega) t2 i hi) w3
      · constructor
        · rintro ⟨x1, x2⟩
          rcases Nat.lt_or_ge x r with y | y
          · exact Or.inl ⟨y, x2⟩
          · exact Or.inr (by omega)
        · rintro (⟨x1, x2⟩ | x1)
          · exact ⟨by omega, x2⟩
          · rw [x1]; exact ⟨by omega, isf⟩
      · by_cases a : t = k
        · rw [a, tq_us, w2 i hi]; exact hB r (Nat.le_refl _) z i hi
        · rw [tq_un a, w1 _ (Or.inl (by omega))]; exact hA t (by omega) i hi
theorem xw_dr2 {post : SX → Prop} {N0 : Nat} {a_result : Nat → Int32}
    (hp : ∀ a_table : Nat → Int32, (∀ s, s < 2048 → a_table s = -1) → ∃ n26 : Nat, wX_dropRepeated_26 post n26 0 0 (nI nf) (nI ni) (nI nt) f_group f_distinct f_orderItem f_orderDown f_limit f_nodes f_waitingNodes f_waitingWords f_broken f_top f_parts f_combos f_nextCombos f_placed (nI N0) (tq_n rn) a_cells (tq_n fr) (tq_n ik) (tq_n ic) (tq_n tk) a_kind a_left a_right a_needs a_truth a_waitNode a_waitWord a_part a_canCount a_can a_combo a_nextCombo a_current a_stays a_result a_index a_sorted a_key a_table) : ∀ (n i : Nat) (a_table : Nat → Int32), 2048 < n + i → i ≤ 2048 → (∀ s, s < i → a_table s = -1) → wX_dropRepeated_2 post (nI nf) (nI ni) (nI nt) f_group f_distinct f_orderItem f_orderDown f_limit f_nodes f_waitingNodes f_waitingWords f_broken f_top f_parts f_combos f_nextCombos f_placed (nI N0) n (nI i) (tq_n rn) a_cells (tq_n fr) (tq_n ik) (tq_n ic) (tq_n tk) a_kind a_left a_right a_needs a_truth a_waitNode a_waitWord a_part a_canCount a_can a_combo a_nextCombo a_current a_stays a_result a_index a_sorted a_key a_table := by
  intro n
  induction n with
  | zero => intro i a_table q1 q2; omega
  | succ n ih =>
    intro i a_table hf hi hs
    rcases Nat.lt_or_ge i 2048 with z | z
    rotate_left
    · have : i = 2048 := by omega
      subst this
      exact br_t (nI_le (a := 2048) (by omega) (by omega)) (hp a_table hs)
    refine br_f (nI_ge (b := 2048) (by omega) (by decide)) ⟨vp_in_nI z (by decide), ?_⟩
    rw [nI_clamp (show i < 2 ^ 31 by omega), nI_1]
    refine nm_e (nm_e (ih (i + 1) _ (by omega) (by omega) (fun s hs2 => ?_)))
    by_cases a : s = i
    · rw [a, pk_us]
    · rw [pk_un a]; exact hs s (by omega)
theorem xw_dropRepeated {post : SX → Prop} {N0 : Nat} {R0 : Nat → Nat → Int32} {a_result a_table : Nat → Int32} (hni : ni ≤ 4) (hN : N0 ≤ 1000) (hR : tq_RW ni N0 R0 a_result)
    (hp : ∀ (k : Nat) (a_result a_table : Nat → Int32), k ≤ N0 → tq_DS ni N0 R0 k (fun r i => a_result (4 * r + i)) → post ((nI nf), (nI ni), (nI nt), f_group, f_distinct, f_orderItem, f_orderDown, f_limit, f_nodes, f_waitingNodes, f_waitingWords, f_broken, f_top, f_parts, f_combos, f_nextCombos, f_placed, (nI k), (tq_n rn), a_cells, (tq_n fr), (tq_n ik), (tq_n ic), (tq_n tk), a_kind, a_left, a_right, a_needs, a_truth, a_waitNode, a_waitWord, a_part, a_canCount, a_can, a_combo, a_nextCombo, a_current, a_stays, a_result, a_index, a_sorted, a_key, a_table)) : wpX_dropRepeated post ((nI nf), (nI ni), (nI nt), f_group, f_distinct, f_orderItem, f_orderDown, f_limit, f_nodes, f_waitingNodes, f_waitingWords, f_broken, f_top, f_parts, f_combos, f_nextCombos, f_placed, (nI N0), (tq_n rn), a_cells, (tq_n fr), (tq_n ik), (tq_n ic), (tq_n tk), a_kind, a_left, a_right, a_needs, a_truth, a_waitNode, a_waitWord, a_part, a_canCount, a_can, a_combo, a_nextCombo, a_current, a_stays, a_result, a_index, a_sorted, a_key, a_table) := by
  refine ⟨2049, xw_dr2 (fun a_table hs => ⟨N0 + 1, ?_⟩) 2049 0 a_table (by omega) (by omega) (fun s hs => absurd hs (by omega))⟩
  refine xw_dr26 hni hN hp (N0 + 1) 0 0 (fun _ => 0) a_result a_table (by omega) (by omega) (by omega) (tq_en_0 (fun x hx => by omega)) (fun t ht => absurd ht (by omega)) (fun t _ t2 i hi => hR t t2 i hi) ⟨fun s h => Or.inl (by rw [hs s h]; decide), fun k hk => absurd hk (by omega), fun s s' h1 h2 h3 => absurd (by rw [hs s h1]; decide) h3⟩
end
end
section
/-! the answer, as a relation; it is unique -/
def tq_RB (m ni : Nat) (ik ic : Nat → Nat) (grp : Int32) (D : Nat → Nat → Int32) (n0 : Nat) (R0 : Nat → Nat → Int32) : Prop :=
  (¬ tq_su ni ik grp ∧ n0 = m ∧ ∀ r, r < m → ∀ i, i < ni → R0 r i = D r (ic i)) ∨
  (tq_su ni ik grp ∧ grp = -1 ∧ n0 = 1 ∧ tq_GR m ni ik ic D (fun _ => 0) 0 (R0 0)) ∨
  (∃ g, g ≤ 8 ∧ grp = nI g ∧ tq_GS m ni ik ic D (fun c => D c g) n0 R0)
def tq_RC (ni : Nat) (dst : Int32) (n0 : Nat) (R0 : Nat → Nat → Int32) (n1 : Nat) (R1 : Nat → Nat → Int32) : Prop :=
  (dst = 0 ∧ n1 = n0 ∧ ∀ r, r < n0 → ∀ i, i < ni → R1 r i = R0 r i) ∨ (¬ dst = 0 ∧ tq_DS ni n0 R0 n1 R1)
/-- the order that is asked for: oi an item or less than 0, od down -/
def tq_ol (oi od : Int32) (R : Nat → Nat → Int32) (a b : Nat) : Prop :=
  (oi < 0 ∧ a < b) ∨ (¬ oi < 0 ∧ od = 0 ∧ (R a oi.toNatClampNeg < R b oi.toNatClampNeg ∨ (R a oi.toNatClampNeg = R b oi.toNatClampNeg ∧ a < b))) ∨ (¬ oi < 0 ∧ ¬ od = 0 ∧ (R b oi.toNatClampNeg < R a oi.toNatClampNeg ∨ (R a oi.toNatClampNeg = R b oi.toNatClampNeg ∧ a < b)))
theorem tq_ol_ir {oi od : Int32} {R : Nat → Nat → Int32} (a : Nat) : ¬ tq_ol oi od R a a := by
  rintro (h | ⟨_, _, h⟩ | ⟨_, _, h⟩)
  · omega
  · rcases h with h | h
    · exact Int32.lt_irrefl h
    · omega
  · rcases h with h | h
    · exact Int32.lt_irrefl h
    · omega
theorem tq_ol_tr {oi od : Int32} {R : Nat → Nat → Int32} (a b c : Nat) (h1 : tq_ol oi od R a b) (h2 : tq_ol oi od R b c) : tq_ol oi od R a c := by
  rcases h1 with ⟨q, h1⟩ | ⟨q, w, h1⟩ | ⟨q, w, h1⟩ <;> rcases h2 with ⟨q', h2⟩ | ⟨q', w', h2⟩ | ⟨q', w', h2⟩
  · exact Or.inl ⟨q, by omega⟩
  · exact absurd q q'
  · exact absurd q q'
  · exact absurd q' q
  · refine Or.inr (Or.inl ⟨q, w, ?_⟩)
    rcases h1 with h1 | ⟨h1, l1⟩ <;> rcases h2 with h2 | ⟨h2, l2⟩
    · exact Or.inl (Int32.lt_trans h1 h2)
    · exact Or.inl (by rw [← h2]; exact h1)
    · exact Or.inl (by rw [h1]; exact h2)
    · exact Or.inr ⟨h1.trans h2, by omega⟩
  · exact absurd w w'
  · exact absurd q' q
  · exact absurd w' w
  · refine Or.inr (Or.inr ⟨q, w, ?_⟩)
    rcases h1 with h1 | ⟨h1, l1⟩ <;> rcases h2 with h2 | ⟨h2, l2⟩
    · exact Or.inl (Int32.lt_trans h2 h1)
    · exact Or.inl (by rw [← h2]; exact h1)
    · exact Or.inl (by rw [h1]; exact h2)
    · exact Or.inr ⟨h1.trans h2, by omega⟩
def tq_lm (lim : Int32) (n : Nat) : Nat := if lim < 0 then n else if nI n ≤ lim then n else lim.toNatClampNeg
/-- the answer over chosen combinations with the values D -/
def tq_AN (m ni : Nat) (ik ic : Nat → Nat) (grp dst oi od lim : Int32) (D : Nat → Nat → Int32) (n : Nat) (R : Nat → Nat → Int32) : Prop :=
  ∃ (n0 n1 : Nat) (R0 R1 : Nat → Nat → Int32) (ix : Nat → Nat), tq_RB m ni ik ic grp D n0 R0 ∧ tq_RC ni dst n0 R0 n1 R1 ∧ tq_EN (tq_ol oi od R1) (fun x => x < n1) ix n1 ∧ (∀ r, r < n1 → ∀ i, i < ni → R r i = R1 (ix r) i) ∧ n = tq_lm lim n1 ∧ n1 ≤ 1000
theorem tq_lt_n_ir (a : Nat) : ¬ a < a := Nat.lt_irrefl a
theorem tq_lt_n_tr (a b c : Nat) (h1 : a < b) (h2 : b < c) : a < c := Nat.lt_trans h1 h2
theorem tq_lt_i_ir (a : Int32) : ¬ a < a := fun h => Int32.lt_irrefl h
theorem tq_lt_i_tr (a b c : Int32) (h1 : a < b) (h2 : b < c) : a < c := Int32.lt_trans h1 h2
theorem tq_GR_un {m ni : Nat} {ik ic : Nat → Nat} {D D' : Nat → Nat → Int32} {K K' : Nat → Int32} {v : Int32} {row row' : Nat → Int32} (hD : ∀ c, c < m → ∀ i, i < ni → ik i ≠ 1 → D c (ic i) = D' c (ic i)) (hK : ∀ c, c < m → K c = K' c) (h : tq_GR m ni ik ic D K v row) (h' : tq_GR m ni ik ic D' K' v row') : ∀ i, i < ni → row i = row' i := by
  obtain ⟨n, es, h1, h2⟩ := h
  obtain ⟨n', es', h1', h2'⟩ := h'
  have h1'' := tq_en_iff (Q := fun c => c < m ∧ K c = v) (fun c => ⟨fun q => ⟨q.1, by rw [hK c q.1]; exact q.2⟩, fun q => ⟨q.1, by rw [← hK c q.1]; exact q.2⟩⟩) h1'
  have en := tq_en_n tq_lt_n_ir tq_lt_n_tr h1 h1''
  subst en
  have ee := tq_en_eq tq_lt_n_ir tq_lt_n_tr h1 h1''
  intro i hi
  rw [h2 i hi, h2' i hi]
  by_cases z : ik i = 0
  · rw [if_pos z, if_pos z]
  · rw [if_neg z, if_neg z]
    by_cases w : ik i = 1
    · rw [w, tq_fd1, tq_fd1]
    · refine tq_fd_cg n (fun j hj => ?_)
      rw [← ee j hj hj]
      exact hD _ (h1.2.1 j hj).1 i hi w
theorem tq_RB_un {m ni n0 n0' : Nat} {ik ic : Nat → Nat} {grp : Int32} {D D' R0 R0' : Nat → Nat → Int32} (hD : ∀ c, c < m → ∀ i, i < ni → ik i ≠ 1 → D c (ic i) = D' c (ic i)) (hG : ∀ g, g ≤ 8 → grp = nI g → ∀ c, c < m → D c g = D' c g) (h : tq_RB m ni ik ic grp D n0 R0) (h' : tq_RB m ni ik ic grp D' n0' R0') : n0 = n0' ∧ ∀ r, r < n0 → ∀ i, i < ni → R0 r i = R0' r i := by
  have nos : ∀ g, g ≤ 8 → grp = nI g → tq_su ni ik grp := fun g hg e => Or.inl (by rw [e]; exact nI_pos (by omega))
  rcases h with ⟨a, b, c⟩ | ⟨a, b, c, d⟩ | ⟨g, g1, g2, gs⟩ <;> rcases h' with ⟨a', b', c'⟩ | ⟨a', b', c', d'⟩ | ⟨g', g1', g2', gs'⟩
  · refine ⟨by omega, fun r hr i hi => ?_⟩
    rw [c r (by omega) i hi, c' r (by omega) i hi]
    refine hD r (by omega) i hi (fun w => a (Or.inr ⟨i, hi, by omega⟩))
  · exact absurd a' a
  · exact absurd (nos g' g1' g2') a
  · exact absurd a a'
  · refine ⟨by omega, fun r hr i hi => ?_⟩
    have : r = 0 := by omega
    subst this
    exact tq_GR_un hD (fun _ _ => rfl) d d' i hi
  · rw [b] at g2'
    have := nI_pos (n := g') (by omega)
    rw [← g2'] at this
    exact absurd (by decide) this
  · exact absurd (nos g g1 g2) a'
  · rw [b'] at g2
    have := nI_pos (n := g) (by omega)
    rw [← g2] at this
    exact absurd (by decide) this
  · have eg : g = g' := by
      rw [g2, nI_eq (by omega) (by omega)] at g2'
      exact g2'
    subst eg
    obtain ⟨gv, e1, e2⟩ := gs
    obtain ⟨gv', e1', e2'⟩ := gs'
    have hK : ∀ c, c < m → D c g = D' c g := hG g g1 g2
    have e1'' := tq_en_iff (Q := fun v => ∃ c, c < m ∧ D c g = v) (fun v => ⟨fun ⟨c, c1, c2⟩ => ⟨c, c1, by rw [hK c c1]; exact c2⟩, fun ⟨c, c1, c2⟩ => ⟨c, c1, (hK c c1).symm.trans c2⟩⟩) e1'
    have en := tq_en_n tq_lt_i_ir tq_lt_i_tr e1 e1''
    subst en
    refine ⟨rfl, fun r hr i hi => ?_⟩
    have q := e2' r hr
    rw [← tq_en_eq tq_lt_i_ir tq_lt_i_tr e1 e1'' r hr hr] at q
    exact tq_GR_un hD hK (e2 r hr) q i hi
theorem tq_RC_un {ni n0 n1 n1' : Nat} {dst : Int32} {R0 R0' R1 R1' : Nat → Nat → Int32} (hR : ∀ r, r < n0 → ∀ i, i < ni → R0 r i = R0' r i) (h : tq_RC ni dst n0 R0 n1 R1) (h' : tq_RC ni dst n0 R0' n1' R1') : n1 = n1' ∧ ∀ r, r < n1 → ∀ i, i < ni → R1 r i = R1' r i := by
  rcases h with ⟨a, b, c⟩ | ⟨a, d⟩ <;> rcases h' with ⟨a', b', c'⟩ | ⟨a', d'⟩
  · refine ⟨by omega, fun r hr i hi => ?_⟩
    rw [c r (by omega) i hi, c' r (by omega) i hi]
    exact hR r (by omega) i hi
  · exact absurd a a'
  · exact absurd a' a
  · obtain ⟨kp, e1, e2⟩ := d
    obtain ⟨kp', e1', e2'⟩ := d'
    have sm : ∀ x y, x < n0 → y < n0 → (tq_same ni R0 x y ↔ tq_same ni R0' x y) := by
      intro x y hx hy
      constructor
      · intro q i hi
        rw [← hR x hx i hi, ← hR y hy i hi]; exact q i hi
      · intro q i hi
        rw [hR x hx i hi, hR y hy i hi]; exact q i hi
    have e1'' := tq_en_iff (Q := fun x => x < n0 ∧ tq_fresh ni R0 x) (fun x => ⟨fun q => ⟨q.1, fun y hy s => q.2 y hy ((sm y x (by omega) q.1).mp s)⟩, fun q => ⟨q.1, fun y hy s => q.2 y hy ((sm y x (by omega) q.1).mpr s)⟩⟩) e1'
    have en := tq_en_n tq_lt_n_ir tq_lt_n_tr e1 e1''
    subst en
    refine ⟨rfl, fun r hr i hi => ?_⟩
    rw [e2 r hr i hi, e2' r hr i hi, ← tq_en_eq tq_lt_n_ir tq_lt_n_tr e1 e1'' r hr hr]
    exact hR _ (e1.2.1 r hr).1 i hi
theorem tq_lm_le (lim : Int32) (n : Nat) (hn : n ≤ 1000) : tq_lm lim n ≤ n := by
  unfold tq_lm
  split
  · omega
  · split
    · omega
    · rename_i h1 h2
      obtain ⟨j, j1, rfl⟩ := nI_of h1
      rw [nI_leI (by omega) j1] at h2
      rw [nI_clamp j1]
      omega
theorem tq_AN_un {m ni n n' : Nat} {ik ic : Nat → Nat} {grp dst oi od lim : Int32} {D D' R R' : Nat → Nat → Int32} (ho : oi < 0 ∨ oi.toNatClampNeg < ni) (hD : ∀ c, c < m → ∀ i, i < ni → ik i ≠ 1 → D c (ic i) = D' c (ic i)) (hG : ∀ g, g ≤ 8 → grp = nI g → ∀ c, c < m → D c g = D' c g) (h : tq_AN m ni ik ic grp dst oi od lim D n R) (h' : tq_AN m ni ik ic grp dst oi od lim D' n' R') : n = n' ∧ ∀ r, r < n → ∀ i, i < ni → R r i = R' r i := by
  obtain ⟨n0, n1, R0, R1, ix, a1, a2, a3, a4, a5, a6⟩ := h
  obtain ⟨n0', n1', R0', R1', ix', b1, b2, b3, b4, b5, b6⟩ := h'
  obtain ⟨c1, c2⟩ := tq_RB_un hD hG a1 b1
  subst c1
  obtain ⟨d1, d2⟩ := tq_RC_un c2 a2 b2
  subst d1
  have olc : ∀ x y, x < n1 → y < n1 → tq_ol oi od R1' x y → tq_ol oi od R1 x y := by
    intro x y hx hy q
    rcases ho with z | z
    · rcases q with q | q | q
      · exact Or.inl q
      · exact absurd z q.1
      · exact absurd z q.1
    · unfold tq_ol
      rw [d2 x hx _ z, d2 y hy _ z]
      exact q
  have b3' : tq_EN (tq_ol oi od R1) (fun x => x < n1) ix' n1 := ⟨fun i j hij hj => olc _ _ (b3.2.1 i (by omega)) (b3.2.1 j hj) (b3.1 i j hij hj), b3.2⟩
  refine ⟨by rw [a5, b5], fun r hr i hi => ?_⟩
  have hr1 : r < n1 := by
    have := tq_lm_le lim n1 a6
    omega
  rw [a4 r hr1 i hi, b4 r hr1 i hi, ← tq_en_eq tq_ol_ir tq_ol_tr a3 b3' r hr1 hr1]
  exact d2 _ (a3.2.1 r hr1) i hi
/-! the values are small -/
def tq_bd (x : Int32) : Prop := -50000 ≤ x.toInt ∧ x.toInt ≤ 50000
theorem tq_rg_bd {x : Int32} (h : tq_rg x) : tq_bd x := by unfold tq_rg at h; unfold tq_bd; omega
theorem tq_fd_bd {kd : Nat} {own : Nat → Int32} : ∀ n, n ≤ 1000 → (kd ≠ 1 → ∀ j, j < n → tq_rg (own j)) → -(50 * (n : Int)) ≤ (tq_fd kd own n).toInt ∧ (tq_fd kd own n).toInt ≤ 50 * (n : Int)
  | 0, _, _ => by
    have : (tq_fd kd own 0).toInt = 0 := by show (0 : Int32).toInt = 0; decide
    omega
  | n + 1, hn, h => by
    have ih := tq_fd_bd (kd := kd) (own := own) n (by omega) (fun q j hj => h q j (by omega))
    rw [tq_fd]
    by_cases a : kd = 1
    · rw [if_pos a]
      have e : (tq_fd kd own n + 1).toInt = (tq_fd kd own n).toInt + 1 := by
        rw [Int32.toInt_add, show (1 : Int32).toInt = 1 from by decide]
        exact Int.bmod_eq_of_le (by omega) (by omega)
      omega
    · rw [if_neg a]
      have r := h a n (by omega)
      unfold tq_rg at r
      by_cases b : kd = 2
      · rw [if_pos b]
        have e : (tq_fd kd own n + own n).toInt = (tq_fd kd own n).toInt + (own n).toInt := by
          rw [Int32.toInt_add]
          exact Int.bmod_eq_of_le (by omega) (by omega)
        omega
      · rw [if_neg b]
        split <;> omega
theorem tq_GR_bd {m ni : Nat} {ik ic : Nat → Nat} {D : Nat → Nat → Int32} {K : Nat → Int32} {v : Int32} {row : Nat → Int32} (hm : m ≤ 1000) (hD : ∀ c, c < m → ∀ i, i < ni → ik i ≠ 1 → tq_rg (D c (ic i))) (hv : tq_rg v) (h : tq_GR m ni ik ic D K v row) : ∀ i, i < ni → tq_bd (row i) := by
  obtain ⟨n, es, h1, h2⟩ := h
  intro i hi
  rw [h2 i hi]
  by_cases z : ik i = 0
  · rw [if_pos z]; exact tq_rg_bd hv
  · rw [if_neg z]
    have nm : n ≤ m := tq_pg m n es (fun j => j) (fun a b hab hb => Nat.ne_of_lt (h1.1 a b hab hb)) (fun a ha => ⟨es a, (h1.2.1 a ha).1, rfl⟩)
    have := tq_fd_bd (kd := ik i) (own := fun j => D (es j) (ic i)) n (by omega) (fun q j hj => hD _ (h1.2.1 j hj).1 i hi q)
    unfold tq_bd
    omega
theorem tq_RB_bd {m ni n0 : Nat} {ik ic : Nat → Nat} {grp : Int32} {D R0 : Nat → Nat → Int32} (hm : m ≤ 1000) (hD : ∀ c, c < m → ∀ i, i < ni → ik i ≠ 1 → tq_rg (D c (ic i))) (hG : ∀ g, g ≤ 8 → grp = nI g → ∀ c, c < m → tq_rg (D c g)) (h : tq_RB m ni ik ic grp D n0 R0) : ∀ r, r < n0 → ∀ i, i < ni → tq_bd (R0 r i) := by
  intro r hr i hi
  rcases h with ⟨a, b, c⟩ | ⟨a, b, c, d⟩ | ⟨g, g1, g2, gv, e1, e2⟩
  · rw [c r (by omega) i hi]
    exact tq_rg_bd (hD r (by omega) i hi (fun w => a (Or.inr ⟨i, hi, by omega⟩)))
  · have : r = 0 := by omega
    subst this
    exact tq_GR_bd hm hD tq_rg0 d i hi
  · obtain ⟨c, c1, c2⟩ := e1.2.1 r hr
    exact tq_GR_bd hm hD (by rw [← c2]; exact hG g g1 g2 c c1) (e2 r hr) i hi
theorem tq_RC_bd {ni n0 n1 : Nat} {dst : Int32} {R0 R1 : Nat → Nat → Int32} (hR : ∀ r, r < n0 → ∀ i, i < ni → tq_bd (R0 r i)) (h : tq_RC ni dst n0 R0 n1 R1) : ∀ r, r < n1 → ∀ i, i < ni → tq_bd (R1 r i) := by
  intro r hr i hi
  rcases h with ⟨a, b, c⟩ | ⟨a, kp, e1, e2⟩
  · rw [c r (by omega) i hi]; exact hR r (by omega) i hi
  · rw [e2 r hr i hi]; exact hR _ (e1.2.1 r hr).1 i hi
theorem tq_neg {x : Int32} (h : tq_bd x) : (-x).toInt = -x.toInt := by
  unfold tq_bd at h
  rw [Int32.toInt_neg]
  exact Int.bmod_eq_of_le (by omega) (by omega)
/-! a condition looks only at the values that are allowed -/
def tq_dpd (ok : Nat → Bool) (f : tq_V) : Prop := ∀ v v' : Nat → Int32, (∀ k, ok k = true → v k = v' k) → f v = f v'
theorem tq_app_dpd {ok : Nat → Bool} {o : Nat} {vs : List tq_V} (h : ∀ g, g ∈ vs → tq_dpd ok g) : ∀ g, g ∈ tq_app o vs → tq_dpd ok g := by
  cases vs with
  | nil => exact h
  | cons f r =>
    have hf := h f List.mem_cons_self
    have hr : ∀ g, g ∈ r → tq_dpd ok g := fun g hg => h g (List.mem_cons_of_mem _ hg)
    show ∀ g, g ∈ (if o = 34 then tq_not f :: r else tq_ap2 o f r) → tq_dpd ok g
    split
    · intro g hg
      rcases List.mem_cons.mp hg with rfl | z
      · intro v v' q
        unfold tq_not
        rw [hf v v' q]
      · exact hr g z
    · cases r with
      | nil => exact h
      | cons f' r' =>
        intro g hg
        rcases List.mem_cons.mp hg with rfl | z
        · intro v v' q
          unfold tq_bin
          rw [hf v v' q, hr f' List.mem_cons_self v v' q]
        · exact hr g (List.mem_cons_of_mem _ z)
theorem tq_jd_dpd {ok : Nat → Bool} {w : Nat} : ∀ (ws : List Nat) (vs : List tq_V), (∀ g, g ∈ vs → tq_dpd ok g) → ∀ g, g ∈ (tq_jd w vs ws).1 → tq_dpd ok g
  | [], vs, h => h
  | o :: ws, vs, h => by
    by_cases z : tq_jn w o = true
    · rw [tq_jd_t z]; exact tq_jd_dpd ws _ (tq_app_dpd h)
    · rw [tq_jd_f z]; exact h
theorem tq_rd_dpd {nt : Nat} {tk : Nat → Nat} {ok : Nat → Bool} {f : tq_V} : ∀ (n i : Nat) (b : Bool) (vs : List tq_V) (ws : List Nat), (∀ g, g ∈ vs → tq_dpd ok g) → tq_rd nt tk ok n i b vs ws = some f → tq_dpd ok f := by
  intro n
  induction n with
  | zero => intro i b vs ws _ h; exact absurd h (by simp [tq_rd])
  | succ n ih =>
    intro i b vs ws hv h
    by_cases z : nt ≤ i
    · cases b with
      | false => rw [tq_rd_e0 z] at h; exact absurd h (by simp)
      | true =>
        rw [tq_rd_e1 z] at h
        unfold tq_fin at h
        split at h
        · have hj := tq_jd_dpd (ok := ok) (w := 36) ws vs hv
          cases c : (tq_jd 36 vs ws).1 with
          | nil => rw [c] at h; exact absurd h (by simp)
          | cons g r =>
            rw [c] at h hj
            have : g = f := by simpa using h
            rw [← this]
            exact hj g List.mem_cons_self
        · exact absurd h (by simp)
    · cases b with
      | true =>
        by_cases y : tk i = 36
        · rw [tq_rd_36 z y] at h
          split at h
          · exact absurd h (by simp)
          · exact ih _ _ _ _ (tq_jd_dpd ws vs hv) h
        · by_cases y2 : tk i = 32 ∨ tk i = 33
          · rw [tq_rd_op z y2] at h
            exact ih _ _ _ _ (tq_jd_dpd ws vs hv) h
          · rw [tq_rd_b1 z y y2] at h; exact absurd h (by simp)
      | false =>
        by_cases y : tk i = 34 ∨ tk i = 35
        · rw [tq_rd_no z y] at h
          exact ih _ _ _ _ hv h
        · by_cases y2 : tq_cok nt tk ok i = true
          · rw [tq_rd_c z y y2] at h
            have c := of_decide_eq_true y2
            refine ih _ _ _ _ (fun g hg => ?_) h
            rcases List.mem_cons.mp hg with rfl | w
            · intro v v' q
              unfold tq_cmp
              rw [q _ c.1, q _ c.2.2.2.2]
            · exact hv g w
          · rw [tq_rd_b0 z y y2] at h; exact absurd h (by simp)
theorem tq_cnd_dpd {nt : Nat} {tk : Nat → Nat} {ok : Nat → Bool} {f : tq_V} (h : tq_cnd nt tk ok = some f) : tq_dpd ok f := by
  unfold tq_cnd at h
  split at h
  · have : (fun _ => true) = f := Option.some.inj h
    rw [← this]
    intro v v' _
    rfl
  · exact tq_rd_dpd _ _ _ _ _ (fun g hg => absurd hg (by simp)) h
/-- the tables agree where it matters -/
theorem tq_vv_ag {nf : Nat} {fr rn : Nat → Nat} {cx cy : Nat → Int32} {c k : Nat} (fl : ∀ i, fr i < 3) (ag : ∀ t r x, t < 3 → r < rn t → x < 3 → cx (30 * t + 3 * r + x) = cy (30 * t + 3 * r + x)) (hc : ∀ p, p < 3 → (p < nf → tq_dg c p < rn (fr p)) ∧ (¬ p < nf → tq_dg c p = 0)) (hk : tq_ok nf fr k = true) : tq_vv cx (tq_rho nf fr (tq_dg c)) k = tq_vv cy (tq_rho nf fr (tq_dg c)) k := by
  have hk' := of_decide_eq_true hk
  by_cases z : k < 9
  · rw [tq_vv_lo z, tq_vv_lo z]
    have pc : tq_pc nf fr (k / 3) < 3 := by rcases hk'.2 with q | q <;> omega
    obtain ⟨p1, p2⟩ := tq_pc_lt pc
    have := (hc _ pc).1 p1
    rw [p2] at this
    exact ag (k / 3) _ (k % 3) (by omega) this (by omega)
  · rw [tq_vv_hi z, tq_vv_hi z]
theorem tq_ch_ag {nf : Nat} {fr rn : Nat → Nat} {cx cy : Nat → Int32} {f : tq_V} (fl : ∀ i, fr i < 3) (ag : ∀ t r x, t < 3 → r < rn t → x < 3 → cx (30 * t + 3 * r + x) = cy (30 * t + 3 * r + x)) (hf : tq_dpd (tq_ok nf fr) f) (c : Nat) : tq_ch nf fr rn cx f c ↔ tq_ch nf fr rn cy f c := by
  constructor
  · rintro ⟨a, b, h⟩
    refine ⟨a, b, ?_⟩
    rw [← hf _ _ (fun k hk => tq_vv_ag fl ag b hk)]
    exact h
  · rintro ⟨a, b, h⟩
    refine ⟨a, b, ?_⟩
    rw [hf _ _ (fun k hk => tq_vv_ag fl ag b hk)]
    exact h
end
section
def tq_kx (oi od : Int32) (R : Nat → Nat → Int32) (r : Nat) : Int32 := if od = 0 then (if oi < 0 then 0 else R r oi.toNatClampNeg) else -(if oi < 0 then 0 else R r oi.toNatClampNeg)
theorem tq_kx_ol {oi od : Int32} {R : Nat → Nat → Int32} {ni n : Nat} (ho : oi < 0 ∨ oi.toNatClampNeg < ni) (hb : ∀ r, r < n → ∀ i, i < ni → tq_bd (R r i)) {a b : Nat} (ha : a < n) (hb2 : b < n) (h : tq_lt (tq_kx oi od R) a b) : tq_ol oi od R a b := by
  have nz : (-(0 : Int32)) = 0 := by decide
  by_cases z : oi < 0
  · have e : ∀ x, tq_kx oi od R x = 0 := by
      intro x
      unfold tq_kx
      rw [if_pos z, nz]
      split <;> rfl
    rcases h with h | h
    · rw [e, e] at h; exact absurd h Int32.lt_irrefl
    · exact Or.inl ⟨z, h.2⟩
  · have hl : oi.toNatClampNeg < ni := by rcases ho with q | q; exact absurd q z; exact q
    by_cases w : od = 0
    · have e : ∀ x, tq_kx oi od R x = R x oi.toNatClampNeg := by
        intro x
        unfold tq_kx
        rw [if_neg z, if_pos w]
      unfold tq_lt at h
      rw [e, e] at h
      exact Or.inr (Or.inl ⟨z, w, h⟩)
    · have e : ∀ x, tq_kx oi od R x = -R x oi.toNatClampNeg := by
        intro x
        unfold tq_kx
        rw [if_neg z, if_neg w]
      unfold tq_lt at h
      rw [e, e] at h
      have na := tq_neg (hb a ha _ hl)
      have nb := tq_neg (hb b hb2 _ hl)
      refine Or.inr (Or.inr ⟨z, w, ?_⟩)
      rcases h with h | ⟨h, h'⟩
      · left
        rw [Int32.lt_iff_toInt_lt] at h ⊢
        omega
      · right
        refine ⟨Int32.toInt_inj.mp ?_, h'⟩
        have := congrArg Int32.toInt h
        omega
section
variable {nf ni nt : Nat} {fr ik ic tk rn : Nat → Nat} {f_group f_distinct f_orderItem f_orderDown f_limit f_nodes f_waitingNodes f_waitingWords f_broken f_top f_parts f_combos f_nextCombos f_placed : Int32} {a_cells a_kind a_left a_right a_needs a_truth a_waitNode a_waitWord a_part a_canCount a_can a_combo a_nextCombo a_current a_stays a_result a_table : Nat → Int32}
theorem xw_wk78 {post : Int32 → SX → Prop} {n1 : Nat} {R1 : Nat → Nat → Int32} {a_index a_sorted : Nat → Int32} (hni : ni ≤ 4) (hn : n1 ≤ 1000) (ho : f_orderItem = -1 ∨ ∃ o, o ≤ 3 ∧ f_orderItem = nI o ∧ o < ni) (hl : f_limit = -1 ∨ ∃ l, l ≤ 50 ∧ f_limit = nI l) (hR : tq_RW ni n1 R1 a_result) (hb : ∀ r, r < n1 → ∀ i, i < ni → tq_bd (R1 r i))
    (hp : ∀ (ix : Nat → Nat) (a_index a_sorted a_key : Nat → Int32), (∀ j, j < n1 → a_index j = nI (ix j) ∧ ix j < n1) → tq_EN (tq_ol f_orderItem f_orderDown R1) (fun x => x < n1) ix n1 → post (nI (tq_lm f_limit n1)) ((nI nf), (nI ni), (nI nt), f_group, f_distinct, f_orderItem, f_orderDown, f_limit, f_nodes, f_waitingNodes, f_waitingWords, f_broken, f_top, f_parts, f_combos, f_nextCombos, f_placed, (nI (tq_lm f_limit n1)), (tq_n rn), a_cells, (tq_n fr), (tq_n ik), (tq_n ic), (tq_n tk), a_kind, a_left, a_right, a_needs, a_truth, a_waitNode, a_waitWord, a_part, a_canCount, a_can, a_combo, a_nextCombo, a_current, a_stays, a_result, a_index, a_sorted, a_key, a_table)) :
    ∀ (n r : Nat) (a_key : Nat → Int32), n1 < n + r → r ≤ n1 → (∀ j, j < r → a_key j = tq_kx f_orderItem f_orderDown R1 j) → wX_work_78 post (nI nf) (nI ni) (nI nt) f_group f_distinct f_orderItem f_orderDown f_limit f_nodes f_waitingNodes f_waitingWords f_broken f_top f_parts f_combos f_nextCombos f_placed (nI n1) n (nI r) (tq_n rn) a_cells (tq_n fr) (tq_n ik) (tq_n ic) (tq_n tk) a_kind a_left a_right a_needs a_truth a_waitNode a_waitWord a_part a_canCount a_can a_combo a_nextCombo a_current a_stays a_result a_index a_sorted a_key a_table := by
  have ho' : f_orderItem < 0 ∨ f_orderItem.toNatClampNeg < ni := by
    rcases ho with q | ⟨o, o1, o2, o3⟩
    · rw [q]; exact Or.inl (by decide)
    · rw [o2, nI_clamp (by omega)]; exact Or.inr o3
  intro n
  induction n with
  | zero => intro r a_key q1 q2; omega
  | succ n ih =>
    intro r a_key hf hr hk
    rcases Nat.lt_or_ge r n1 with z | z
    rotate_left
    · have : r = n1 := by omega
      subst this
      refine br_t (nI_le z (by omega)) ?_
      refine xw_sortByKey hn (fun ix a_sorted a_index h1 h2 => ?_)
      have h3 := tq_BK_key (K' := tq_kx f_orderItem f_orderDown R1) (fun c hc => (hk c hc).symm) h2
      have en := tq_BK_en h3
      have K := hp ix a_index a_sorted a_key (fun j hj => ⟨h1 j hj, (h2.1 j (by omega) hj).2⟩) ⟨fun i j hij hj => tq_kx_ol ho' hb (en.2.1 i (by omega)) (en.2.1 j hj) (en.1 i j hij hj), en.2⟩
      dsimp only
      unfold tq_lm at K
      refine br_c (fun g => ?_) (fun g => br_c (fun g2 => ?_) (fun g2 => ?_))
      · rw [if_pos g] at K; exact K
      · rw [if_neg g, if_pos g2] at K; exact K
      · rw [if_neg g, if_neg g2] at K
        rcases hl with q | ⟨l, l1, l2⟩
        · rw [q] at g; exact absurd (by decide) g
        · have e : nI f_limit.toNatClampNeg = f_limit := by rw [l2, nI_clamp (by omega)]
          rw [e] at K
          exact K
    have vr : vp_in (nI r) 1000 := vp_in_nI (by omega) (by decide)
    refine br_f (nI_ge z (by omega)) ?_
    have st : ∀ a_key' : Nat → Int32, (∀ j, j < r + 1 → a_key' j = tq_kx f_orderItem f_orderDown R1 j) → wX_work_78 post (nI nf) (nI ni) (nI nt) f_group f_distinct f_orderItem f_orderDown f_limit f_nodes f_waitingNodes f_waitingWords f_broken f_top f_parts f_combos f_nextCombos f_placed (nI n1) n (nI (r + 1)) (tq_n rn) a_cells (tq_n fr) (tq_n ik) (tq_n ic) (tq_n tk) a_kind a_left a_right a_needs a_truth a_waitNode a_waitWord a_part a_canCount a_can a_combo a_nextCombo a_current a_stays a_result a_index a_sorted a_key' a_table := fun a_key' h => ih (r + 1) a_key' (by omega) (by omega) h
    have fin : ∀ v : Int32, v = (if f_orderItem < 0 then 0 else R1 r f_orderItem.toNatClampNeg) → wX_work_110 post (wX_work_78 post (nI nf) (nI ni) (nI nt) f_group f_distinct f_orderItem f_orderDown f_limit f_nodes f_waitingNodes f_waitingWords f_broken f_top f_parts f_combos f_nextCombos f_placed (nI n1) n) (nI r) v (nI nf) (nI ni) (nI nt) f_group f_distinct f_orderItem f_orderDown f_limit f_nodes f_waitingNodes f_waitingWords f_broken f_top f_parts f_combos f_nextCombos f_placed (nI n1) (tq_n rn) a_cells (tq_n fr) (tq_n ik) (tq_n ic) (tq_n tk) a_kind a_left a_right a_needs a_truth a_waitNode a_waitWord a_part a_canCount a_can a_combo a_nextCombo a_current a_stays a_result a_index a_sorted a_key a_table := by
      intro v hv
      unfold wX_work_110
      rw [nI_clamp (show r < 2 ^ 31 by omega), nI_1]
      refine br_c (fun g => ⟨vr, nm_e (nm_e (st _ (fun j hj => ?_)))⟩) (fun g => ⟨vr, nm_e (nm_e (st _ (fun j hj => ?_)))⟩)
      · by_cases a : j = r
        · rw [a, pk_us, hv]; unfold tq_kx; rw [if_pos g]
        · rw [pk_un a]; exact hk j (by omega)
      · by_cases a : j = r
        · rw [a, pk_us, hv]; unfold tq_kx; rw [if_neg g]
        · rw [pk_un a]; exact hk j (by omega)
    rcases ho with q | ⟨o, o1, o2, o3⟩
    · refine br_f (by rw [q]; exact tq_m1) (fin 0 ?_)
      rw [if_pos (by rw [q]; decide)]
    · have e1 : 4 * nI r + f_orderItem = nI (4 * r + o) := by
        rw [o2]
        show nI 4 * nI r + _ = _
        rw [pk_mul, nI_add]
      refine br_t (by rw [o2]; exact nI_pos' (by omega)) ?_
      rw [e1, nI_clamp (show 4 * r + o < 2 ^ 31 by omega), hR r z o o3]
      refine ⟨vp_in_nI (by omega) (by decide), fin _ ?_⟩
      rw [if_neg (by rw [o2]; exact nI_pos (by omega)), o2, nI_clamp (by omega)]
end
section
variable {nf ni nt : Nat} {fr ik ic tk rn : Nat → Nat} {f_group f_distinct f_orderItem f_orderDown f_limit f_nodes f_waitingNodes f_waitingWords f_broken f_top f_parts f_combos f_nextCombos f_placed : Int32} {a_cells a_kind a_left a_right a_needs a_truth a_waitNode a_waitWord a_part a_canCount a_can a_combo a_nextCombo a_current a_stays a_result a_index a_sorted a_key a_table : Nat → Int32}
theorem xw_wk65 {post : Int32 → SX → Prop} {n0 : Nat} {R0 : Nat → Nat → Int32} (hni : ni ≤ 4) (hn : n0 ≤ 1000) (ho : f_orderItem = -1 ∨ ∃ o, o ≤ 3 ∧ f_orderItem = nI o ∧ o < ni) (hl : f_limit = -1 ∨ ∃ l, l ≤ 50 ∧ f_limit = nI l) (hR : tq_RW ni n0 R0 a_result) (hb : ∀ r, r < n0 → ∀ i, i < ni → tq_bd (R0 r i))
    (hp : ∀ (n1 : Nat) (R1 : Nat → Nat → Int32) (ix : Nat → Nat) (a_result a_index a_sorted a_key a_table : Nat → Int32), n1 ≤ 1000 → tq_RC ni f_distinct n0 R0 n1 R1 → tq_RW ni n1 R1 a_result → (∀ j, j < n1 → a_index j = nI (ix j) ∧ ix j < n1) → tq_EN (tq_ol f_orderItem f_orderDown R1) (fun x => x < n1) ix n1 → post (nI (tq_lm f_limit n1)) ((nI nf), (nI ni), (nI nt), f_group, f_distinct, f_orderItem, f_orderDown, f_limit, f_nodes, f_waitingNodes, f_waitingWords, f_broken, f_top, f_parts, f_combos, f_nextCombos, f_placed, (nI (tq_lm f_limit n1)), (tq_n rn), a_cells, (tq_n fr), (tq_n ik), (tq_n ic), (tq_n tk), a_kind, a_left, a_right, a_needs, a_truth, a_waitNode, a_waitWord, a_part, a_canCount, a_can, a_combo, a_nextCombo, a_current, a_stays, a_result, a_index, a_sorted, a_key, a_table)) : wX_work_65 post (nI nf) (nI ni) (nI nt) f_group f_distinct f_orderItem f_orderDown f_limit f_nodes f_waitingNodes f_waitingWords f_broken f_top f_parts f_combos f_nextCombos f_placed (nI n0) (tq_n rn) a_cells (tq_n fr) (tq_n ik) (tq_n ic) (tq_n tk) a_kind a_left a_right a_needs a_truth a_waitNode a_waitWord a_part a_canCount a_can a_combo a_nextCombo a_current a_stays a_result a_index a_sorted a_key a_table := by
  refine br_c (fun g => ⟨n0 + 1, ?_⟩) (fun g => ?_)
  · exact xw_wk78 hni hn ho hl hR hb (fun ix a_index a_sorted a_key h1 h2 => hp n0 R0 ix a_result a_index a_sorted a_key a_table hn (Or.inl ⟨g, rfl, fun _ _ _ _ => rfl⟩) hR h1 h2) (n0 + 1) 0 a_key (by omega) (by omega) (fun j hj => absurd hj (by omega))
  · refine xw_dropRepeated hni hn hR (fun k a_result a_table hk hDS => ?_)
    refine ⟨k + 1, ?_⟩
    have RC : tq_RC ni f_distinct n0 R0 k (fun r i => a_result (4 * r + i)) := Or.inr ⟨g, hDS⟩
    exact xw_wk78 (R1 := fun r i => a_result (4 * r + i)) hni (by omega) ho hl (fun r _ i _ => rfl) (tq_RC_bd hb RC) (fun ix a_index a_sorted a_key h1 h2 => hp k (fun r i => a_result (4 * r + i)) ix a_result a_index a_sorted a_key a_table (by omega) RC (fun r _ i _ => rfl) h1 h2) (k + 1) 0 a_key (by omega) (by omega) (fun j hj => absurd hj (by omega))
theorem tq_nb_use {nf ni : Nat} {fr ik ic : Nat → Nat} {grp oi : Int32} (h : ¬ tq_bad nf ni fr ik ic grp oi) : ¬ nI ni ≤ oi ∧ (∀ g, g ≤ 8 → grp = nI g → tq_pc nf fr (g / 3) < 3) ∧ (∀ i, i < ni → ik i ≠ 1 → tq_pc nf fr (ic i / 3) < 3) ∧ (∀ i, i < ni → tq_su ni ik grp → ik i = 0 → nI (ic i) = grp) := by
  refine ⟨fun q => h (Or.inl (Or.inr (Or.inl q))), fun g g1 g2 => Classical.byContradiction (fun q => h (Or.inl (Or.inr (Or.inr ⟨g, g1, g2, q⟩)))), fun i hi q => Classical.byContradiction (fun w => h (Or.inr ⟨i, hi, Or.inl ⟨q, w⟩⟩)), fun i hi q w => Classical.byContradiction (fun y => h (Or.inr ⟨i, hi, Or.inr ⟨q, w, y⟩⟩))⟩
end
section
variable {nf ni nt : Nat} {fr ik ic tk rn : Nat → Nat} {f_group f_distinct f_orderItem f_orderDown f_limit f_nodes f_waitingNodes f_waitingWords f_broken f_top f_combos f_nextCombos f_placed f_results : Int32} {a_cells a_kind a_left a_right a_needs a_truth a_waitNode a_waitWord a_part a_canCount a_can a_combo a_nextCombo a_current a_stays a_result a_index a_sorted a_key a_table : Nat → Int32}
/-- behind the checks -/
theorem xw_wkB {post : Int32 → SX → Prop} {N np : Nat} {f : tq_V} {G : Nat → tq_Nd} {pt : Nat → Nat} (d : tq_ds nf fr) (fl : ∀ i, fr i < 3) (rl : ∀ i, rn i ≤ 10) (crg : ∀ i, tq_rg (a_cells i)) (hni : ni ≤ 4) (il : ∀ i, ik i ≤ 4) (cl : ∀ i, ic i ≤ 8) (hg : f_group = -1 ∨ ∃ g, g ≤ 8 ∧ f_group = nI g) (ho : f_orderItem = -1 ∨ ∃ o, o ≤ 3 ∧ f_orderItem = nI o) (hl : f_limit = -1 ∨ ∃ l, l ≤ 50 ∧ f_limit = nI l)
    (hnb : ¬ tq_bad nf ni fr ik ic f_group f_orderItem) (hI : tq_NI nf fr N G a_kind a_left a_right a_needs) (hN : N ≤ 24) (hPT : tq_PT N G np pt a_part f)
    (hp : ∀ (m n : Nat) (e ix : Nat → Nat) (R : Nat → Nat → Int32) (f_nodes f_waitingNodes f_waitingWords f_broken f_top f_parts f_nextCombos f_placed f_results : Int32) (a_kind a_left a_right a_needs a_truth a_waitNode a_waitWord a_part a_canCount a_can a_combo a_nextCombo a_current a_stays a_result a_index a_sorted a_key a_table : Nat → Int32), m ≤ 1000 → n ≤ 1000 → tq_EN (· < ·) (tq_ch nf fr rn a_cells f) e m → tq_AN m ni ik ic f_group f_distinct f_orderItem f_orderDown f_limit (tq_D nf fr a_cells e) n R → (∀ r, r < n → a_index r = nI (ix r) ∧ ix r < 1000) → (∀ r, r < n → ∀ i, i < ni → a_result (4 * ix r + i) = R r i) → post (nI n) ((nI nf), (nI ni), (nI nt), f_group, f_distinct, f_orderItem, f_orderDown, f_limit, f_nodes, f_waitingNodes, f_waitingWords, f_broken, f_top, f_parts, (nI m), f_nextCombos, f_placed, f_results, (tq_n rn), a_cells, (tq_n fr), (tq_n ik), (tq_n ic), (tq_n tk), a_kind, a_left, a_right, a_needs, a_truth, a_waitNode, a_waitWord, a_part, a_canCount, a_can, a_combo, a_nextCombo, a_current, a_stays, a_result, a_index, a_sorted, a_key, a_table)) :
    wpX_combine (fun u => match u with | (f_froms9, f_items9, f_tokens9, f_group9, f_distinct9, f_orderItem9, f_orderDown9, f_limit9, f_nodes9, f_waitingNodes9, f_waitingWords9, f_broken9, f_top9, f_parts9, f_combos9, f_nextCombos9, f_placed9, f_results9, a_rows9, a_cells9, a_from9, a_itemKind9, a_itemColumn9, a_token9, a_kind9, a_left9, a_right9, a_needs9, a_truth9, a_waitNode9, a_waitWord9, a_part9, a_canCount9, a_can9, a_combo9, a_nextCombo9, a_current9, a_stays9, a_result9, a_index9, a_sorted9, a_key9, a_table9) => wpX_summarised (fun r_180 => (r_180 = 0 → wpX_listPlain (fun u => match u with | (f_froms8, f_items8, f_tokens8, f_group8, f_distinct8, f_orderItem8, f_orderDown8, f_limit8, f_nodes8, f_waitingNodes8, f_waitingWords8, f_broken8, f_top8, f_parts8, f_combos8, f_nextCombos8, f_placed8, f_results8, a_rows8, a_cells8, a_from8, a_itemKind8, a_itemColumn8, a_token8, a_kind8, a_left8, a_right8, a_needs8, a_truth8, a_waitNode8, a_waitWord8, a_part8, a_canCount8, a_can8, a_combo8, a_nextCombo8, a_current8, a_stays8, a_result8, a_index8, a_sorted8, a_key8, a_table8) => wX_work_65 post f_froms8 f_items8 f_tokens8 f_group8 f_distinct8 f_orderItem8 f_orderDown8 f_limit8 f_nodes8 f_waitingNodes8 f_waitingWords8 f_broken8 f_top8 f_parts8 f_combos8 f_nextCombos8 f_placed8 f_results8 a_rows8 a_cells8 a_from8 a_itemKind8 a_itemColumn8 a_token8 a_kind8 a_left8 a_right8 a_needs8 a_truth8 a_waitNode8 a_waitWord8 a_part8 a_canCount8 a_can8 a_combo8 a_nextCombo8 a_current8 a_stays8 a_result8 a_index8 a_sorted8 a_key8 a_table8) (f_froms9, f_items9, f_tokens9, f_group9, f_distinct9, f_orderItem9, f_orderDown9, f_limit9, f_nodes9, f_waitingNodes9, f_waitingWords9, f_broken9, f_top9, f_parts9, f_combos9, f_nextCombos9, f_placed9, f_results9, a_rows9, a_cells9, a_from9, a_itemKind9, a_itemColumn9, a_token9, a_kind9, a_left9, a_right9, a_needs9, a_truth9, a_waitNode9, a_waitWord9, a_part9, a_canCount9, a_can9, a_combo9, a_nextCombo9, a_current9, a_stays9, a_result9, a_index9, a_sorted9, a_key9, a_table9)) ∧ (¬ r_180 = 0 → wpX_listGroups (fun u => match u with | (f_froms8, f_items8, f_tokens8, f_group8, f_distinct8, f_orderItem8, f_orderDown8, f_limit8, f_nodes8, f_waitingNodes8, f_waitingWords8, f_broken8, f_top8, f_parts8, f_combos8, f_nextCombos8, f_placed8, f_results8, a_rows8, a_cells8, a_from8, a_itemKind8, a_itemColumn8, a_token8, a_kind8, a_left8, a_right8, a_needs8, a_truth8, a_waitNode8, a_waitWord8, a_part8, a_canCount8, a_can8, a_combo8, a_nextCombo8, a_current8, a_stays8, a_result8, a_index8, a_sorted8, a_key8, a_table8) => wX_work_65 post f_froms8 f_items8 f_tokens8 f_group8 f_distinct8 f_orderItem8 f_orderDown8 f_limit8 f_nodes8 f_waitingNodes8 f_waitingWords8 f_broken8 f_top8 f_parts8 f_combos8 f_nextCombos8 f_placed8 f_results8 a_rows8 a_cells8 a_from8 a_itemKind8 a_itemColumn8 a_token8 a_kind8 a_left8 a_right8 a_needs8 a_truth8 a_waitNode8 a_waitWord8 a_part8 a_canCount8 a_can8 a_combo8 a_nextCombo8 a_current8 a_stays8 a_result8 a_index8 a_sorted8 a_key8 a_table8) (f_froms9, f_items9, f_tokens9, f_group9, f_distinct9, f_orderItem9, f_orderDown9, f_limit9, f_nodes9, f_waitingNodes9, f_waitingWords9, f_broken9, f_top9, f_parts9, f_combos9, f_nextCombos9, f_placed9, f_results9, a_rows9, a_cells9, a_from9, a_itemKind9, a_itemColumn9, a_token9, a_kind9, a_left9, a_right9, a_needs9, a_truth9, a_waitNode9, a_waitWord9, a_part9, a_canCount9, a_can9, a_combo9, a_nextCombo9, a_current9, a_stays9, a_result9, a_index9, a_sorted9, a_key9, a_table9))) (f_froms9, f_items9, f_tokens9, f_group9, f_distinct9, f_orderItem9, f_orderDown9, f_limit9, f_nodes9, f_waitingNodes9, f_waitingWords9, f_broken9, f_top9, f_parts9, f_combos9, f_nextCombos9, f_placed9, f_results9, a_rows9, a_cells9, a_from9, a_itemKind9, a_itemColumn9, a_token9, a_kind9, a_left9, a_right9, a_needs9, a_truth9, a_waitNode9, a_waitWord9, a_part9, a_canCount9, a_can9, a_combo9, a_nextCombo9, a_current9, a_stays9, a_result9, a_index9, a_sorted9, a_key9, a_table9)) ((nI nf), (nI ni), (nI nt), f_group, f_distinct, f_orderItem, f_orderDown, f_limit, f_nodes, f_waitingNodes, f_waitingWords, f_broken, f_top, (nI np), f_combos, f_nextCombos, f_placed, f_results, (tq_n rn), a_cells, (tq_n fr), (tq_n ik), (tq_n ic), (tq_n tk), a_kind, a_left, a_right, a_needs, a_truth, a_waitNode, a_waitWord, a_part, a_canCount, a_can, a_combo, a_nextCombo, a_current, a_stays, a_result, a_index, a_sorted, a_key, a_table) := by
  obtain ⟨nb1, nb2, nb3, nb4⟩ := tq_nb_use hnb
  have ho' : f_orderItem = -1 ∨ ∃ o, o ≤ 3 ∧ f_orderItem = nI o ∧ o < ni := by
    rcases ho with q | ⟨o, o1, o2⟩
    · exact Or.inl q
    · refine Or.inr ⟨o, o1, o2, ?_⟩
      rw [o2, nI_leI (by omega) (by omega)] at nb1
      omega
  refine xw_combine d fl rl crg hI hN hPT (fun m e f_placed f_nextCombos a_truth a_current a_canCount a_can a_nextCombo a_stays a_combo hm hEN hcb => ?_)
  dsimp only
  have hcb2 : ∀ j, j < m → a_combo j = nI (e j) ∧ e j < 1000 := fun j hj => ⟨hcb j hj, (hEN.2.1 j hj).1⟩
  have drg : ∀ c k, k ≤ 8 → tq_rg (tq_D nf fr a_cells e c k) := by
    intro c k hk
    unfold tq_D
    rw [tq_vv_lo (by omega)]
    exact crg _
  have tail : ∀ (n0 : Nat) (R0 : Nat → Nat → Int32) (a_current a_result a_index a_sorted a_key : Nat → Int32), n0 ≤ 1000 → tq_RW ni n0 R0 a_result → tq_RB m ni ik ic f_group (tq_D nf fr a_cells e) n0 R0 → wX_work_65 post (nI nf) (nI ni) (nI nt) f_group f_distinct f_orderItem f_orderDown f_limit f_nodes f_waitingNodes f_waitingWords f_broken f_top (nI np) (nI m) f_nextCombos f_placed (nI n0) (tq_n rn) a_cells (tq_n fr) (tq_n ik) (tq_n ic) (tq_n tk) a_kind a_left a_right a_needs a_truth a_waitNode a_waitWord a_part a_canCount a_can a_combo a_nextCombo a_current a_stays a_result a_index a_sorted a_key a_table := by
    intro n0 R0 a_current a_result a_index a_sorted a_key hn0 hRW hRB
    refine xw_wk65 hni hn0 ho' hl hRW (tq_RB_bd hm (fun c _ i _ _ => drg c _ (cl i)) (fun g g1 _ c _ => drg c g g1) hRB) (fun n1 R1 ix a_result a_index a_sorted a_key a_table hn1 hRC hRW1 hix hEN1 => ?_)
    have lm := tq_lm_le f_limit n1 hn1
    refine hp m (tq_lm f_limit n1) e ix (fun r i => R1 (ix r) i) _ _ _ _ _ _ _ _ _ _ _ _ _ _ _ _ _ _ _ _ _ _ _ _ _ _ _ _ hm (by omega) hEN ⟨n0, n1, R0, R1, ix, hRB, hRC, hEN1, fun _ _ _ _ => rfl, rfl, hn1⟩ (fun r hr => ⟨(hix r (by omega)).1, by have := (hix r (by omega)).2; omega⟩) (fun r hr i hi => hRW1 _ (hix r (by omega)).2 i hi)
  refine xw_summarised hni il (fun q => br_f (by decide) ?_) (fun q => br_t rfl ?_)
  · rcases hg with hg | ⟨g, g1, g2⟩
    · subst hg
      refine xw_listGroupsB d fl hni il cl nb3 (fun i hi w => ?_) hm hcb2 (fun a_current a_result a_index a_sorted a_key hGR => ?_)
      · have := nb4 i hi q w
        have c := cl i
        have p := nI_pos (n := ic i) (by omega)
        rw [this] at p
        exact p (by decide)
      · exact tail 1 (fun r i => a_result (4 * r + i)) a_current a_result a_index a_sorted a_key (by omega) (fun r _ i _ => rfl) (Or.inr (Or.inl ⟨q, rfl, rfl, tq_GR_cg (fun i _ => by show a_result (4 * 0 + i) = a_result i; rw [Nat.mul_zero, Nat.zero_add]) hGR⟩))
    · subst g2
      refine xw_listGroupsA d fl hni il cl nb3 (fun i hi w => ?_) g1 (nb2 g g1 rfl) hm hcb2 (fun n0 a_current a_result a_index a_sorted a_key hn0 hGS => ?_)
      · have := nb4 i hi q w
        have c := cl i
        rw [nI_eq (by omega) (by omega)] at this
        exact this
      · exact tail n0 (fun r i => a_result (4 * r + i)) a_current a_result a_index a_sorted a_key hn0 (fun r _ i _ => rfl) (Or.inr (Or.inr ⟨g, g1, rfl, hGS⟩))
  · refine xw_listPlain d fl hni cl (fun i hi => nb3 i hi (fun w => q (Or.inr ⟨i, hi, by omega⟩))) hm hcb2 (fun a_current a_result hRW => ?_)
    exact tail m (fun r i => tq_D nf fr a_cells e r (ic i)) a_current a_result a_index a_sorted a_key hm hRW (Or.inl ⟨q, rfl, fun _ _ _ _ => rfl⟩)
end
section
variable {nf ni nt : Nat} {fr ik ic tk rn : Nat → Nat} {f_group f_distinct f_orderItem f_orderDown f_limit f_nodes f_waitingNodes f_waitingWords f_broken f_top f_parts f_combos f_nextCombos f_placed f_results : Int32} {a_cells a_kind a_left a_right a_needs a_truth a_waitNode a_waitWord a_part a_canCount a_can a_combo a_nextCombo a_current a_stays a_result a_index a_sorted a_key a_table : Nat → Int32}
theorem xw_work {post : Int32 → SX → Prop} (d : tq_ds nf fr) (fl : ∀ i, fr i < 3) (rl : ∀ i, rn i ≤ 10) (tl : ∀ i, tk i ≤ 36) (h24 : nt ≤ 24) (crg : ∀ i, tq_rg (a_cells i)) (hni : ni ≤ 4) (il : ∀ i, ik i ≤ 4) (cl : ∀ i, ic i ≤ 8) (hg : f_group = -1 ∨ ∃ g, g ≤ 8 ∧ f_group = nI g) (ho : f_orderItem = -1 ∨ ∃ o, o ≤ 3 ∧ f_orderItem = nI o) (hl : f_limit = -1 ∨ ∃ l, l ≤ 50 ∧ f_limit = nI l)
    (h4 : nf = 0 → ∀ (f_nodes f_waitingNodes f_waitingWords f_broken f_top f_parts f_combos f_nextCombos f_placed f_results : Int32) (a_kind a_left a_right a_needs a_truth a_waitNode a_waitWord a_part a_canCount a_can a_combo a_nextCombo a_current a_stays a_result a_index a_sorted a_key a_table : Nat → Int32), post (-4000) ((nI nf), (nI ni), (nI nt), f_group, f_distinct, f_orderItem, f_orderDown, f_limit, f_nodes, f_waitingNodes, f_waitingWords, f_broken, f_top, f_parts, f_combos, f_nextCombos, f_placed, f_results, (tq_n rn), a_cells, (tq_n fr), (tq_n ik), (tq_n ic), (tq_n tk), a_kind, a_left, a_right, a_needs, a_truth, a_waitNode, a_waitWord, a_part, a_canCount, a_can, a_combo, a_nextCombo, a_current, a_stays, a_result, a_index, a_sorted, a_key, a_table))
    (h5 : nf ≠ 0 → tq_cnd nt tk (tq_ok nf fr) = none → ∀ (f_nodes f_waitingNodes f_waitingWords f_broken f_top f_parts f_combos f_nextCombos f_placed f_results : Int32) (a_kind a_left a_right a_needs a_truth a_waitNode a_waitWord a_part a_canCount a_can a_combo a_nextCombo a_current a_stays a_result a_index a_sorted a_key a_table : Nat → Int32), post (-5000) ((nI nf), (nI ni), (nI nt), f_group, f_distinct, f_orderItem, f_orderDown, f_limit, f_nodes, f_waitingNodes, f_waitingWords, f_broken, f_top, f_parts, f_combos, f_nextCombos, f_placed, f_results, (tq_n rn), a_cells, (tq_n fr), (tq_n ik), (tq_n ic), (tq_n tk), a_kind, a_left, a_right, a_needs, a_truth, a_waitNode, a_waitWord, a_part, a_canCount, a_can, a_combo, a_nextCombo, a_current, a_stays, a_result, a_index, a_sorted, a_key, a_table))
    (h6 : ∀ f, nf ≠ 0 → tq_cnd nt tk (tq_ok nf fr) = some f → tq_bad nf ni fr ik ic f_group f_orderItem → ∀ (f_nodes f_waitingNodes f_waitingWords f_broken f_top f_parts f_combos f_nextCombos f_placed f_results : Int32) (a_kind a_left a_right a_needs a_truth a_waitNode a_waitWord a_part a_canCount a_can a_combo a_nextCombo a_current a_stays a_result a_index a_sorted a_key a_table : Nat → Int32), post (-6000) ((nI nf), (nI ni), (nI nt), f_group, f_distinct, f_orderItem, f_orderDown, f_limit, f_nodes, f_waitingNodes, f_waitingWords, f_broken, f_top, f_parts, f_combos, f_nextCombos, f_placed, f_results, (tq_n rn), a_cells, (tq_n fr), (tq_n ik), (tq_n ic), (tq_n tk), a_kind, a_left, a_right, a_needs, a_truth, a_waitNode, a_waitWord, a_part, a_canCount, a_can, a_combo, a_nextCombo, a_current, a_stays, a_result, a_index, a_sorted, a_key, a_table))
    (hp : ∀ f, nf ≠ 0 → tq_cnd nt tk (tq_ok nf fr) = some f → ¬ tq_bad nf ni fr ik ic f_group f_orderItem → ∀ (m n : Nat) (e ix : Nat → Nat) (R : Nat → Nat → Int32) (f_nodes f_waitingNodes f_waitingWords f_broken f_top f_parts f_nextCombos f_placed f_results : Int32) (a_kind a_left a_right a_needs a_truth a_waitNode a_waitWord a_part a_canCount a_can a_combo a_nextCombo a_current a_stays a_result a_index a_sorted a_key a_table : Nat → Int32), m ≤ 1000 → n ≤ 1000 → tq_EN (· < ·) (tq_ch nf fr rn a_cells f) e m → tq_AN m ni ik ic f_group f_distinct f_orderItem f_orderDown f_limit (tq_D nf fr a_cells e) n R → (∀ r, r < n → a_index r = nI (ix r) ∧ ix r < 1000) → (∀ r, r < n → ∀ i, i < ni → a_result (4 * ix r + i) = R r i) → post (nI n) ((nI nf), (nI ni), (nI nt), f_group, f_distinct, f_orderItem, f_orderDown, f_limit, f_nodes, f_waitingNodes, f_waitingWords, f_broken, f_top, f_parts, (nI m), f_nextCombos, f_placed, f_results, (tq_n rn), a_cells, (tq_n fr), (tq_n ik), (tq_n ic), (tq_n tk), a_kind, a_left, a_right, a_needs, a_truth, a_waitNode, a_waitWord, a_part, a_canCount, a_can, a_combo, a_nextCombo, a_current, a_stays, a_result, a_index, a_sorted, a_key, a_table)) :
    wpX_work post ((nI nf), (nI ni), (nI nt), f_group, f_distinct, f_orderItem, f_orderDown, f_limit, f_nodes, f_waitingNodes, f_waitingWords, f_broken, f_top, f_parts, f_combos, f_nextCombos, f_placed, f_results, (tq_n rn), a_cells, (tq_n fr), (tq_n ik), (tq_n ic), (tq_n tk), a_kind, a_left, a_right, a_needs, a_truth, a_waitNode, a_waitWord, a_part, a_canCount, a_can, a_combo, a_nextCombo, a_current, a_stays, a_result, a_index, a_sorted, a_key, a_table) := by
  have n3 := d.1
  unfold wpX_work
  dsimp only
  refine pk_eq nf 0 (fun e => h4 e _ _ _ _ _ _ _ _ _ _ _ _ _ _ _ _ _ _ _ _ _ _ _ _ _ _ _ _ _) (fun e => ?_)
  refine xw_readCondition d fl tl h24 (fun q => ?_) (fun q => ?_) (fun f nt0 q => ?_)
  · intro f_nodes f_waitingNodes f_waitingWords f_top a_kind a_left a_right a_needs a_waitNode a_waitWord
    dsimp only
    exact br_f (by decide) (h5 e q _ _ _ _ _ _ _ _ _ _ _ _ _ _ _ _ _ _ _ _ _ _ _ _ _ _ _ _ _)
  · intro f_nodes f_waitingNodes f_waitingWords f_top a_kind a_left a_right a_needs a_waitNode a_waitWord
    have cn : tq_cnd nt tk (tq_ok nf fr) = some (fun _ => true) := if_pos q
    dsimp only
    refine br_t rfl ?_
    refine xw_badItems d fl hni il cl hg (fun w => br_f (by decide) (h6 _ e cn w _ _ _ _ _ _ _ _ _ _ _ _ _ _ _ _ _ _ _ _ _ _ _ _ _ _ _ _ _)) (fun w => br_t rfl ?_)
    refine xw_listParts0 q ?_
    exact xw_wkB (N := 0) (np := 0) (G := fun _ => (0, 0, 0, 0, fun _ => true, 0)) (pt := fun _ => 0) (f := fun _ => true) d fl rl crg hni il cl hg ho hl w ⟨fun i hi => absurd hi (by omega), fun i hi => absurd hi (by omega)⟩ (by omega) ⟨by omega, fun j hj => absurd hj (by omega), fun v => ⟨fun _ j hj => absurd hj (by omega), fun _ => rfl⟩⟩ (hp _ e cn w)
  · intro N top G f_waitingNodes f_waitingWords a_kind a_left a_right a_needs a_waitNode a_waitWord hI hN htop hsz hF
    dsimp only
    refine br_t rfl ?_
    refine xw_badItems d fl hni il cl hg (fun w => br_f (by decide) (h6 _ e q w _ _ _ _ _ _ _ _ _ _ _ _ _ _ _ _ _ _ _ _ _ _ _ _ _ _ _ _ _)) (fun w => br_t rfl ?_)
    refine xw_listParts h24 hI hN htop hsz nt0 (fun np pt f_waitingNodes a_waitNode a_part hPT => ?_)
    rw [hF] at hPT
    exact xw_wkB d fl rl crg hni il cl hg ho hl w hI hN hPT (hp _ e q w)
end
end
section
/-! combinations by one number -/
def tq_C (nf : Nat) (fr rn : Nat → Nat) (p : Nat) : Nat := if p < nf then rn (fr p) else 1
def tq_mx (C : Nat → Nat) (n : Nat) : Nat := 100 * (n / C 2 / C 1) + 10 * (n / C 2 % C 1) + n % C 2
def tq_al (C : Nat → Nat) : Nat := C 0 * C 1 * C 2
theorem tq_mx_d {a b c n : Nat} (hn : n < a * b * c) : n / c / b < a ∧ n / c % b < b ∧ n % c < c := by
  have hc : 0 < c := by
    rcases Nat.eq_zero_or_pos c with z | z
    · rw [z, Nat.mul_zero] at hn; omega
    · exact z
  have hb : 0 < b := by
    rcases Nat.eq_zero_or_pos b with z | z
    · rw [z, Nat.mul_zero, Nat.zero_mul] at hn; omega
    · exact z
  refine ⟨?_, Nat.mod_lt _ hb, Nat.mod_lt _ hc⟩
  rw [Nat.div_lt_iff_lt_mul hb, Nat.div_lt_iff_lt_mul hc]
  exact hn
theorem tq_mx_dg {C : Nat → Nat} (h10 : ∀ p, C p ≤ 10) {n : Nat} (hn : n < tq_al C) : (∀ p, p < 3 → tq_dg (tq_mx C n) p < C p) ∧ tq_mx C n < 1000 ∧ tq_dg (tq_mx C n) 0 = n / C 2 / C 1 ∧ tq_dg (tq_mx C n) 1 = n / C 2 % C 1 ∧ tq_dg (tq_mx C n) 2 = n % C 2 := by
  obtain ⟨a, b, c⟩ := tq_mx_d hn
  have h0 := h10 0
  have h1 := h10 1
  have h2 := h10 2
  have e : tq_dg (tq_mx C n) 0 = n / C 2 / C 1 ∧ tq_dg (tq_mx C n) 1 = n / C 2 % C 1 ∧ tq_dg (tq_mx C n) 2 = n % C 2 := by
    unfold tq_mx
    generalize n / C 2 / C 1 = x at *
    generalize n / C 2 % C 1 = y at *
    generalize n % C 2 = z at *
    simp [tq_dg]
    omega
  refine ⟨fun p hp => ?_, ?_, e⟩
  · rcases tq_3c hp with rfl | rfl | rfl
    · rw [e.1]; exact a
    · rw [e.2.1]; exact b
    · rw [e.2.2]; exact c
  · unfold tq_mx
    generalize n / C 2 / C 1 = x at *
    generalize n / C 2 % C 1 = y at *
    generalize n % C 2 = z at *
    omega
theorem tq_lex {b n n' : Nat} (hb : 0 < b) (hb10 : b ≤ 10) (h : n < n') : n / b < n' / b ∨ (n / b = n' / b ∧ n % b < n' % b) := by
  have l : n / b ≤ n' / b := Nat.div_le_div_right (Nat.le_of_lt h)
  rcases Nat.lt_or_ge (n / b) (n' / b) with z | z
  · exact Or.inl z
  · have e : n / b = n' / b := by omega
    refine Or.inr ⟨e, ?_⟩
    have q1 := Nat.div_add_mod n b
    have q2 := Nat.div_add_mod n' b
    rw [e] at q1
    omega
theorem tq_mx_lt {C : Nat → Nat} (h10 : ∀ p, C p ≤ 10) {n n' : Nat} (hn : n < tq_al C) (hn' : n' < tq_al C) (h : n < n') : tq_mx C n < tq_mx C n' := by
  obtain ⟨a, b, c⟩ := tq_mx_d hn
  obtain ⟨a', b', c'⟩ := tq_mx_d hn'
  have h0 := h10 0
  have h1 := h10 1
  have h2 := h10 2
  have l1 := tq_lex (b := C 2) (by omega) h2 h
  unfold tq_mx
  rcases l1 with l1 | ⟨l1, l2⟩
  · have l3 := tq_lex (b := C 1) (by omega) h1 l1
    generalize n / C 2 / C 1 = x at *
    generalize n / C 2 % C 1 = y at *
    generalize n % C 2 = z at *
    generalize n' / C 2 / C 1 = x' at *
    generalize n' / C 2 % C 1 = y' at *
    generalize n' % C 2 = z' at *
    omega
  · rw [l1]
    omega
theorem tq_mx_sj {C : Nat → Nat} (h10 : ∀ p, C p ≤ 10) {c : Nat} (hc : c < 1000) (hd : ∀ p, p < 3 → tq_dg c p < C p) : ∃ n, n < tq_al C ∧ tq_mx C n = c := by
  have d0 := hd 0 (by omega)
  have d1 := hd 1 (by omega)
  have d2 := hd 2 (by omega)
  have e2 : ((tq_dg c 0 * C 1 + tq_dg c 1) * C 2 + tq_dg c 2) / C 2 = tq_dg c 0 * C 1 + tq_dg c 1 := by
    rw [Nat.mul_comm, Nat.mul_add_div (by omega), Nat.div_eq_of_lt d2]
    omega
  have m2 : ((tq_dg c 0 * C 1 + tq_dg c 1) * C 2 + tq_dg c 2) % C 2 = tq_dg c 2 := by
    rw [Nat.mul_comm, Nat.mul_add_mod, Nat.mod_eq_of_lt d2]
  have e1 : (tq_dg c 0 * C 1 + tq_dg c 1) / C 1 = tq_dg c 0 := by
    rw [Nat.mul_comm, Nat.mul_add_div (by omega), Nat.div_eq_of_lt d1]
    omega
  have m1 : (tq_dg c 0 * C 1 + tq_dg c 1) % C 1 = tq_dg c 1 := by
    rw [Nat.mul_comm, Nat.mul_add_mod, Nat.mod_eq_of_lt d1]
  refine ⟨(tq_dg c 0 * C 1 + tq_dg c 1) * C 2 + tq_dg c 2, ?_, ?_⟩
  · have a : tq_dg c 0 * C 1 + tq_dg c 1 + 1 ≤ C 0 * C 1 := by
      have := Nat.mul_le_mul_right (C 1) (show tq_dg c 0 + 1 ≤ C 0 by omega)
      rw [Nat.add_mul, Nat.one_mul] at this
      omega
    have b := Nat.mul_le_mul_right (C 2) a
    rw [Nat.add_mul, Nat.one_mul] at b
    unfold tq_al
    omega
  · unfold tq_mx
    rw [e2, m2, e1, m1]
    simp [tq_dg]
    omega
theorem tq_C10 {nf : Nat} {fr rn : Nat → Nat} (rl : ∀ i, rn i ≤ 10) (p : Nat) : tq_C nf fr rn p ≤ 10 := by
  unfold tq_C
  split
  · exact rl _
  · omega
/-- what is chosen, by one number -/
def tq_gn (nf : Nat) (fr rn : Nat → Nat) (cells : Nat → Int32) (f : tq_V) (n : Nat) : Prop := f (tq_vv cells (tq_rho nf fr (tq_dg (tq_mx (tq_C nf fr rn) n)))) = true
theorem tq_gn_en {nf : Nat} {fr rn : Nat → Nat} {cells : Nat → Int32} {f : tq_V} {cs : Nat → Nat} {m : Nat} (rl : ∀ i, rn i ≤ 10) (h : tq_EN (· < ·) (fun n => n < tq_al (tq_C nf fr rn) ∧ tq_gn nf fr rn cells f n) cs m) : tq_EN (· < ·) (tq_ch nf fr rn cells f) (fun j => tq_mx (tq_C nf fr rn) (cs j)) m := by
  have dC : ∀ c, (∀ p, p < 3 → tq_dg c p < tq_C nf fr rn p) ↔ (∀ p, p < 3 → (p < nf → tq_dg c p < rn (fr p)) ∧ (¬ p < nf → tq_dg c p = 0)) := by
    intro c
    constructor
    · intro q p hp
      have := q p hp
      unfold tq_C at this
      constructor
      · intro w; rw [if_pos w] at this; exact this
      · intro w; rw [if_neg w] at this; omega
    · intro q p hp
      unfold tq_C
      split
      · rename_i w; exact (q p hp).1 w
      · rename_i w; have := (q p hp).2 w; omega
  refine ⟨fun i j hij hj => tq_mx_lt (tq_C10 rl) (h.2.1 i (by omega)).1 (h.2.1 j hj).1 (h.1 i j hij hj), fun i hi => ?_, fun c hc => ?_⟩
  · obtain ⟨a, b⟩ := h.2.1 i hi
    obtain ⟨q1, q2, _⟩ := tq_mx_dg (tq_C10 rl) a
    exact ⟨q2, (dC _).mp q1, b⟩
  · obtain ⟨c1, c2, c3⟩ := hc
    obtain ⟨n, n1, n2⟩ := tq_mx_sj (tq_C10 rl) c1 ((dC c).mpr c2)
    obtain ⟨i, i1, i2⟩ := h.2.2 n ⟨n1, by unfold tq_gn; rw [n2]; exact c3⟩
    exact ⟨i, i1, by show tq_mx _ (cs i) = c; rw [i2, n2]⟩
section
variable {nf ni nt : Nat} {fr ik ic tk rn : Nat → Nat} {g_grouped g_distinct g_orderItem g_orderDown g_most g_truthCount g_openCount g_chosenCount g_resultCount : Int32} {b_cells b_at b_truths b_open b_chosen b_results : Nat → Int32}
theorem yw_sc1 {post : SY → Prop} {x i n : Nat} (hi : i < 3) (fl : ∀ i, fr i < 3) (hc : 0 < rn (fr i)) (rl : ∀ i, rn i ≤ 10) (hx : x < 1000) (K : wY_setCombination_9 post (nI nf) (nI ni) (nI nt) g_grouped g_distinct g_orderItem g_orderDown g_most g_truthCount g_openCount g_chosenCount g_resultCount n (nI (x / rn (fr i))) (nI i + (-1)) b_cells (tq_n rn) (tq_n fr) (tq_n ik) (tq_n ic) (tq_n tk) (upd b_at (fr i) (nI (x % rn (fr i)))) b_truths b_open b_chosen b_results) : wY_setCombination_9 post (nI nf) (nI ni) (nI nt) g_grouped g_distinct g_orderItem g_orderDown g_most g_truthCount g_openCount g_chosenCount g_resultCount (n + 1) (nI x) (nI i) b_cells (tq_n rn) (tq_n fr) (tq_n ik) (tq_n ic) (tq_n tk) b_at b_truths b_open b_chosen b_results := by
  have v3 : vp_in (nI i) 3 := vp_in_nI hi (by decide)
  have f3 := fl i
  have r10 := rl (fr i)
  have vf : vp_in (tq_n fr i) 3 := vp_in_nI (n := fr i) f3 (by decide)
  have cl : (tq_n fr i).toNatClampNeg = fr i := nI_clamp (by omega)
  have ne : ¬ tq_n rn (fr i) = 0 := nI_ne0 (n := rn (fr i)) hc (by omega)
  refine br_f (nI_pos (by omega)) ⟨v3, v3, ?_⟩
  rw [nI_clamp (show i < 2 ^ 31 by omega), cl]
  have e1 : nI x - nI x / tq_n rn (fr i) * tq_n rn (fr i) = nI (x % rn (fr i)) := pk_rem (by omega) hc (by omega)
  have e2 : nI x / tq_n rn (fr i) = nI (x / rn (fr i)) := pk_div (by omega) hc (by omega)
  exact ⟨vf, ne, vf, nm_r (congrArg (upd b_at (fr i)) e1) ⟨v3, vf, ne, nm_r e2 (nm_e K)⟩⟩
theorem yw_sc0 {post : SY → Prop} {x : Int32} {n : Nat} (hp : post ((nI nf), (nI ni), (nI nt), g_grouped, g_distinct, g_orderItem, g_orderDown, g_most, g_truthCount, g_openCount, g_chosenCount, g_resultCount, b_cells, (tq_n rn), (tq_n fr), (tq_n ik), (tq_n ic), (tq_n tk), b_at, b_truths, b_open, b_chosen, b_results)) : wY_setCombination_9 post (nI nf) (nI ni) (nI nt) g_grouped g_distinct g_orderItem g_orderDown g_most g_truthCount g_openCount g_chosenCount g_resultCount (n + 1) x (nI 0 + (-1)) b_cells (tq_n rn) (tq_n fr) (tq_n ik) (tq_n ic) (tq_n tk) b_at b_truths b_open b_chosen b_results := br_t (by decide) hp
theorem yw_setCombination {post : SY → Prop} {x : Nat} (d : tq_ds nf fr) (h0 : nf ≠ 0) (fl : ∀ i, fr i < 3) (rl : ∀ i, rn i ≤ 10) (hx : x < tq_al (tq_C nf fr rn)) (hp : ∀ b_at : Nat → Int32, tq_atk nf fr b_at (tq_rho nf fr (tq_dg (tq_mx (tq_C nf fr rn) x))) → post ((nI nf), (nI ni), (nI nt), g_grouped, g_distinct, g_orderItem, g_orderDown, g_most, g_truthCount, g_openCount, g_chosenCount, g_resultCount, b_cells, (tq_n rn), (tq_n fr), (tq_n ik), (tq_n ic), (tq_n tk), b_at, b_truths, b_open, b_chosen, b_results)) : wpY_setCombination post ((nI nf), (nI ni), (nI nt), g_grouped, g_distinct, g_orderItem, g_orderDown, g_most, g_truthCount, g_openCount, g_chosenCount, g_resultCount, b_cells, (tq_n rn), (tq_n fr), (tq_n ik), (tq_n ic), (tq_n tk), b_at, b_truths, b_open, b_chosen, b_results) (nI x) := by
  obtain ⟨q1, q2, q3, q4, q5⟩ := tq_mx_dg (tq_C10 rl) hx
  have d3 := d.1
  have c0 : tq_C nf fr rn 0 = rn (fr 0) := if_pos (by omega)
  have x1000 : x < 1000 := by
    have a := tq_C10 (nf := nf) (fr := fr) rl 0
    have b := tq_C10 (nf := nf) (fr := fr) rl 1
    have c := tq_C10 (nf := nf) (fr := fr) rl 2
    have := Nat.mul_le_mul (Nat.mul_le_mul a b) c
    unfold tq_al at hx
    omega
  have fin : ∀ b_at : Nat → Int32, (∀ p, p < nf → b_at (fr p) = nI (tq_dg (tq_mx (tq_C nf fr rn) x) p)) → post ((nI nf), (nI ni), (nI nt), g_grouped, g_distinct, g_orderItem, g_orderDown, g_most, g_truthCount, g_openCount, g_chosenCount, g_resultCount, b_cells, (tq_n rn), (tq_n fr), (tq_n ik), (tq_n ic), (tq_n tk), b_at, b_truths, b_open, b_chosen, b_results) := by
    intro b_at hb
    refine hp b_at (fun p hpn => ?_)
    unfold tq_rho
    rw [tq_pc_of d hpn rfl]
    exact ⟨hb p hpn, tq_dg10 q2 p⟩
  have p0 := q1 0 (by omega)
  have p1 := q1 1 (by omega)
  have p2 := q1 2 (by omega)
  rw [q3] at p0
  rw [q4] at p1
  rw [q5] at p2
  have ds := d.2
  unfold wpY_setCombination
  dsimp only
  have cs : nf = 1 ∨ nf = 2 ∨ nf = 3 := by omega
  rcases cs with e | e | e
  · have c1 : tq_C nf fr rn 1 = 1 := if_neg (by omega)
    have c2 : tq_C nf fr rn 2 = 1 := if_neg (by omega)
    rw [c1, c2, Nat.div_one, Nat.div_one] at q3 p0
    rw [c0] at p0
    refine nm_r (e' := nI 0) (by rw [e]; rfl) ⟨2, yw_sc1 (by omega) fl (by omega) rl x1000 (yw_sc0 (fin _ (fun p hpn => ?_)))⟩
    have : p = 0 := by omega
    subst this
    rw [pk_us, q3, Nat.mod_eq_of_lt p0]
  · have c1 : tq_C nf fr rn 1 = rn (fr 1) := if_pos (by omega)
    have c2 : tq_C nf fr rn 2 = 1 := if_neg (by omega)
    have d01 := ds 0 1 (by omega) (by omega)
    have l1 : x / rn (fr 1) ≤ x := Nat.div_le_self _ _
    rw [c2, Nat.div_one] at q3 q4 p0 p1
    rw [c1] at q3 q4 p0 p1
    rw [c0] at p0
    refine nm_r (e' := nI 1) (by rw [e]; rfl) ⟨3, yw_sc1 (by omega) fl (by omega) rl x1000 ?_⟩
    rw [pk_m1 0]
    refine yw_sc1 (by omega) fl (by omega) rl (by omega) (yw_sc0 (fin _ (fun p hpn => ?_)))
    have : p = 0 ∨ p = 1 := by omega
    rcases this with rfl | rfl
    · rw [pk_us, q3, Nat.mod_eq_of_lt p0]
    · rw [pk_un (fun z => d01 z.symm), pk_us, q4]
  · have c1 : tq_C nf fr rn 1 = rn (fr 1) := if_pos (by omega)
    have c2 : tq_C nf fr rn 2 = rn (fr 2) := if_pos (by omega)
    have d01 := ds 0 1 (by omega) (by omega)
    have d02 := ds 0 2 (by omega) (by omega)
    have d12 := ds 1 2 (by omega) (by omega)
    rw [c2] at q3 q4 q5 p0 p1 p2
    rw [c1] at q3 q4 p0 p1
    rw [c0] at p0
    have l1 : x / rn (fr 2) ≤ x := Nat.div_le_self _ _
    have l2 : x / rn (fr 2) / rn (fr 1) ≤ x / rn (fr 2) := Nat.div_le_self _ _
    refine nm_r (e' := nI 2) (by rw [e]; rfl) ⟨4, yw_sc1 (by omega) fl (by omega) rl x1000 ?_⟩
    rw [pk_m1 1]
    refine yw_sc1 (by omega) fl (by omega) rl (by omega) ?_
    rw [pk_m1 0]
    refine yw_sc1 (by omega) fl (by omega) rl (by omega) (yw_sc0 (fin _ (fun p hpn => ?_)))
    have : p = 0 ∨ p = 1 ∨ p = 2 := by omega
    rcases this with rfl | rfl | rfl
    · rw [pk_us, q3, Nat.mod_eq_of_lt p0]
    · rw [pk_un (fun z => d01 z.symm), pk_us, q4]
    · rw [pk_un (fun z => d02 z.symm), pk_un (fun z => d12 z.symm), pk_us, q5]
def tq_pr (fr rn : Nat → Nat) : Nat → Nat
  | 0 => 1
  | i + 1 => tq_pr fr rn i * rn (fr i)
theorem tq_pr_b {fr rn : Nat → Nat} (rl : ∀ i, rn i ≤ 10) : ∀ i, tq_pr fr rn i ≤ 10 ^ i
  | 0 => Nat.le_refl _
  | i + 1 => by
    have := Nat.mul_le_mul (tq_pr_b (fr := fr) rl i) (rl (fr i))
    rw [Nat.pow_succ]
    exact this
theorem tq_pr_al {nf : Nat} {fr rn : Nat → Nat} (h3 : nf ≤ 3) : tq_pr fr rn nf = tq_al (tq_C nf fr rn) := by
  have cs : nf = 0 ∨ nf = 1 ∨ nf = 2 ∨ nf = 3 := by omega
  rcases cs with rfl | rfl | rfl | rfl <;> simp [tq_pr, tq_al, tq_C]
theorem yw_cb4 {post : Int32 → Prop} (h3 : nf ≤ 3) (fl : ∀ i, fr i < 3) (rl : ∀ i, rn i ≤ 10) (hp : post (nI (tq_al (tq_C nf fr rn)))) : ∀ (n i : Nat), nf < n + i → i ≤ nf → wY_combinations_4 post (nI nf) (nI ni) (nI nt) g_grouped g_distinct g_orderItem g_orderDown g_most g_truthCount g_openCount g_chosenCount g_resultCount b_cells (tq_n rn) (tq_n fr) (tq_n ik) (tq_n ic) (tq_n tk) b_at b_truths b_open b_chosen b_results n (nI (tq_pr fr rn i)) (nI i) := by
  intro n
  induction n with
  | zero => intro i q1 q2; omega
  | succ n ih =>
    intro i hf hi
    rcases Nat.lt_or_ge i nf with z | z
    rotate_left
    · have : i = nf := by omega
      subst this
      rw [tq_pr_al h3]
      exact br_t (nI_le z (by omega)) hp
    have f3 := fl i
    refine br_f (nI_ge z (by omega)) ⟨vp_in_nI (by omega) (by decide), ?_⟩
    rw [nI_clamp (show i < 2 ^ 31 by omega), show (tq_n fr i).toNatClampNeg = fr i from nI_clamp (by omega)]
    exact ⟨vp_in_nI (n := fr i) f3 (by decide), nm_r (pk_mul _ _) (nm_r (nI_1 i) (ih (i + 1) (by omega) (by omega)))⟩
theorem yw_combinations {post : Int32 → Prop} (h3 : nf ≤ 3) (fl : ∀ i, fr i < 3) (rl : ∀ i, rn i ≤ 10) (hp : post (nI (tq_al (tq_C nf fr rn)))) : wpY_combinations post ((nI nf), (nI ni), (nI nt), g_grouped, g_distinct, g_orderItem, g_orderDown, g_most, g_truthCount, g_openCount, g_chosenCount, g_resultCount, b_cells, (tq_n rn), (tq_n fr), (tq_n ik), (tq_n ic), (tq_n tk), b_at, b_truths, b_open, b_chosen, b_results) :=
  ⟨nf + 1, yw_cb4 h3 fl rl hp (nf + 1) 0 (by omega) (by omega)⟩
end
section
variable {nf ni nt : Nat} {fr ik ic tk rn : Nat → Nat} {g_grouped g_distinct g_orderItem g_orderDown g_most g_resultCount : Int32} {b_cells b_results : Nat → Int32}
theorem yw_ch12 {post : SY → Prop} {f : tq_V} (d : tq_ds nf fr) (h0 : nf ≠ 0) (fl : ∀ i, fr i < 3) (rl : ∀ i, rn i ≤ 10) (tl : ∀ i, tk i ≤ 36) (h24 : nt ≤ 24) (hf : tq_cnd nt tk (tq_ok nf fr) = some f) (h1000 : tq_al (tq_C nf fr rn) ≤ 1000)
    (hp : ∀ (m : Nat) (cs : Nat → Nat) (g_truthCount g_openCount : Int32) (b_at b_truths b_open b_chosen : Nat → Int32), m ≤ 1000 → tq_EN (· < ·) (fun n => n < tq_al (tq_C nf fr rn) ∧ tq_gn nf fr rn b_cells f n) cs m → (∀ j, j < m → b_chosen j = nI (cs j)) → post ((nI nf), (nI ni), (nI nt), g_grouped, g_distinct, g_orderItem, g_orderDown, g_most, g_truthCount, g_openCount, (nI m), g_resultCount, b_cells, (tq_n rn), (tq_n fr), (tq_n ik), (tq_n ic), (tq_n tk), b_at, b_truths, b_open, b_chosen, b_results)) :
    ∀ (n x m : Nat) (cs : Nat → Nat) (g_truthCount g_openCount : Int32) (b_at b_truths b_open b_chosen : Nat → Int32), tq_al (tq_C nf fr rn) < n + x → x ≤ tq_al (tq_C nf fr rn) → m ≤ x → tq_EN (· < ·) (fun n => n < x ∧ tq_gn nf fr rn b_cells f n) cs m → (∀ j, j < m → b_chosen j = nI (cs j)) → wY_choose_12 post (nI (tq_al (tq_C nf fr rn))) n (nI x) (nI nf) (nI ni) (nI nt) g_grouped g_distinct g_orderItem g_orderDown g_most g_truthCount g_openCount (nI m) g_resultCount b_cells (tq_n rn) (tq_n fr) (tq_n ik) (tq_n ic) (tq_n tk) b_at b_truths b_open b_chosen b_results := by
  intro n
  induction n with
  | zero => intro x m cs g_truthCount g_openCount b_at b_truths b_open b_chosen q1 q2; omega
  | succ n ih =>
    intro x m cs g_truthCount g_openCount b_at b_truths b_open b_chosen hfu hx hm hEN hcs
    rcases Nat.lt_or_ge x (tq_al (tq_C nf fr rn)) with z | z
    rotate_left
    · have : x = tq_al (tq_C nf fr rn) := by omega
      rw [this] at hEN
      exact br_t (nI_le z (by omega)) (hp m cs _ _ _ _ _ _ (by omega) hEN hcs)
    refine br_f (nI_ge z (by omega)) ?_
    refine yw_setCombination d h0 fl rl z (fun b_at hat => ?_)
    dsimp only
    refine yw_holds hat tl h24 hf (fun g_truthCount g_openCount b_truths b_open => ?_)
    dsimp only
    cases c : f (tq_vv b_cells (tq_rho nf fr (tq_dg (tq_mx (tq_C nf fr rn) x))))
    · refine br_t rfl (nm_r (nI_1 x) (ih (x + 1) m cs _ _ _ _ _ _ (by omega) (by omega) (by omega) (tq_en_iff (fun y => ?_) hEN) hcs))
      constructor
      · rintro ⟨y1, y2⟩
        exact ⟨by omega, y2⟩
      · rintro ⟨y1, y2⟩
        refine ⟨?_, y2⟩
        rcases Nat.lt_or_ge y x with w | w
        · exact w
        · rw [show y = x by omega] at y2
          unfold tq_gn at y2
          rw [c] at y2
          exact absurd y2 (by decide)
    · refine br_f (by decide) ⟨vp_in_nI (by omega) (by decide), ?_⟩
      rw [nI_clamp (show m < 2 ^ 31 by omega)]
      refine nm_e (nm_r (nI_1 m) (nm_r (nI_1 x) (ih (x + 1) (m + 1) (tq_u cs m x) _ _ _ _ _ _ (by omega) (by omega) (by omega) (tq_en_s (x := x) hEN (fun i hi => tq_un (by omega)) tq_us (fun y hy => hy.1) (fun y => ?_)) (fun j hj => ?_))))
      · constructor
        · rintro ⟨y1, y2⟩
          rcases Nat.lt_or_ge y x with w | w
          · exact Or.inl ⟨w, y2⟩
          · exact Or.inr (by omega)
        · rintro (⟨y1, y2⟩ | y1)
          · exact ⟨by omega, y2⟩
          · rw [y1]; exact ⟨by omega, c⟩
      · by_cases a : j = m
        · rw [a, pk_us, tq_us]
        · rw [pk_un a, tq_un a]; exact hcs j (by omega)
end
section
variable {nf ni nt : Nat} {fr ik ic tk rn : Nat → Nat} {g_grouped g_distinct g_orderItem g_orderDown g_most g_truthCount g_openCount g_chosenCount g_resultCount : Int32} {b_cells b_at b_truths b_open b_chosen b_results : Nat → Int32}
theorem yw_choose {post : SY → Prop} {f : tq_V} (d : tq_ds nf fr) (h0 : nf ≠ 0) (fl : ∀ i, fr i < 3) (rl : ∀ i, rn i ≤ 10) (tl : ∀ i, tk i ≤ 36) (h24 : nt ≤ 24) (hf : tq_cnd nt tk (tq_ok nf fr) = some f)
    (hp : ∀ (m : Nat) (cs : Nat → Nat) (g_truthCount g_openCount : Int32) (b_at b_truths b_open b_chosen : Nat → Int32), m ≤ 1000 → tq_EN (· < ·) (fun n => n < tq_al (tq_C nf fr rn) ∧ tq_gn nf fr rn b_cells f n) cs m → (∀ j, j < m → b_chosen j = nI (cs j)) → post ((nI nf), (nI ni), (nI nt), g_grouped, g_distinct, g_orderItem, g_orderDown, g_most, g_truthCount, g_openCount, (nI m), g_resultCount, b_cells, (tq_n rn), (tq_n fr), (tq_n ik), (tq_n ic), (tq_n tk), b_at, b_truths, b_open, b_chosen, b_results)) : wpY_choose post ((nI nf), (nI ni), (nI nt), g_grouped, g_distinct, g_orderItem, g_orderDown, g_most, g_truthCount, g_openCount, g_chosenCount, g_resultCount, b_cells, (tq_n rn), (tq_n fr), (tq_n ik), (tq_n ic), (tq_n tk), b_at, b_truths, b_open, b_chosen, b_results) := by
  unfold wpY_choose
  dsimp only
  have h1000 : tq_al (tq_C nf fr rn) ≤ 1000 := by
    have a := tq_C10 (nf := nf) (fr := fr) rl 0
    have b := tq_C10 (nf := nf) (fr := fr) rl 1
    have c := tq_C10 (nf := nf) (fr := fr) rl 2
    have := Nat.mul_le_mul (Nat.mul_le_mul a b) c
    unfold tq_al
    omega
  refine yw_combinations d.1 fl rl ⟨tq_al (tq_C nf fr rn) + 1, ?_⟩
  exact yw_ch12 d h0 fl rl tl h24 hf h1000 hp (tq_al (tq_C nf fr rn) + 1) 0 0 (fun _ => 0) _ _ _ _ _ _ (by omega) (by omega) (by omega) (tq_en_0 (fun x hx => by omega)) (fun j hj => absurd hj (by omega))
end
end
section
theorem tq_en_ex (P : Nat → Prop) : ∀ m, ∃ (n : Nat) (es : Nat → Nat), tq_EN (· < ·) (fun c => c < m ∧ P c) es n := by
  intro m
  induction m with
  | zero => exact ⟨0, fun _ => 0, tq_en_0 (fun x hx => by omega)⟩
  | succ m ih =>
    obtain ⟨n, es, h⟩ := ih
    rcases Classical.em (P m) with z | z
    · refine ⟨n + 1, tq_u es n m, tq_en_s (x := m) h (fun i hi => tq_un (by omega)) tq_us (fun y hy => hy.1) (fun y => ?_)⟩
      constructor
      · rintro ⟨y1, y2⟩
        rcases Nat.lt_or_ge y m with w | w
        · exact Or.inl ⟨w, y2⟩
        · exact Or.inr (by omega)
      · rintro (⟨y1, y2⟩ | y1)
        · exact ⟨by omega, y2⟩
        · rw [y1]; exact ⟨by omega, z⟩
    · refine ⟨n, es, tq_en_iff (fun y => ?_) h⟩
      constructor
      · rintro ⟨y1, y2⟩
        exact ⟨by omega, y2⟩
      · rintro ⟨y1, y2⟩
        refine ⟨?_, y2⟩
        rcases Nat.lt_or_ge y m with w | w
        · exact w
        · rw [show y = m by omega] at y2; exact absurd y2 z
/-- what is known of the chosen ones -/
def tq_CS (nf : Nat) (fr rn : Nat → Nat) (m : Nat) (cs : Nat → Nat) (bc : Nat → Int32) : Prop := m ≤ 1000 ∧ ∀ j, j < m → bc j = nI (cs j) ∧ cs j < tq_al (tq_C nf fr rn)
section
variable {nf ni nt m : Nat} {fr ik ic tk rn cs : Nat → Nat} {g_grouped g_distinct g_orderItem g_orderDown g_most g_truthCount g_openCount g_resultCount : Int32} {b_cells b_at b_truths b_open b_chosen b_results : Nat → Int32}
theorem yw_load {post : SY → Prop} {c : Nat} (d : tq_ds nf fr) (h0 : nf ≠ 0) (fl : ∀ i, fr i < 3) (rl : ∀ i, rn i ≤ 10) (hcs : tq_CS nf fr rn m cs b_chosen) (hc : c < m) (hp : ∀ b_at : Nat → Int32, tq_atk nf fr b_at (tq_rho nf fr (tq_dg (tq_mx (tq_C nf fr rn) (cs c)))) → post ((nI nf), (nI ni), (nI nt), g_grouped, g_distinct, g_orderItem, g_orderDown, g_most, g_truthCount, g_openCount, (nI m), g_resultCount, b_cells, (tq_n rn), (tq_n fr), (tq_n ik), (tq_n ic), (tq_n tk), b_at, b_truths, b_open, b_chosen, b_results)) : wpY_setCombination post ((nI nf), (nI ni), (nI nt), g_grouped, g_distinct, g_orderItem, g_orderDown, g_most, g_truthCount, g_openCount, (nI m), g_resultCount, b_cells, (tq_n rn), (tq_n fr), (tq_n ik), (tq_n ic), (tq_n tk), b_at, b_truths, b_open, b_chosen, b_results) (b_chosen c) := by
  rw [(hcs.2 c hc).1]
  exact yw_setCombination d h0 fl rl (hcs.2 c hc).2 hp
theorem yw_val {post : Int32 → Prop} {c k : Nat} (ha : tq_atk nf fr b_at (tq_rho nf fr (tq_dg (tq_mx (tq_C nf fr rn) (cs c))))) (hk : k ≤ 8) (hpc : tq_pc nf fr (k / 3) < 3) (hp : post ((tq_D nf fr b_cells (fun j => tq_mx (tq_C nf fr rn) (cs j))) c k)) : wpY_valueOf post ((nI nf), (nI ni), (nI nt), g_grouped, g_distinct, g_orderItem, g_orderDown, g_most, g_truthCount, g_openCount, (nI m), g_resultCount, b_cells, (tq_n rn), (tq_n fr), (tq_n ik), (tq_n ic), (tq_n tk), b_at, b_truths, b_open, b_chosen, b_results) (nI k) :=
  yw_valueOf ha (decide_eq_true ⟨by omega, Or.inr hpc⟩) hp
end
section
variable {nf ni nt m : Nat} {fr ik ic tk rn cs : Nat → Nat} {g_grouped g_distinct g_orderItem g_orderDown g_most g_truthCount g_openCount g_resultCount : Int32} {b_cells b_truths b_open b_chosen b_results : Nat → Int32}
theorem yw_sm14 {post : Int32 → SY → Prop} {i n0 : Nat} {es0 : Nat → Nat} {v : Int32} {K : Nat → Int32} (d : tq_ds nf fr) (h0 : nf ≠ 0) (fl : ∀ i, fr i < 3) (rl : ∀ i, rn i ≤ 10) (hcs : tq_CS nf fr rn m cs b_chosen) (hi : i < 4) (il : ∀ i, ik i ≤ 4) (cl : ∀ i, ic i ≤ 8) (hok : ik i ≠ 1 → tq_pc nf fr (ic i / 3) < 3)
    (hK : (g_grouped = -1 ∧ ∀ c, K c = v) ∨ (∃ g, g ≤ 8 ∧ g_grouped = nI g ∧ tq_pc nf fr (g / 3) < 3 ∧ ∀ c, K c = (tq_D nf fr b_cells (fun j => tq_mx (tq_C nf fr rn) (cs j))) c g))
    (he : tq_EN (· < ·) (fun c => c < m ∧ K c = v) es0 n0)
    (hp : ∀ b_at : Nat → Int32, post (if ik i = 0 then v else tq_fd (ik i) (fun j => (tq_D nf fr b_cells (fun j => tq_mx (tq_C nf fr rn) (cs j))) (es0 j) (ic i)) n0) ((nI nf), (nI ni), (nI nt), g_grouped, g_distinct, g_orderItem, g_orderDown, g_most, g_truthCount, g_openCount, (nI m), g_resultCount, b_cells, (tq_n rn), (tq_n fr), (tq_n ik), (tq_n ic), (tq_n tk), b_at, b_truths, b_open, b_chosen, b_results)) :
    ∀ (n c k : Nat) (es : Nat → Nat) (x4 x5 x6 : Int32) (b_at : Nat → Int32), m < n + c → c ≤ m → k ≤ c → tq_EN (· < ·) (fun y => y < c ∧ K y = v) es k → (ik i ≠ 1 → x4 = tq_fd 2 (fun j => (tq_D nf fr b_cells (fun j => tq_mx (tq_C nf fr rn) (cs j))) (es j) (ic i)) k ∧ x5 = tq_fd 3 (fun j => (tq_D nf fr b_cells (fun j => tq_mx (tq_C nf fr rn) (cs j))) (es j) (ic i)) k ∧ x6 = tq_fd 4 (fun j => (tq_D nf fr b_cells (fun j => tq_mx (tq_C nf fr rn) (cs j))) (es j) (ic i)) k) →
    wY_summary_14 post (nI i) v n (nI k) x4 x5 x6 (nI c) (nI nf) (nI ni) (nI nt) g_grouped g_distinct g_orderItem g_orderDown g_most g_truthCount g_openCount (nI m) g_resultCount b_cells (tq_n rn) (tq_n fr) (tq_n ik) (tq_n ic) (tq_n tk) b_at b_truths b_open b_chosen b_results := by
  have m1000 := hcs.1
  have vi : vp_in (nI i) 4 := vp_in_nI hi (by decide)
  have kl := il i
  have c8 := cl i
  intro n
  induction n with
  | zero => intro c k es x4 x5 x6 b_at q1 q2; omega
  | succ n ih =>
    intro c k es x4 x5 x6 b_at hf hc hk hE hx
    rcases Nat.lt_or_ge c m with z | z
    rotate_left
    · have : c = m := by omega
      subst this
      have en := tq_en_n tq_lt_n_ir tq_lt_n_tr he hE
      subst en
      have ee := tq_en_eq tq_lt_n_ir tq_lt_n_tr he hE
      have fe : ∀ kd, tq_fd kd (fun j => (tq_D nf fr b_cells (fun j => tq_mx (tq_C nf fr rn) (cs j))) (es j) (ic i)) n0 = tq_fd kd (fun j => (tq_D nf fr b_cells (fun j => tq_mx (tq_C nf fr rn) (cs j))) (es0 j) (ic i)) n0 := fun kd => tq_fd_cg n0 (fun j hj => by rw [ee j hj hj])
      have K := hp b_at
      refine br_t (nI_le z (by omega)) ⟨vi, ?_⟩
      rw [nI_clamp (show i < 2 ^ 31 by omega)]
      refine pk_le 2 (ik i) (fun q => ⟨vi, pk_eq (ik i) 2 (fun q2 => ?_) (fun q2 => ⟨vi, pk_eq (ik i) 3 (fun q3 => ?_) (fun q3 => ?_)⟩)⟩) (fun q => ⟨vi, pk_eq (ik i) 1 (fun q1 => ?_) (fun q1 => ?_)⟩)
      · rw [if_neg (by omega), q2, ← fe 2, ← (hx (by omega)).1] at K; exact K
      · rw [if_neg (by omega), q3, ← fe 3, ← (hx (by omega)).2.1] at K; exact K
      · rw [if_neg (by omega), show ik i = 4 by omega, ← fe 4, ← (hx (by omega)).2.2] at K; exact K
      · rw [if_neg (by omega), q1, tq_fd1] at K; exact K
      · rw [if_pos (by omega)] at K; exact K
    refine br_f (nI_ge z (by omega)) ⟨vp_in_nI (by omega) (by decide), ?_⟩
    rw [nI_clamp (show c < 2 ^ 31 by omega)]
    refine yw_load d h0 fl rl hcs z (fun b_at hat => ?_)
    dsimp only
    have skip : K c ≠ v → ∀ y, y = nI c + 1 → wY_summary_14 post (nI i) v n (nI k) x4 x5 x6 y (nI nf) (nI ni) (nI nt) g_grouped g_distinct g_orderItem g_orderDown g_most g_truthCount g_openCount (nI m) g_resultCount b_cells (tq_n rn) (tq_n fr) (tq_n ik) (tq_n ic) (tq_n tk) b_at b_truths b_open b_chosen b_results := by
      intro q
      refine nm_r (nI_1 c) (ih (c + 1) k es x4 x5 x6 b_at (by omega) (by omega) (by omega) (tq_en_iff (fun y => ?_) hE) hx)
      constructor
      · rintro ⟨y1, y2⟩
        exact ⟨by omega, y2⟩
      · rintro ⟨y1, y2⟩
        refine ⟨?_, y2⟩
        rcases Nat.lt_or_ge y c with w | w
        · exact w
        · rw [show y = c by omega] at y2; exact absurd y2 q
    have take : K c = v → wY_summary_53 post (wY_summary_14 post (nI i) v n) (nI i) v (nI k) x4 x5 x6 (nI c) (nI nf) (nI ni) (nI nt) g_grouped g_distinct g_orderItem g_orderDown g_most g_truthCount g_openCount (nI m) g_resultCount b_cells (tq_n rn) (tq_n fr) (tq_n ik) (tq_n ic) (tq_n tk) b_at b_truths b_open b_chosen b_results := by
      intro q
      have hE' : tq_EN (· < ·) (fun y => y < c + 1 ∧ K y = v) (tq_u es k c) (k + 1) := tq_en_s (x := c) hE (fun j hj => tq_un (by omega)) tq_us (fun y hy => hy.1) (fun y => by
        constructor
        · rintro ⟨y1, y2⟩
          rcases Nat.lt_or_ge y c with w | w
          · exact Or.inl ⟨w, y2⟩
          · exact Or.inr (by omega)
        · rintro (⟨y1, y2⟩ | y1)
          · exact ⟨by omega, y2⟩
          · rw [y1]; exact ⟨by omega, q⟩)
      have fe : ∀ kd, tq_fd kd (fun j => (tq_D nf fr b_cells (fun j => tq_mx (tq_C nf fr rn) (cs j))) (tq_u es k c j) (ic i)) k = tq_fd kd (fun j => (tq_D nf fr b_cells (fun j => tq_mx (tq_C nf fr rn) (cs j))) (es j) (ic i)) k := fun kd => tq_fd_cg k (fun j hj => by rw [tq_un (by omega)])
      have last : ∀ x5' x6' own : Int32, (ik i ≠ 1 → own = (tq_D nf fr b_cells (fun j => tq_mx (tq_C nf fr rn) (cs j))) c (ic i) ∧ x5' = (if k = 0 ∨ own < x5 then own else x5) ∧ x6' = (if k = 0 ∨ x6 < own then own else x6)) → wY_summary_117 post (wY_summary_14 post (nI i) v n) (nI i) v (nI k) x4 x5' (nI c) own x6' (nI nf) (nI ni) (nI nt) g_grouped g_distinct g_orderItem g_orderDown g_most g_truthCount g_openCount (nI m) g_resultCount b_cells (tq_n rn) (tq_n fr) (tq_n ik) (tq_n ic) (tq_n tk) b_at b_truths b_open b_chosen b_results := by
        intro x5' x6' own hh
        refine nm_e (nm_r (nI_1 k) (nm_r (nI_1 c) (ih (c + 1) (k + 1) (tq_u es k c) _ x5' x6' b_at (by omega) (by omega) (by omega) hE' (fun w => ?_))))
        obtain ⟨h1, h2, h3⟩ := hh w
        obtain ⟨g1, g2, g3⟩ := hx w
        refine ⟨?_, ?_, ?_⟩
        · rw [tq_fd, if_neg (by decide), if_pos rfl, fe 2, tq_us, ← g1, h1]
        · rw [tq_fd, if_neg (by decide), if_neg (by decide), fe 3, tq_us, ← g2, h2, ← h1]
          by_cases y : k = 0 ∨ own < x5
          · rw [if_pos y, if_pos]
            rcases y with y | y
            · exact Or.inl y
            · exact Or.inr (Or.inl ⟨rfl, y⟩)
          · rw [if_neg y, if_neg]
            rintro (w1 | w1 | w1)
            · exact y (Or.inl w1)
            · exact y (Or.inr w1.2)
            · exact absurd w1.1 (by decide)
        · rw [tq_fd, if_neg (by decide), if_neg (by decide), fe 4, tq_us, ← g3, h3, ← h1]
          by_cases y : k = 0 ∨ x6 < own
          · rw [if_pos y, if_pos]
            rcases y with y | y
            · exact Or.inl y
            · exact Or.inr (Or.inr ⟨rfl, y⟩)
          · rw [if_neg y, if_neg]
            rintro (w1 | w1 | w1)
            · exact y (Or.inl w1)
            · exact absurd w1.1 (by decide)
            · exact y (Or.inr w1.2)
      have mid : ∀ x5' own : Int32, (ik i ≠ 1 → own = (tq_D nf fr b_cells (fun j => tq_mx (tq_C nf fr rn) (cs j))) c (ic i) ∧ x5' = (if k = 0 ∨ own < x5 then own else x5)) → wY_summary_97 post (wY_summary_14 post (nI i) v n) (nI i) v (nI k) x4 x6 (nI c) own x5' (nI nf) (nI ni) (nI nt) g_grouped g_distinct g_orderItem g_orderDown g_most g_truthCount g_openCount (nI m) g_resultCount b_cells (tq_n rn) (tq_n fr) (tq_n ik) (tq_n ic) (tq_n tk) b_at b_truths b_open b_chosen b_results := by
        intro x5' own hh
        refine pk_eq k 0 (fun y => last x5' own own (fun w => ⟨(hh w).1, (hh w).2, by rw [if_pos (Or.inl y)]⟩)) (fun y => br_c (fun g => last x5' x6 own (fun w => ⟨(hh w).1, (hh w).2, ?_⟩)) (fun g => last x5' own own (fun w => ⟨(hh w).1, (hh w).2, by rw [if_pos (Or.inr (Int32.not_le.mp g))]⟩)))
        rw [if_neg]
        rintro (w1 | w1)
        · exact y w1
        · exact Int32.not_lt.mpr g w1
      have fin : ∀ own : Int32, (ik i ≠ 1 → own = (tq_D nf fr b_cells (fun j => tq_mx (tq_C nf fr rn) (cs j))) c (ic i)) → wY_summary_77 post (wY_summary_14 post (nI i) v n) (nI i) v (nI k) x4 x5 x6 (nI c) own (nI nf) (nI ni) (nI nt) g_grouped g_distinct g_orderItem g_orderDown g_most g_truthCount g_openCount (nI m) g_resultCount b_cells (tq_n rn) (tq_n fr) (tq_n ik) (tq_n ic) (tq_n tk) b_at b_truths b_open b_chosen b_results := by
        intro own hh
        refine pk_eq k 0 (fun y => mid own own (fun w => ⟨hh w, by rw [if_pos (Or.inl y)]⟩)) (fun y => br_c (fun g => mid x5 own (fun w => ⟨hh w, ?_⟩)) (fun g => mid own own (fun w => ⟨hh w, by rw [if_pos (Or.inr (Int32.not_le.mp g))]⟩)))
        rw [if_neg]
        rintro (w1 | w1)
        · exact y w1
        · exact Int32.not_lt.mpr g w1
      unfold wY_summary_53
      rw [nI_clamp (show i < 2 ^ 31 by omega)]
      refine ⟨vi, pk_eq (ik i) 1 (fun y => fin 0 (fun w => absurd y w)) (fun y => ⟨vi, ?_⟩)⟩
      exact yw_val hat c8 (hok y) (fin _ (fun _ => rfl))
    rcases hK with ⟨k1, k2⟩ | ⟨g, g1, g2, g3, g4⟩
    · exact br_t (by rw [k1]; decide) (take (k2 c))
    · subst g2
      refine br_f (nI_pos (by omega)) (yw_val hat g1 g3 (br_c (fun y => take (by rw [g4]; exact y)) (fun y => skip (by rw [g4]; exact y))))
theorem yw_summary {post : Int32 → SY → Prop} {i n0 : Nat} {es0 : Nat → Nat} {v : Int32} {K : Nat → Int32} {b_at : Nat → Int32} (d : tq_ds nf fr) (h0 : nf ≠ 0) (fl : ∀ i, fr i < 3) (rl : ∀ i, rn i ≤ 10) (hcs : tq_CS nf fr rn m cs b_chosen) (hi : i < 4) (il : ∀ i, ik i ≤ 4) (cl : ∀ i, ic i ≤ 8) (hok : ik i ≠ 1 → tq_pc nf fr (ic i / 3) < 3)
    (hK : (g_grouped = -1 ∧ ∀ c, K c = v) ∨ (∃ g, g ≤ 8 ∧ g_grouped = nI g ∧ tq_pc nf fr (g / 3) < 3 ∧ ∀ c, K c = (tq_D nf fr b_cells (fun j => tq_mx (tq_C nf fr rn) (cs j))) c g))
    (he : tq_EN (· < ·) (fun c => c < m ∧ K c = v) es0 n0)
    (hp : ∀ b_at : Nat → Int32, post (if ik i = 0 then v else tq_fd (ik i) (fun j => (tq_D nf fr b_cells (fun j => tq_mx (tq_C nf fr rn) (cs j))) (es0 j) (ic i)) n0) ((nI nf), (nI ni), (nI nt), g_grouped, g_distinct, g_orderItem, g_orderDown, g_most, g_truthCount, g_openCount, (nI m), g_resultCount, b_cells, (tq_n rn), (tq_n fr), (tq_n ik), (tq_n ic), (tq_n tk), b_at, b_truths, b_open, b_chosen, b_results)) : wpY_summary post ((nI nf), (nI ni), (nI nt), g_grouped, g_distinct, g_orderItem, g_orderDown, g_most, g_truthCount, g_openCount, (nI m), g_resultCount, b_cells, (tq_n rn), (tq_n fr), (tq_n ik), (tq_n ic), (tq_n tk), b_at, b_truths, b_open, b_chosen, b_results) (nI i) v :=
  ⟨m + 1, yw_sm14 d h0 fl rl hcs hi il cl hok hK he hp (m + 1) 0 0 (fun _ => 0) 0 0 0 b_at (by omega) (by omega) (by omega) (tq_en_0 (fun x hx => by omega)) (fun _ => ⟨rfl, rfl, rfl⟩)⟩
end
section
variable {nf ni nt m : Nat} {fr ik ic tk rn cs : Nat → Nat} {g_grouped g_distinct g_orderItem g_orderDown g_most g_truthCount g_openCount : Int32} {b_cells b_truths b_open b_chosen : Nat → Int32}
theorem yw_as2 {post : SY → Prop} {rs n0 : Nat} {es0 : Nat → Nat} {v : Int32} {K : Nat → Int32} {res0 : Nat → Int32} (d : tq_ds nf fr) (h0 : nf ≠ 0) (fl : ∀ i, fr i < 3) (rl : ∀ i, rn i ≤ 10) (hcs : tq_CS nf fr rn m cs b_chosen) (hni : ni ≤ 4) (il : ∀ i, ik i ≤ 4) (cl : ∀ i, ic i ≤ 8) (hok : ∀ i, i < ni → ik i ≠ 1 → tq_pc nf fr (ic i / 3) < 3) (hrs : rs < 1000)
    (hK : (g_grouped = -1 ∧ ∀ c, K c = v) ∨ (∃ g, g ≤ 8 ∧ g_grouped = nI g ∧ tq_pc nf fr (g / 3) < 3 ∧ ∀ c, K c = (tq_D nf fr b_cells (fun j => tq_mx (tq_C nf fr rn) (cs j))) c g))
    (he : tq_EN (· < ·) (fun c => c < m ∧ K c = v) es0 n0)
    (hp : ∀ b_at b_results : Nat → Int32, (∀ x, x < 4 * rs → b_results x = res0 x) → tq_GR m ni ik ic (tq_D nf fr b_cells (fun j => tq_mx (tq_C nf fr rn) (cs j))) K v (fun i => b_results (4 * rs + i)) → post ((nI nf), (nI ni), (nI nt), g_grouped, g_distinct, g_orderItem, g_orderDown, g_most, g_truthCount, g_openCount, (nI m), (nI (rs + 1)), b_cells, (tq_n rn), (tq_n fr), (tq_n ik), (tq_n ic), (tq_n tk), b_at, b_truths, b_open, b_chosen, b_results)) :
    ∀ (n i : Nat) (b_at b_results : Nat → Int32), ni < n + i → i ≤ ni → (∀ x, x < 4 * rs → b_results x = res0 x) → (∀ j, j < i → b_results (4 * rs + j) = (if ik j = 0 then v else tq_fd (ik j) (fun x => (tq_D nf fr b_cells (fun j => tq_mx (tq_C nf fr rn) (cs j))) (es0 x) (ic j)) n0)) → wY_addSummaries_2 post v n (nI i) (nI nf) (nI ni) (nI nt) g_grouped g_distinct g_orderItem g_orderDown g_most g_truthCount g_openCount (nI m) (nI rs) b_cells (tq_n rn) (tq_n fr) (tq_n ik) (tq_n ic) (tq_n tk) b_at b_truths b_open b_chosen b_results := by
  intro n
  induction n with
  | zero => intro i b_at b_results q1 q2; omega
  | succ n ih =>
    intro i b_at b_results hf hi h1 h2
    rcases Nat.lt_or_ge i ni with z | z
    rotate_left
    · have : i = ni := by omega
      subst this
      exact br_t (nI_le z (by omega)) (nm_r (nI_1 rs) (hp b_at b_results h1 ⟨n0, es0, he, h2⟩))
    have ix : 4 * nI rs + nI i = nI (4 * rs + i) := by
      show nI 4 * nI rs + _ = _
      rw [pk_mul, nI_add]
    refine br_f (nI_ge z (by omega)) ?_
    refine yw_summary d h0 fl rl hcs (by omega) il cl (hok i z) hK he (fun b_at => ?_)
    dsimp only
    rw [ix, nI_clamp (show 4 * rs + i < 2 ^ 31 by omega)]
    refine ⟨vp_in_nI (by omega) (by decide), nm_e (nm_r (nI_1 i) (ih (i + 1) b_at _ (by omega) (by omega) (fun x hx => ?_) (fun j hj => ?_)))⟩
    · rw [pk_un (by omega)]; exact h1 x hx
    · by_cases a : j = i
      · rw [a, pk_us]
      · rw [pk_un (by omega)]; exact h2 j (by omega)
theorem yw_addSummaries {post : SY → Prop} {rs : Nat} {v : Int32} {K : Nat → Int32} {b_at b_results : Nat → Int32} (d : tq_ds nf fr) (h0 : nf ≠ 0) (fl : ∀ i, fr i < 3) (rl : ∀ i, rn i ≤ 10) (hcs : tq_CS nf fr rn m cs b_chosen) (hni : ni ≤ 4) (il : ∀ i, ik i ≤ 4) (cl : ∀ i, ic i ≤ 8) (hok : ∀ i, i < ni → ik i ≠ 1 → tq_pc nf fr (ic i / 3) < 3) (hrs : rs < 1000)
    (hK : (g_grouped = -1 ∧ ∀ c, K c = v) ∨ (∃ g, g ≤ 8 ∧ g_grouped = nI g ∧ tq_pc nf fr (g / 3) < 3 ∧ ∀ c, K c = (tq_D nf fr b_cells (fun j => tq_mx (tq_C nf fr rn) (cs j))) c g))
    (hp : ∀ at' res' : Nat → Int32, (∀ x, x < 4 * rs → res' x = b_results x) → tq_GR m ni ik ic (tq_D nf fr b_cells (fun j => tq_mx (tq_C nf fr rn) (cs j))) K v (fun i => res' (4 * rs + i)) → post ((nI nf), (nI ni), (nI nt), g_grouped, g_distinct, g_orderItem, g_orderDown, g_most, g_truthCount, g_openCount, (nI m), (nI (rs + 1)), b_cells, (tq_n rn), (tq_n fr), (tq_n ik), (tq_n ic), (tq_n tk), at', b_truths, b_open, b_chosen, res')) : wpY_addSummaries post ((nI nf), (nI ni), (nI nt), g_grouped, g_distinct, g_orderItem, g_orderDown, g_most, g_truthCount, g_openCount, (nI m), (nI rs), b_cells, (tq_n rn), (tq_n fr), (tq_n ik), (tq_n ic), (tq_n tk), b_at, b_truths, b_open, b_chosen, b_results) v := by
  obtain ⟨n0, es0, he⟩ := tq_en_ex (fun c => K c = v) m
  exact ⟨ni + 1, yw_as2 d h0 fl rl hcs hni il cl hok hrs hK he hp (ni + 1) 0 b_at b_results (by omega) (by omega) (fun _ _ => rfl) (fun j hj => absurd hj (by omega))⟩
theorem yw_ap22 {post : SY → Prop} {J : Int32 → Int32 → Int32 → Int32 → Int32 → Int32 → Int32 → Int32 → Int32 → Int32 → Int32 → Int32 → Int32 → (Nat → Int32) → (Nat → Int32) → (Nat → Int32) → (Nat → Int32) → (Nat → Int32) → (Nat → Int32) → (Nat → Int32) → (Nat → Int32) → (Nat → Int32) → (Nat → Int32) → (Nat → Int32) → Prop} {c : Nat} {b_at : Nat → Int32} (hni : ni ≤ 4) (cl : ∀ i, ic i ≤ 8) (hok : ∀ i, i < ni → tq_pc nf fr (ic i / 3) < 3) (hc : c < 1000) (ha : tq_atk nf fr b_at (tq_rho nf fr (tq_dg (tq_mx (tq_C nf fr rn) (cs c)))))
    (hJ : ∀ b_results : Nat → Int32, tq_RW ni (c + 1) (fun r i => (tq_D nf fr b_cells (fun j => tq_mx (tq_C nf fr rn) (cs j))) r (ic i)) b_results → J (nI (c + 1)) (nI nf) (nI ni) (nI nt) g_grouped g_distinct g_orderItem g_orderDown g_most g_truthCount g_openCount (nI m) (nI (c + 1)) b_cells (tq_n rn) (tq_n fr) (tq_n ik) (tq_n ic) (tq_n tk) b_at b_truths b_open b_chosen b_results) :
    ∀ (n i : Nat) (b_results : Nat → Int32), ni < n + i → i ≤ ni → tq_RW ni c (fun r i => (tq_D nf fr b_cells (fun j => tq_mx (tq_C nf fr rn) (cs j))) r (ic i)) b_results → (∀ j, j < i → b_results (4 * c + j) = (tq_D nf fr b_cells (fun j => tq_mx (tq_C nf fr rn) (cs j))) c (ic j)) → wY_addPlain_22 post J (nI c) (nI nf) (nI ni) (nI nt) g_grouped g_distinct g_orderItem g_orderDown g_most g_truthCount g_openCount (nI m) (nI c) n (nI i) b_cells (tq_n rn) (tq_n fr) (tq_n ik) (tq_n ic) (tq_n tk) b_at b_truths b_open b_chosen b_results := by
  intro n
  induction n with
  | zero => intro i b_results q1 q2; omega
  | succ n ih =>
    intro i b_results hf hi h1 h2
    rcases Nat.lt_or_ge i ni with z | z
    rotate_left
    · have : i = ni := by omega
      subst this
      refine br_t (nI_le z (by omega)) (nm_r (nI_1 c) (nm_r (nI_1 c) (hJ b_results (fun r hr j hj => ?_))))
      by_cases a : r = c
      · rw [a]; exact h2 j hj
      · exact h1 r (by omega) j hj
    have ix : 4 * nI c + nI i = nI (4 * c + i) := by
      show nI 4 * nI c + _ = _
      rw [pk_mul, nI_add]
    have c8 := cl i
    refine br_f (nI_ge z (by omega)) ⟨vp_in_nI (by omega) (by decide), ?_⟩
    rw [nI_clamp (show i < 2 ^ 31 by omega), ix, nI_clamp (show 4 * c + i < 2 ^ 31 by omega)]
    refine yw_val ha c8 (hok i z) ⟨vp_in_nI (by omega) (by decide), nm_e (nm_r (nI_1 i) (ih (i + 1) _ (by omega) (by omega) (fun r hr j hj => ?_) (fun j hj => ?_)))⟩
    · rw [pk_un (by omega)]; exact h1 r hr j hj
    · by_cases a : j = i
      · rw [a, pk_us]
      · rw [pk_un (by omega)]; exact h2 j (by omega)
theorem yw_ap2 {post : SY → Prop} (d : tq_ds nf fr) (h0 : nf ≠ 0) (fl : ∀ i, fr i < 3) (rl : ∀ i, rn i ≤ 10) (hcs : tq_CS nf fr rn m cs b_chosen) (hni : ni ≤ 4) (cl : ∀ i, ic i ≤ 8) (hok : ∀ i, i < ni → tq_pc nf fr (ic i / 3) < 3)
    (hp : ∀ b_at b_results : Nat → Int32, tq_RW ni m (fun r i => (tq_D nf fr b_cells (fun j => tq_mx (tq_C nf fr rn) (cs j))) r (ic i)) b_results → post ((nI nf), (nI ni), (nI nt), g_grouped, g_distinct, g_orderItem, g_orderDown, g_most, g_truthCount, g_openCount, (nI m), (nI m), b_cells, (tq_n rn), (tq_n fr), (tq_n ik), (tq_n ic), (tq_n tk), b_at, b_truths, b_open, b_chosen, b_results)) :
    ∀ (n c : Nat) (b_at b_results : Nat → Int32), m < n + c → c ≤ m → tq_RW ni c (fun r i => (tq_D nf fr b_cells (fun j => tq_mx (tq_C nf fr rn) (cs j))) r (ic i)) b_results → wY_addPlain_2 post n (nI c) (nI nf) (nI ni) (nI nt) g_grouped g_distinct g_orderItem g_orderDown g_most g_truthCount g_openCount (nI m) (nI c) b_cells (tq_n rn) (tq_n fr) (tq_n ik) (tq_n ic) (tq_n tk) b_at b_truths b_open b_chosen b_results := by
  have m1000 := hcs.1
  intro n
  induction n with
  | zero => intro c b_at b_results q1 q2; omega
  | succ n ih =>
    intro c b_at b_results hf hc h1
    rcases Nat.lt_or_ge c m with z | z
    rotate_left
    · have : c = m := by omega
      subst this
      exact br_t (nI_le z (by omega)) (hp b_at b_results h1)
    refine br_f (nI_ge z (by omega)) ⟨vp_in_nI (by omega) (by decide), ?_⟩
    rw [nI_clamp (show c < 2 ^ 31 by omega)]
    refine yw_load d h0 fl rl hcs z (fun b_at hat => ?_)
    dsimp only
    exact ⟨ni + 1, yw_ap22 hni cl hok (by omega) hat (fun b_results h => ih (c + 1) b_at b_results (by omega) (by omega) h) (ni + 1) 0 b_results (by omega) (by omega) h1 (fun j hj => absurd hj (by omega))⟩
theorem yw_addPlain {post : SY → Prop} {b_at b_results : Nat → Int32} (d : tq_ds nf fr) (h0 : nf ≠ 0) (fl : ∀ i, fr i < 3) (rl : ∀ i, rn i ≤ 10) (hcs : tq_CS nf fr rn m cs b_chosen) (hni : ni ≤ 4) (cl : ∀ i, ic i ≤ 8) (hok : ∀ i, i < ni → tq_pc nf fr (ic i / 3) < 3)
    (hp : ∀ b_at b_results : Nat → Int32, tq_RW ni m (fun r i => (tq_D nf fr b_cells (fun j => tq_mx (tq_C nf fr rn) (cs j))) r (ic i)) b_results → post ((nI nf), (nI ni), (nI nt), g_grouped, g_distinct, g_orderItem, g_orderDown, g_most, g_truthCount, g_openCount, (nI m), (nI m), b_cells, (tq_n rn), (tq_n fr), (tq_n ik), (tq_n ic), (tq_n tk), b_at, b_truths, b_open, b_chosen, b_results)) : wpY_addPlain post ((nI nf), (nI ni), (nI nt), g_grouped, g_distinct, g_orderItem, g_orderDown, g_most, g_truthCount, g_openCount, (nI m), 0, b_cells, (tq_n rn), (tq_n fr), (tq_n ik), (tq_n ic), (tq_n tk), b_at, b_truths, b_open, b_chosen, b_results) :=
  ⟨m + 1, yw_ap2 d h0 fl rl hcs hni cl hok hp (m + 1) 0 b_at b_results (by omega) (by omega) (fun r hr => absurd hr (by omega))⟩
theorem yw_hg2 {post : Int32 → SY → Prop} {g : Nat} {v : Int32} {b_results : Nat → Int32} {g_resultCount : Int32} (d : tq_ds nf fr) (h0 : nf ≠ 0) (fl : ∀ i, fr i < 3) (rl : ∀ i, rn i ≤ 10) (hcs : tq_CS nf fr rn m cs b_chosen) (hg : g ≤ 8) (hgp : tq_pc nf fr (g / 3) < 3)
    (h1 : (∃ c, c < m ∧ (tq_D nf fr b_cells (fun j => tq_mx (tq_C nf fr rn) (cs j))) c g = v) → ∀ b_at : Nat → Int32, post 1 ((nI nf), (nI ni), (nI nt), (nI g), g_distinct, g_orderItem, g_orderDown, g_most, g_truthCount, g_openCount, (nI m), g_resultCount, b_cells, (tq_n rn), (tq_n fr), (tq_n ik), (tq_n ic), (tq_n tk), b_at, b_truths, b_open, b_chosen, b_results)) (hn : (¬ ∃ c, c < m ∧ (tq_D nf fr b_cells (fun j => tq_mx (tq_C nf fr rn) (cs j))) c g = v) → ∀ b_at : Nat → Int32, post 0 ((nI nf), (nI ni), (nI nt), (nI g), g_distinct, g_orderItem, g_orderDown, g_most, g_truthCount, g_openCount, (nI m), g_resultCount, b_cells, (tq_n rn), (tq_n fr), (tq_n ik), (tq_n ic), (tq_n tk), b_at, b_truths, b_open, b_chosen, b_results)) :
    ∀ (n c : Nat) (b_at : Nat → Int32), m < n + c → c ≤ m → (∀ j, j < c → (tq_D nf fr b_cells (fun j => tq_mx (tq_C nf fr rn) (cs j))) j g ≠ v) → wY_hasGroup_2 post v n (nI c) (nI nf) (nI ni) (nI nt) (nI g) g_distinct g_orderItem g_orderDown g_most g_truthCount g_openCount (nI m) g_resultCount b_cells (tq_n rn) (tq_n fr) (tq_n ik) (tq_n ic) (tq_n tk) b_at b_truths b_open b_chosen b_results := by
  have m1000 := hcs.1
  intro n
  induction n with
  | zero => intro c b_at q1 q2; omega
  | succ n ih =>
    intro c b_at hf hc hx
    rcases Nat.lt_or_ge c m with z | z
    rotate_left
    · exact br_t (nI_le z (by omega)) (hn (fun ⟨j, j1, j2⟩ => hx j (by omega) j2) b_at)
    refine br_f (nI_ge z (by omega)) ⟨vp_in_nI (by omega) (by decide), ?_⟩
    rw [nI_clamp (show c < 2 ^ 31 by omega)]
    refine yw_load d h0 fl rl hcs z (fun b_at hat => ?_)
    dsimp only
    refine yw_val hat hg hgp (br_c (fun y => h1 ⟨c, z, y⟩ b_at) (fun y => nm_r (nI_1 c) (ih (c + 1) b_at (by omega) (by omega) (fun j hj => ?_))))
    by_cases a : j = c
    · rw [a]; exact y
    · exact hx j (by omega)
theorem yw_hasGroup {post : Int32 → SY → Prop} {g : Nat} {v : Int32} {b_at b_results : Nat → Int32} {g_resultCount : Int32} (d : tq_ds nf fr) (h0 : nf ≠ 0) (fl : ∀ i, fr i < 3) (rl : ∀ i, rn i ≤ 10) (hcs : tq_CS nf fr rn m cs b_chosen) (hg : g ≤ 8) (hgp : tq_pc nf fr (g / 3) < 3)
    (h1 : (∃ c, c < m ∧ (tq_D nf fr b_cells (fun j => tq_mx (tq_C nf fr rn) (cs j))) c g = v) → ∀ b_at : Nat → Int32, post 1 ((nI nf), (nI ni), (nI nt), (nI g), g_distinct, g_orderItem, g_orderDown, g_most, g_truthCount, g_openCount, (nI m), g_resultCount, b_cells, (tq_n rn), (tq_n fr), (tq_n ik), (tq_n ic), (tq_n tk), b_at, b_truths, b_open, b_chosen, b_results)) (hn : (¬ ∃ c, c < m ∧ (tq_D nf fr b_cells (fun j => tq_mx (tq_C nf fr rn) (cs j))) c g = v) → ∀ b_at : Nat → Int32, post 0 ((nI nf), (nI ni), (nI nt), (nI g), g_distinct, g_orderItem, g_orderDown, g_most, g_truthCount, g_openCount, (nI m), g_resultCount, b_cells, (tq_n rn), (tq_n fr), (tq_n ik), (tq_n ic), (tq_n tk), b_at, b_truths, b_open, b_chosen, b_results)) : wpY_hasGroup post ((nI nf), (nI ni), (nI nt), (nI g), g_distinct, g_orderItem, g_orderDown, g_most, g_truthCount, g_openCount, (nI m), g_resultCount, b_cells, (tq_n rn), (tq_n fr), (tq_n ik), (tq_n ic), (tq_n tk), b_at, b_truths, b_open, b_chosen, b_results) v :=
  ⟨m + 1, yw_hg2 d h0 fl rl hcs hg hgp h1 hn (m + 1) 0 b_at (by omega) (by omega) (fun j hj => absurd hj (by omega))⟩
end
end
section
theorem tq_4 (r i : Nat) : 4 * nI r + nI i = nI (4 * r + i) := by
  show nI 4 * nI r + _ = _
  rw [pk_mul, nI_add]
section
variable {nf ni nt : Nat} {fr ik ic tk rn : Nat → Nat} {g_grouped g_distinct g_orderItem g_orderDown g_most g_truthCount g_openCount g_chosenCount g_resultCount : Int32} {b_cells b_at b_truths b_open b_chosen b_results : Nat → Int32}
theorem yw_is13 {post : Int32 → Prop} {J : Int32 → Prop} {x2 : Int32} {r y : Nat} (hni : ni ≤ 4) (hr : r < 1000) (hy : y < 1000) (h1 : tq_same ni (fun r i => b_results (4 * r + i)) y r → post 1) (h0 : ¬ tq_same ni (fun r i => b_results (4 * r + i)) y r → J (nI (y + 1))) : ∀ (n i : Nat) (x4 : Int32), ni < n + i → i ≤ ni → ((x4 = 1 ∧ ∀ j, j < i → b_results (4 * y + j) = b_results (4 * r + j)) ∨ (x4 = 0 ∧ ¬ tq_same ni (fun r i => b_results (4 * r + i)) y r)) → wY_isSeen_13 post J (nI r) x2 (nI y) (nI nf) (nI ni) (nI nt) g_grouped g_distinct g_orderItem g_orderDown g_most g_truthCount g_openCount g_chosenCount g_resultCount b_cells (tq_n rn) (tq_n fr) (tq_n ik) (tq_n ic) (tq_n tk) b_at b_truths b_open b_chosen b_results n x4 (nI i) := by
  intro n
  induction n with
  | zero => intro i x4 q1 q2; omega
  | succ n ih =>
    intro i x4 hf hi hx
    rcases Nat.lt_or_ge i ni with z | z
    rotate_left
    · refine br_t (nI_le z (by omega)) ?_
      rcases hx with ⟨rfl, s⟩ | ⟨rfl, s⟩
      · exact br_f (by decide) (h1 (fun j hj => s j (by omega)))
      · exact br_t rfl (nm_r (nI_1 y) (h0 s))
    refine br_f (nI_ge z (by omega)) ?_
    rw [tq_4, tq_4, nI_1, nI_clamp (show 4 * r + i < 2 ^ 31 by omega), nI_clamp (show 4 * y + i < 2 ^ 31 by omega)]
    rcases hx with ⟨rfl, q⟩ | ⟨rfl, q⟩
    · refine br_f (by decide) ⟨vp_in_nI (by omega) (by decide), vp_in_nI (by omega) (by decide), br_c (fun g => nm_e (ih (i + 1) 1 (by omega) (by omega) (Or.inl ⟨rfl, fun j hj => ?_⟩))) (fun g => nm_e (ih (i + 1) 0 (by omega) (by omega) (Or.inr ⟨rfl, fun w => g (w i z)⟩)))⟩
      by_cases a : j = i
      · rw [a]; exact g
      · exact q j (by omega)
    · exact br_t rfl (nm_e (ih (i + 1) 0 (by omega) (by omega) (Or.inr ⟨rfl, q⟩)))
theorem yw_is2 {post : Int32 → Prop} {r k : Nat} (hni : ni ≤ 4) (hr : r < 1000) (hk : k ≤ 1000) (h1 : (∃ y, y < k ∧ tq_same ni (fun r i => b_results (4 * r + i)) y r) → post 1) (h0 : (¬ ∃ y, y < k ∧ tq_same ni (fun r i => b_results (4 * r + i)) y r) → post 0) : ∀ (n y : Nat), k < n + y → y ≤ k → (∀ j, j < y → ¬ tq_same ni (fun r i => b_results (4 * r + i)) j r) → wY_isSeen_2 post (nI r) (nI k) (nI nf) (nI ni) (nI nt) g_grouped g_distinct g_orderItem g_orderDown g_most g_truthCount g_openCount g_chosenCount g_resultCount b_cells (tq_n rn) (tq_n fr) (tq_n ik) (tq_n ic) (tq_n tk) b_at b_truths b_open b_chosen b_results n (nI y) := by
  intro n
  induction n with
  | zero => intro y q1 q2; omega
  | succ n ih =>
    intro y hf hy hx
    rcases Nat.lt_or_ge y k with z | z
    rotate_left
    · exact br_t (nI_le z (by omega)) (h0 (fun ⟨j, j1, j2⟩ => hx j (by omega) j2))
    refine br_f (nI_ge z (by omega)) ⟨ni + 1, ?_⟩
    refine yw_is13 hni hr (by omega) (fun q => h1 ⟨y, z, q⟩) (fun q => ih (y + 1) (by omega) (by omega) (fun j hj => ?_)) (ni + 1) 0 1 (by omega) (by omega) (Or.inl ⟨rfl, fun j hj => absurd hj (by omega)⟩)
    by_cases a : j = y
    · rw [a]; exact q
    · exact hx j (by omega)
theorem yw_isSeen {post : Int32 → Prop} {r k : Nat} (hni : ni ≤ 4) (hr : r < 1000) (hk : k ≤ 1000) (h1 : (∃ y, y < k ∧ tq_same ni (fun r i => b_results (4 * r + i)) y r) → post 1) (h0 : (¬ ∃ y, y < k ∧ tq_same ni (fun r i => b_results (4 * r + i)) y r) → post 0) : wpY_isSeen post ((nI nf), (nI ni), (nI nt), g_grouped, g_distinct, g_orderItem, g_orderDown, g_most, g_truthCount, g_openCount, g_chosenCount, g_resultCount, b_cells, (tq_n rn), (tq_n fr), (tq_n ik), (tq_n ic), (tq_n tk), b_at, b_truths, b_open, b_chosen, b_results) (nI r) (nI k) :=
  ⟨k + 1, yw_is2 hni hr hk h1 h0 (k + 1) 0 (by omega) (by omega) (fun j hj => absurd hj (by omega))⟩
end
section
variable {nf ni nt : Nat} {fr ik ic tk rn : Nat → Nat} {g_grouped g_distinct g_orderItem g_orderDown g_most g_truthCount g_openCount g_chosenCount : Int32} {b_cells b_at b_truths b_open b_chosen : Nat → Int32}
theorem yw_ds23 {post : SY → Prop} {J : Int32 → Int32 → (Nat → Int32) → (Nat → Int32) → (Nat → Int32) → (Nat → Int32) → (Nat → Int32) → (Nat → Int32) → (Nat → Int32) → (Nat → Int32) → (Nat → Int32) → (Nat → Int32) → (Nat → Int32) → Prop} {N0 k r : Nat} {res0 : Nat → Int32} (hN : N0 ≤ 1000) (hr : r < N0) (hk : k ≤ r)
    (hJ : ∀ b_results : Nat → Int32, (∀ x, x < 4 * k ∨ 4 * r + 4 ≤ x → b_results x = res0 x) → (∀ i, i < 4 → b_results (4 * k + i) = res0 (4 * r + i)) → J (nI (k + 1)) (nI (r + 1)) b_cells (tq_n rn) (tq_n fr) (tq_n ik) (tq_n ic) (tq_n tk) b_at b_truths b_open b_chosen b_results) :
    ∀ (n i : Nat) (b_results : Nat → Int32), 4 < n + i → i ≤ 4 → (∀ x, x < 4 * k ∨ 4 * r + 4 ≤ x → b_results x = res0 x) → (∀ j, i ≤ j → j < 4 → b_results (4 * r + j) = res0 (4 * r + j)) → (∀ j, j < i → b_results (4 * k + j) = res0 (4 * r + j)) → wY_dropSame_23 post J (nI k) (nI r) (nI nf) (nI ni) (nI nt) g_grouped g_distinct g_orderItem g_orderDown g_most g_truthCount g_openCount g_chosenCount (nI N0) n (nI i) b_cells (tq_n rn) (tq_n fr) (tq_n ik) (tq_n ic) (tq_n tk) b_at b_truths b_open b_chosen b_results := by
  intro n
  induction n with
  | zero => intro i b_results q1 q2; omega
  | succ n ih =>
    intro i b_results hf hi ha hb hc
    rcases Nat.lt_or_ge i 4 with z | z
    rotate_left
    · have : i = 4 := by omega
      subst this
      exact br_t (by decide) (nm_r (nI_1 k) (nm_r (nI_1 r) (hJ b_results ha hc)))
    refine br_f (nI_ge (b := 4) z (by decide)) ?_
    rw [tq_4, tq_4, nI_1, nI_clamp (show 4 * k + i < 2 ^ 31 by omega), nI_clamp (show 4 * r + i < 2 ^ 31 by omega)]
    refine ⟨vp_in_nI (by omega) (by decide), vp_in_nI (by omega) (by decide), nm_e (nm_e (ih (i + 1) _ (by omega) (by omega) (fun x hx => ?_) (fun j q1 q2 => ?_) (fun j hj => ?_)))⟩
    · rw [pk_un (by omega)]; exact ha x hx
    · rw [pk_un (by omega)]; exact hb j (by omega) q2
    · by_cases a : j = i
      · rw [a, pk_us]; exact hb i (Nat.le_refl _) z
      · rw [pk_un (by omega)]; exact hc j (by omega)
theorem yw_ds4 {post : SY → Prop} {N0 : Nat} {R0 : Nat → Nat → Int32} (hni : ni ≤ 4) (hN : N0 ≤ 1000)
    (hp : ∀ (k : Nat) (b_results : Nat → Int32), k ≤ N0 → tq_DS ni N0 R0 k (fun r i => b_results (4 * r + i)) → post ((nI nf), (nI ni), (nI nt), g_grouped, g_distinct, g_orderItem, g_orderDown, g_most, g_truthCount, g_openCount, g_chosenCount, (nI k), b_cells, (tq_n rn), (tq_n fr), (tq_n ik), (tq_n ic), (tq_n tk), b_at, b_truths, b_open, b_chosen, b_results)) :
    ∀ (n k r : Nat) (kp : Nat → Nat) (b_results : Nat → Int32), N0 < n + r → r ≤ N0 → k ≤ r → tq_EN (· < ·) (fun x => x < r ∧ tq_fresh ni R0 x) kp k → (∀ t, t < k → ∀ i, i < ni → b_results (4 * t + i) = R0 (kp t) i) → (∀ t, r ≤ t → t < N0 → ∀ i, i < ni → b_results (4 * t + i) = R0 t i) → wY_dropSame_4 post (nI nf) (nI ni) (nI nt) g_grouped g_distinct g_orderItem g_orderDown g_most g_truthCount g_openCount g_chosenCount (nI N0) n (nI k) (nI r) b_cells (tq_n rn) (tq_n fr) (tq_n ik) (tq_n ic) (tq_n tk) b_at b_truths b_open b_chosen b_results := by
  intro n
  induction n with
  | zero => intro k r kp b_results q1 q2; omega
  | succ n ih =>
    intro k r kp b_results hf hr hk hEN hA hB
    rcases Nat.lt_or_ge r N0 with z | z
    rotate_left
    · have : r = N0 := by omega
      subst this
      exact br_t (nI_le z (by omega)) (hp k b_results hk ⟨kp, hEN, hA⟩)
    have sm : (∃ y, y < k ∧ tq_same ni (fun r i => b_results (4 * r + i)) y r) ↔ ¬ tq_fresh ni R0 r := by
      rw [← tq_seen hEN]
      constructor
      · rintro ⟨y, y1, y2⟩
        refine ⟨y, y1, fun i hi => ?_⟩
        rw [← hA y y1 i hi, ← hB r (Nat.le_refl _) z i hi]
        exact y2 i hi
      · rintro ⟨y, y1, y2⟩
        refine ⟨y, y1, fun i hi => ?_⟩
        show b_results (4 * y + i) = b_results (4 * r + i)
        rw [hA y y1 i hi, hB r (Nat.le_refl _) z i hi]
        exact y2 i hi
    refine br_f (nI_ge z (by omega)) ?_
    refine yw_isSeen hni (by omega) (by omega) (fun q => br_f (by decide) (nm_r (nI_1 r) ?_)) (fun q => br_t rfl ⟨5, ?_⟩)
    · have nfr := sm.mp q
      refine ih k (r + 1) kp b_results (by omega) (by omega) (by omega) (tq_en_iff (fun x => ?_) hEN) hA (fun t t1 t2 i hi => hB t (by omega) t2 i hi)
      constructor
      · rintro ⟨x1, x2⟩
        exact ⟨by omega, x2⟩
      · rintro ⟨x1, x2⟩
        refine ⟨?_, x2⟩
        rcases Nat.lt_or_ge x r with y | y
        · exact y
        · rw [show x = r by omega] at x2; exact absurd x2 nfr
    · have isf : tq_fresh ni R0 r := Classical.byContradiction (fun w => q (sm.mpr w))
      refine yw_ds23 (res0 := b_results) hN z hk (fun b_results' w1 w2 => ?_) 5 0 b_results (by omega) (by omega) (fun _ _ => rfl) (fun _ _ _ => rfl) (fun j hj => absurd hj (by omega))
      refine ih (k + 1) (r + 1) (tq_u kp k r) b_results' (by omega) (by omega) (by omega) (tq_en_s (x := r) hEN (fun i hi => tq_un (by omega)) tq_us (fun y hy => hy.1) (fun x => ?_)) (fun t ht i hi => ?_) (fun t t1 t2 i hi => by rw [w1 _ (Or.inr (by omega))]; exact hB t (by omega) t2 i hi)
      · constructor
        · rintro ⟨x1, x2⟩
          rcases Nat.lt_or_ge x r with y | y
          · exact Or.inl ⟨y, x2⟩
          · exact Or.inr (by omega)
        · rintro (⟨x1, x2⟩ | x1)
          · exact ⟨by omega, x2⟩
          · rw [x1]; exact ⟨by omega, isf⟩
      · by_cases a : t = k
        · rw [a, tq_us, w2 i (by omega)]; exact hB r (Nat.le_refl _) z i hi
        · rw [tq_un a, w1 _ (Or.inl (by omega))]; exact hA t (by omega) i hi
theorem yw_dropSame {post : SY → Prop} {N0 : Nat} {R0 : Nat → Nat → Int32} {b_results : Nat → Int32} (hni : ni ≤ 4) (hN : N0 ≤ 1000) (hR : tq_RW ni N0 R0 b_results)
    (hp : ∀ (k : Nat) (b_results : Nat → Int32), k ≤ N0 → tq_DS ni N0 R0 k (fun r i => b_results (4 * r + i)) → post ((nI nf), (nI ni), (nI nt), g_grouped, g_distinct, g_orderItem, g_orderDown, g_most, g_truthCount, g_openCount, g_chosenCount, (nI k), b_cells, (tq_n rn), (tq_n fr), (tq_n ik), (tq_n ic), (tq_n tk), b_at, b_truths, b_open, b_chosen, b_results)) : wpY_dropSame post ((nI nf), (nI ni), (nI nt), g_grouped, g_distinct, g_orderItem, g_orderDown, g_most, g_truthCount, g_openCount, g_chosenCount, (nI N0), b_cells, (tq_n rn), (tq_n fr), (tq_n ik), (tq_n ic), (tq_n tk), b_at, b_truths, b_open, b_chosen, b_results) :=
  ⟨N0 + 1, yw_ds4 hni hN hp (N0 + 1) 0 0 (fun _ => 0) b_results (by omega) (by omega) (by omega) (tq_en_0 (fun x hx => by omega)) (fun t ht => absurd ht (by omega)) (fun t _ t2 i hi => hR t t2 i hi)⟩
theorem yw_ex4 {post : SY → Prop} {g_resultCount : Int32} {q : Nat} {res0 : Nat → Int32} (hq : q < 999)
    (hp : ∀ b_results : Nat → Int32, (∀ j, j < 4 → b_results (4 * (q + 1) + j) = res0 (4 * q + j) ∧ b_results (4 * q + j) = res0 (4 * (q + 1) + j)) → (∀ x, x < 4 * q ∨ 4 * q + 8 ≤ x → b_results x = res0 x) → post ((nI nf), (nI ni), (nI nt), g_grouped, g_distinct, g_orderItem, g_orderDown, g_most, g_truthCount, g_openCount, g_chosenCount, g_resultCount, b_cells, (tq_n rn), (tq_n fr), (tq_n ik), (tq_n ic), (tq_n tk), b_at, b_truths, b_open, b_chosen, b_results)) :
    ∀ (n i : Nat) (b_results : Nat → Int32), 4 < n + i → i ≤ 4 → (∀ j, j < i → b_results (4 * (q + 1) + j) = res0 (4 * q + j) ∧ b_results (4 * q + j) = res0 (4 * (q + 1) + j)) → (∀ j, i ≤ j → j < 4 → b_results (4 * (q + 1) + j) = res0 (4 * (q + 1) + j) ∧ b_results (4 * q + j) = res0 (4 * q + j)) → (∀ x, x < 4 * q ∨ 4 * q + 8 ≤ x → b_results x = res0 x) → wY_exchange_4 post (nI (q + 1)) (nI nf) (nI ni) (nI nt) g_grouped g_distinct g_orderItem g_orderDown g_most g_truthCount g_openCount g_chosenCount g_resultCount n (nI (4 * (q + 1) + i)) b_cells (tq_n rn) (tq_n fr) (tq_n ik) (tq_n ic) (tq_n tk) b_at b_truths b_open b_chosen b_results := by
  have eT : 4 * nI (q + 1) + 4 = nI (4 * (q + 1) + 4) := tq_4 (q + 1) 4
  intro n
  induction n with
  | zero => intro i b_results q1 q2; omega
  | succ n ih =>
    intro i b_results hf hi ha hb hc
    rcases Nat.lt_or_ge i 4 with z | z
    rotate_left
    · have : i = 4 := by omega
      subst this
      exact br_t (by rw [eT]; exact Int32.le_refl _) (hp b_results ha hc)
    have e4 : nI (4 * (q + 1) + i) - 4 = nI (4 * q + i) := by
      have := pk_sub (a := 4 * (q + 1) + i) (b := 4) (by omega)
      rw [show 4 * (q + 1) + i - 4 = 4 * q + i by omega] at this
      exact this
    refine br_f (by rw [eT]; exact nI_ge (by omega) (by omega)) ?_
    rw [e4, nI_clamp (show 4 * (q + 1) + i < 2 ^ 31 by omega), nI_clamp (show 4 * q + i < 2 ^ 31 by omega), nI_1]
    have v1 : vp_in (nI (4 * (q + 1) + i)) 4000 := vp_in_nI (by omega) (by decide)
    have v2 : vp_in (nI (4 * q + i)) 4000 := vp_in_nI (by omega) (by decide)
    obtain ⟨b1, b2⟩ := hb i (Nat.le_refl _) z
    rw [b1, b2]
    refine ⟨v1, nm_e ⟨v2, v1, nm_e ⟨v2, nm_e (nm_e (ih (i + 1) _ (by omega) (by omega) (fun j hj => ?_) (fun j q1 q2 => ?_) (fun x hx => ?_)))⟩⟩⟩
    · by_cases a : j = i
      · rw [a, pk_un (by omega), pk_us, pk_us]; exact ⟨rfl, rfl⟩
      · rw [pk_un (by omega), pk_un (by omega), pk_un (by omega), pk_un (by omega)]
        exact ha j (by omega)
    · rw [pk_un (by omega), pk_un (by omega), pk_un (by omega), pk_un (by omega)]
      exact hb j (by omega) q2
    · rw [pk_un (by omega), pk_un (by omega)]
      exact hc x hx
theorem yw_exchange {post : SY → Prop} {g_resultCount : Int32} {q : Nat} {b_results : Nat → Int32} (hq : q < 999)
    (hp : ∀ res' : Nat → Int32, (∀ j, j < 4 → res' (4 * (q + 1) + j) = b_results (4 * q + j) ∧ res' (4 * q + j) = b_results (4 * (q + 1) + j)) → (∀ x, x < 4 * q ∨ 4 * q + 8 ≤ x → res' x = b_results x) → post ((nI nf), (nI ni), (nI nt), g_grouped, g_distinct, g_orderItem, g_orderDown, g_most, g_truthCount, g_openCount, g_chosenCount, g_resultCount, b_cells, (tq_n rn), (tq_n fr), (tq_n ik), (tq_n ic), (tq_n tk), b_at, b_truths, b_open, b_chosen, res')) : wpY_exchange post ((nI nf), (nI ni), (nI nt), g_grouped, g_distinct, g_orderItem, g_orderDown, g_most, g_truthCount, g_openCount, g_chosenCount, g_resultCount, b_cells, (tq_n rn), (tq_n fr), (tq_n ik), (tq_n ic), (tq_n tk), b_at, b_truths, b_open, b_chosen, b_results) (nI (q + 1)) := by
  unfold wpY_exchange
  dsimp only
  refine nm_r (e' := nI (4 * (q + 1) + 0)) (by show nI 4 * nI (q + 1) = _; rw [pk_mul]; rfl) ⟨5, ?_⟩
  exact yw_ex4 hq hp 5 0 b_results (by omega) (by omega) (fun j hj => absurd hj (by omega)) (fun j _ _ => ⟨rfl, rfl⟩) (fun _ _ => rfl)
end
theorem tq_inst {L : Nat → Nat → Prop} {s : Nat → Nat} {i m : Nat} (tr : ∀ a b c, L a b → L b c → L a c) (hm : m + 1 ≤ i) (h : ∀ a b, a < b → b ≤ i → b ≠ m + 1 → L (s a) (s b)) (g : L (s m) (s (m + 1))) : ∀ a b, a < b → b ≤ i → L (s a) (s b) := by
  intro a b hab hb
  by_cases e : b = m + 1
  · subst e
    rcases Nat.lt_or_ge a m with z | z
    · exact tr _ _ _ (h a m z (by omega) (by omega)) g
    · have : a = m := by omega
      subst this; exact g
  · exact h a b hab hb e
theorem tq_insf {L : Nat → Nat → Prop} {s : Nat → Nat} {i m : Nat} (hm : m + 1 ≤ i) (h : ∀ a b, a < b → b ≤ i → b ≠ m + 1 → L (s a) (s b)) (g : L (s (m + 1)) (s m)) : ∀ a b, a < b → b ≤ i → b ≠ m → L (tq_sw s m a) (tq_sw s m b) := by
  intro a b hab hb hbm
  have sm : tq_sw s m m = s (m + 1) := by rw [tq_sw_eq]; unfold tq_sg; rw [if_neg (by omega), if_pos rfl]
  have sm1 : tq_sw s m (m + 1) = s m := by rw [tq_sw_eq]; unfold tq_sg; rw [if_pos rfl]
  have so : ∀ x, x ≠ m → x ≠ m + 1 → tq_sw s m x = s x := fun x h1 h2 => by rw [tq_sw_eq]; unfold tq_sg; rw [if_neg h2, if_neg h1]
  by_cases e : b = m + 1
  · subst e
    rw [sm1]
    by_cases e2 : a = m
    · rw [e2, sm]; exact g
    · rw [so a e2 (by omega)]
      exact h a m (by omega) (by omega) (by omega)
  · rw [so b hbm e]
    by_cases e2 : a = m
    · rw [e2, sm]
      exact h (m + 1) b (by omega) hb e
    · by_cases e3 : a = m + 1
      · rw [e3, sm1]
        exact h m b (by omega) hb e
      · rw [so a e2 e3]
        exact h a b hab hb e
section
variable {nf ni nt : Nat} {fr ik ic tk rn : Nat → Nat} {g_grouped g_distinct g_orderDown g_most g_truthCount g_openCount g_chosenCount : Int32} {b_cells b_at b_truths b_open b_chosen : Nat → Int32}
theorem yw_comesBefore {post : Int32 → Prop} {u : Int32} {a b : Int32} {g_resultCount g_orderItem : Int32} {b_results : Nat → Int32} (h1 : ((g_orderDown = 0 ∧ a < b) ∨ (¬ g_orderDown = 0 ∧ b < a)) → post 1) (h0 : ((g_orderDown = 0 ∧ b ≤ a) ∨ (¬ g_orderDown = 0 ∧ a ≤ b)) → post 0) : wpY_comesBefore post ((nI nf), (nI ni), (nI nt), g_grouped, g_distinct, g_orderItem, g_orderDown, g_most, g_truthCount, g_openCount, g_chosenCount, g_resultCount, b_cells, (tq_n rn), (tq_n fr), (tq_n ik), (tq_n ic), (tq_n tk), b_at, b_truths, b_open, b_chosen, b_results) a b := by
  unfold wpY_comesBefore
  dsimp only
  exact br_c (fun g => br_c (fun q => h0 (Or.inl ⟨g, q⟩)) (fun q => h1 (Or.inl ⟨g, Int32.not_le.mp q⟩))) (fun g => br_c (fun q => h0 (Or.inr ⟨g, q⟩)) (fun q => h1 (Or.inr ⟨g, Int32.not_le.mp q⟩)))
theorem yw_so12 {post : SY → Prop} {J : Int32 → Int32 → Int32 → Int32 → Int32 → Int32 → Int32 → Int32 → Int32 → Int32 → Int32 → Int32 → Int32 → (Nat → Int32) → (Nat → Int32) → (Nat → Int32) → (Nat → Int32) → (Nat → Int32) → (Nat → Int32) → (Nat → Int32) → (Nat → Int32) → (Nat → Int32) → (Nat → Int32) → (Nat → Int32) → Prop} {n1 r o : Nat} {R1 : Nat → Nat → Int32} (hni : ni ≤ 4) (ho : o < ni) (hn : n1 ≤ 1000) (hr : r < n1)
    (hJ : ∀ (ix : Nat → Nat) (b_results : Nat → Int32), (∀ a b, a < b → b ≤ r → tq_ol (nI o) g_orderDown R1 (ix a) (ix b)) → (∀ t, t ≤ r → ix t ≤ r) → (∀ x, x ≤ r → ∃ t, t ≤ r ∧ ix t = x) → (∀ t, r < t → ix t = t) → (∀ t, t < n1 → ∀ i, i < ni → b_results (4 * t + i) = R1 (ix t) i) → J (nI (r + 1)) (nI nf) (nI ni) (nI nt) g_grouped g_distinct (nI o) g_orderDown g_most g_truthCount g_openCount g_chosenCount (nI n1) b_cells (tq_n rn) (tq_n fr) (tq_n ik) (tq_n ic) (tq_n tk) b_at b_truths b_open b_chosen b_results) :
    ∀ (n t : Nat) (ix : Nat → Nat) (b_results : Nat → Int32), t < n → t ≤ r → ix t = r → (∀ a b, a < b → b ≤ r → b ≠ t → tq_ol (nI o) g_orderDown R1 (ix a) (ix b)) → (∀ y, y ≤ r → ix y ≤ r) → (∀ x, x ≤ r → ∃ y, y ≤ r ∧ ix y = x) → (∀ y, r < y → ix y = y) → (∀ a b, a ≤ r → b ≤ r → ix a = ix b → a = b) → (∀ y, y < n1 → ∀ i, i < ni → b_results (4 * y + i) = R1 (ix y) i) →
    wY_sort_12 post J (nI r) n (nI t) (nI nf) (nI ni) (nI nt) g_grouped g_distinct (nI o) g_orderDown g_most g_truthCount g_openCount g_chosenCount (nI n1) b_cells (tq_n rn) (tq_n fr) (tq_n ik) (tq_n ic) (tq_n tk) b_at b_truths b_open b_chosen b_results := by
  have op : ¬ nI o < 0 := nI_pos (by omega)
  have oc : (nI o).toNatClampNeg = o := nI_clamp (by omega)
  intro n
  induction n with
  | zero => intro t ix b_results h; omega
  | succ n ih =>
    intro t ix b_results hf ht hit hs hle hsj hid hinj hR
    cases t with
    | zero =>
      exact br_t (Int32.le_refl _) (nm_r (nI_1 r) (hJ ix b_results (fun a b hab hb => hs a b hab hb (by omega)) hle hsj hid hR))
    | succ q =>
      have e4 : 4 * nI (q + 1) - 4 = nI (4 * q) := by
        show nI 4 * nI (q + 1) - nI 4 = _
        rw [pk_mul, pk_sub (by omega)]
        exact congrArg nI (by omega)
      have lt : ix q < r := by
        have a := hle q (by omega)
        rcases Nat.lt_or_ge (ix q) r with z | z
        · exact z
        · have := hinj q (q + 1) (by omega) ht (by omega)
          omega
      refine br_f (nI_nle (by omega) (by omega)) ?_
      rw [tq_4, e4, nI_add, nI_clamp (show 4 * (q + 1) + o < 2 ^ 31 by omega), nI_clamp (show 4 * q + o < 2 ^ 31 by omega), hR (q + 1) (by omega) o ho, hR q (by omega) o ho]
      refine ⟨vp_in_nI (by omega) (by decide), vp_in_nI (by omega) (by decide), ?_⟩
      refine yw_comesBefore (u := 0) (fun g => br_f (by decide) ?_) (fun g => br_t rfl (nm_r (nI_1 r) (hJ ix b_results (tq_inst tq_ol_tr ht hs ?_) hle hsj hid hR)))
      · have gl : tq_ol (nI o) g_orderDown R1 (ix (q + 1)) (ix q) := by
          unfold tq_ol
          rw [oc]
          rcases g with g | g
          · exact Or.inr (Or.inl ⟨op, g.1, Or.inl g.2⟩)
          · exact Or.inr (Or.inr ⟨op, g.1, Or.inl g.2⟩)
        refine yw_exchange (by omega) (fun res' h1 h2 => nm_r (pk_m1 q) ?_)
        have sm : tq_sw ix q q = ix (q + 1) := by rw [tq_sw_eq]; unfold tq_sg; rw [if_neg (by omega), if_pos rfl]
        have sm1 : tq_sw ix q (q + 1) = ix q := by rw [tq_sw_eq]; unfold tq_sg; rw [if_pos rfl]
        have so : ∀ x, x ≠ q → x ≠ q + 1 → tq_sw ix q x = ix x := fun x h1 h2 => by rw [tq_sw_eq]; unfold tq_sg; rw [if_neg h2, if_neg h1]
        refine ih q (tq_sw ix q) res' (by omega) (by omega) (by rw [sm]; exact hit) (tq_insf ht hs gl) (fun y hy => ?_) (fun x hx => ?_) (fun y hy => ?_) (fun a b ha hb e => ?_) (fun y hy i hi => ?_)
        · rw [tq_sw_eq]
          have := tq_sg_lt (m := q) (x := y) (c := r + 1) (by omega) (by omega)
          exact hle _ (by omega)
        · obtain ⟨y, y1, y2⟩ := hsj x hx
          have := tq_sg_lt (m := q) (x := y) (c := r + 1) (by omega) (by omega)
          exact ⟨tq_sg q y, by omega, by rw [tq_sw_eq, tq_sg_sg]; exact y2⟩
        · rw [so y (by omega) (by omega)]; exact hid y hy
        · rw [tq_sw_eq, tq_sw_eq] at e
          have l1 := tq_sg_lt (m := q) (x := a) (c := r + 1) (by omega) (by omega)
          have l2 := tq_sg_lt (m := q) (x := b) (c := r + 1) (by omega) (by omega)
          have := hinj _ _ (by omega) (by omega) e
          rw [← tq_sg_sg q a, this, tq_sg_sg]
        · by_cases w1 : y = q
          · rw [w1, sm, (h1 i (by omega)).2]; exact hR (q + 1) (by omega) i hi
          · by_cases w2 : y = q + 1
            · rw [w2, sm1, (h1 i (by omega)).1]; exact hR q (by omega) i hi
            · rw [so y w1 w2, h2 _ (by omega)]; exact hR y hy i hi
      · unfold tq_ol
        rw [oc]
        rcases g with ⟨g1, g2⟩ | ⟨g1, g2⟩
        · refine Or.inr (Or.inl ⟨op, g1, ?_⟩)
          rcases Classical.em (R1 (ix q) o = R1 (ix (q + 1)) o) with w | w
          · exact Or.inr ⟨w, by omega⟩
          · exact Or.inl (tq_ne_lt g2 w)
        · refine Or.inr (Or.inr ⟨op, g1, ?_⟩)
          rcases Classical.em (R1 (ix q) o = R1 (ix (q + 1)) o) with w | w
          · exact Or.inr ⟨w, by omega⟩
          · exact Or.inl (tq_ne_lt g2 (fun y => w y.symm))
theorem yw_so2 {post : SY → Prop} {n1 o : Nat} {R1 : Nat → Nat → Int32} (hni : ni ≤ 4) (ho : o < ni) (hn : n1 ≤ 1000)
    (hp : ∀ (ix : Nat → Nat) (b_results : Nat → Int32), tq_EN (tq_ol (nI o) g_orderDown R1) (fun x => x < n1) ix n1 → (∀ t, t < n1 → ∀ i, i < ni → b_results (4 * t + i) = R1 (ix t) i) → post ((nI nf), (nI ni), (nI nt), g_grouped, g_distinct, (nI o), g_orderDown, g_most, g_truthCount, g_openCount, g_chosenCount, (nI n1), b_cells, (tq_n rn), (tq_n fr), (tq_n ik), (tq_n ic), (tq_n tk), b_at, b_truths, b_open, b_chosen, b_results)) :
    ∀ (n r : Nat) (ix : Nat → Nat) (b_results : Nat → Int32), n1 + 1 < n + r → 0 < r → r ≤ n1 + 1 → (∀ a b, a < b → b < r → b < n1 → tq_ol (nI o) g_orderDown R1 (ix a) (ix b)) → (∀ t, t < r → t < n1 → ix t < r ∧ ix t < n1) → (∀ x, x < r → x < n1 → ∃ t, t < r ∧ t < n1 ∧ ix t = x) → (∀ t, r ≤ t → ix t = t) → (∀ t, t < n1 → ∀ i, i < ni → b_results (4 * t + i) = R1 (ix t) i) → wY_sort_2 post n (nI r) (nI nf) (nI ni) (nI nt) g_grouped g_distinct (nI o) g_orderDown g_most g_truthCount g_openCount g_chosenCount (nI n1) b_cells (tq_n rn) (tq_n fr) (tq_n ik) (tq_n ic) (tq_n tk) b_at b_truths b_open b_chosen b_results := by
  intro n
  induction n with
  | zero => intro r ix b_results q1 q2; omega
  | succ n ih =>
    intro r ix b_results hf h0 hr hs hle hsj hid hR
    rcases Nat.lt_or_ge r n1 with z | z
    rotate_left
    · refine br_t (nI_le z (by omega)) (hp ix b_results ⟨fun i j hij hj => hs i j hij (by omega) hj, fun i hi => (hle i (by omega) hi).2, fun x hx => ?_⟩ hR)
      obtain ⟨t, _, t2, t3⟩ := hsj x (by omega) hx
      exact ⟨t, t2, t3⟩
    refine br_f (nI_ge z (by omega)) ⟨r + 1, ?_⟩
    have sur : ∀ x, x ≤ r → ∃ t, t ≤ r ∧ ix t = x := by
      intro x hx
      rcases Nat.lt_or_ge x r with w | w
      · obtain ⟨t, t1, _, t3⟩ := hsj x w (by omega)
        exact ⟨t, by omega, t3⟩
      · exact ⟨r, Nat.le_refl _, by rw [hid r (Nat.le_refl _)]; omega⟩
    have ler : ∀ t, t ≤ r → ix t ≤ r := by
      intro t ht
      rcases Nat.lt_or_ge t r with w | w
      · have := (hle t w (by omega)).1; omega
      · rw [hid t w]; exact ht
    have inj : ∀ a b, a ≤ r → b ≤ r → ix a = ix b → a = b := by
      intro a b ha hb e
      rcases Nat.lt_trichotomy a b with w | w | w
      · rcases Nat.lt_or_ge b r with y | y
        · have := hs a b w y (by omega)
          rw [e] at this
          exact absurd this (tq_ol_ir _)
        · have b1 := hid b y
          have a1 := (hle a (by omega) (by omega)).1
          omega
      · exact w
      · rcases Nat.lt_or_ge a r with y | y
        · have := hs b a w y (by omega)
          rw [e] at this
          exact absurd this (tq_ol_ir _)
        · have a1 := hid a y
          have b1 := (hle b (by omega) (by omega)).1
          omega
    refine yw_so12 hni ho hn z (fun ix' b_results' g1 g2 g3 g4 g5 => ?_) (r + 1) r ix b_results (by omega) (Nat.le_refl _) (hid r (Nat.le_refl _)) (fun a b hab hb hne => hs a b hab (by omega) (by omega)) ler sur (fun y hy => hid y (by omega)) inj hR
    refine ih (r + 1) ix' b_results' (by omega) (by omega) (by omega) (fun a b hab hb hb1 => g1 a b hab (by omega)) (fun t ht ht1 => ?_) (fun x hx hx1 => ?_) (fun t ht => g4 t (by omega)) g5
    · have := g2 t (by omega)
      exact ⟨by omega, by omega⟩
    · obtain ⟨t, t1, t2⟩ := g3 x (by omega)
      exact ⟨t, by omega, by omega, t2⟩
theorem yw_sort {post : SY → Prop} {n1 o : Nat} {R1 : Nat → Nat → Int32} {b_results : Nat → Int32} (hni : ni ≤ 4) (ho : o < ni) (hn : n1 ≤ 1000) (hR : tq_RW ni n1 R1 b_results)
    (hp : ∀ (ix : Nat → Nat) (b_results : Nat → Int32), tq_EN (tq_ol (nI o) g_orderDown R1) (fun x => x < n1) ix n1 → (∀ t, t < n1 → ∀ i, i < ni → b_results (4 * t + i) = R1 (ix t) i) → post ((nI nf), (nI ni), (nI nt), g_grouped, g_distinct, (nI o), g_orderDown, g_most, g_truthCount, g_openCount, g_chosenCount, (nI n1), b_cells, (tq_n rn), (tq_n fr), (tq_n ik), (tq_n ic), (tq_n tk), b_at, b_truths, b_open, b_chosen, b_results)) : wpY_sort post ((nI nf), (nI ni), (nI nt), g_grouped, g_distinct, (nI o), g_orderDown, g_most, g_truthCount, g_openCount, g_chosenCount, (nI n1), b_cells, (tq_n rn), (tq_n fr), (tq_n ik), (tq_n ic), (tq_n tk), b_at, b_truths, b_open, b_chosen, b_results) :=
  ⟨n1 + 2, yw_so2 hni ho hn hp (n1 + 2) 1 (fun t => t) b_results (by omega) (by omega) (by omega) (fun a b hab hb _ => by omega) (fun t ht ht1 => ⟨ht, ht1⟩) (fun x hx hx1 => ⟨x, hx, hx1, rfl⟩) (fun t _ => rfl) hR⟩
end
end
section
section
variable {nf ni nt : Nat} {fr ik ic tk rn : Nat → Nat} {g_grouped g_distinct g_orderItem g_orderDown g_most g_truthCount g_openCount g_chosenCount : Int32} {b_cells b_at b_truths b_open b_chosen b_results : Nat → Int32}
theorem yw_an114 {post : Int32 → SY → Prop} {n1 : Nat} (hl : g_most = -1 ∨ ∃ l, l ≤ 50 ∧ g_most = nI l) (hp : post 0 ((nI nf), (nI ni), (nI nt), g_grouped, g_distinct, g_orderItem, g_orderDown, g_most, g_truthCount, g_openCount, g_chosenCount, (nI (tq_lm g_most n1)), b_cells, (tq_n rn), (tq_n fr), (tq_n ik), (tq_n ic), (tq_n tk), b_at, b_truths, b_open, b_chosen, b_results)) : wY_answer_114 post (nI nf) (nI ni) (nI nt) g_grouped g_distinct g_orderItem g_orderDown g_most g_truthCount g_openCount g_chosenCount (nI n1) b_cells (tq_n rn) (tq_n fr) (tq_n ik) (tq_n ic) (tq_n tk) b_at b_truths b_open b_chosen b_results := by
  unfold tq_lm at hp
  refine br_c (fun g => ?_) (fun g => br_c (fun g2 => ?_) (fun g2 => ?_))
  · rw [if_pos g] at hp; exact hp
  · rw [if_neg g, if_pos g2] at hp; exact hp
  · rw [if_neg g, if_neg g2] at hp
    rcases hl with q | ⟨l, l1, l2⟩
    · rw [q] at g; exact absurd (by decide) g
    · have e : nI g_most.toNatClampNeg = g_most := by rw [l2, nI_clamp (by omega)]
      rw [e] at hp
      exact hp
theorem yw_an103 {post : Int32 → SY → Prop} {n1 : Nat} {R1 : Nat → Nat → Int32} (hni : ni ≤ 4) (hn : n1 ≤ 1000) (ho : g_orderItem = -1 ∨ ∃ o, o ≤ 3 ∧ g_orderItem = nI o ∧ o < ni) (hl : g_most = -1 ∨ ∃ l, l ≤ 50 ∧ g_most = nI l) (hR : tq_RW ni n1 R1 b_results)
    (hp : ∀ (ix : Nat → Nat) (b_results : Nat → Int32), tq_EN (tq_ol g_orderItem g_orderDown R1) (fun x => x < n1) ix n1 → (∀ t, t < n1 → ∀ i, i < ni → b_results (4 * t + i) = R1 (ix t) i) → post 0 ((nI nf), (nI ni), (nI nt), g_grouped, g_distinct, g_orderItem, g_orderDown, g_most, g_truthCount, g_openCount, g_chosenCount, (nI (tq_lm g_most n1)), b_cells, (tq_n rn), (tq_n fr), (tq_n ik), (tq_n ic), (tq_n tk), b_at, b_truths, b_open, b_chosen, b_results)) : wY_answer_103 post (nI nf) (nI ni) (nI nt) g_grouped g_distinct g_orderItem g_orderDown g_most g_truthCount g_openCount g_chosenCount (nI n1) b_cells (tq_n rn) (tq_n fr) (tq_n ik) (tq_n ic) (tq_n tk) b_at b_truths b_open b_chosen b_results := by
  rcases ho with q | ⟨o, o1, o2, o3⟩
  · have neg : g_orderItem < 0 := by rw [q]; decide
    exact br_t neg (yw_an114 hl (hp (fun t => t) b_results ⟨fun i j hij hj => Or.inl ⟨neg, hij⟩, fun i hi => hi, fun x hx => ⟨x, hx, rfl⟩⟩ hR))
  · subst o2
    refine br_f (nI_pos (by omega)) ?_
    refine yw_sort hni o3 hn hR (fun ix b_results h1 h2 => ?_)
    dsimp only
    exact yw_an114 hl (hp ix b_results h1 h2)
theorem yw_an92 {post : Int32 → SY → Prop} {m n0 : Nat} {R0 D : Nat → Nat → Int32} (hni : ni ≤ 4) (hn : n0 ≤ 1000) (ho : g_orderItem = -1 ∨ ∃ o, o ≤ 3 ∧ g_orderItem = nI o ∧ o < ni) (hl : g_most = -1 ∨ ∃ l, l ≤ 50 ∧ g_most = nI l) (hR : tq_RW ni n0 R0 b_results) (hRB : tq_RB m ni ik ic g_grouped D n0 R0)
    (hp : ∀ (n : Nat) (R : Nat → Nat → Int32) (b_results : Nat → Int32), n ≤ 1000 → tq_AN m ni ik ic g_grouped g_distinct g_orderItem g_orderDown g_most D n R → (∀ r, r < n → ∀ i, i < ni → b_results (4 * r + i) = R r i) → post 0 ((nI nf), (nI ni), (nI nt), g_grouped, g_distinct, g_orderItem, g_orderDown, g_most, g_truthCount, g_openCount, g_chosenCount, (nI n), b_cells, (tq_n rn), (tq_n fr), (tq_n ik), (tq_n ic), (tq_n tk), b_at, b_truths, b_open, b_chosen, b_results)) : wY_answer_92 post (nI nf) (nI ni) (nI nt) g_grouped g_distinct g_orderItem g_orderDown g_most g_truthCount g_openCount g_chosenCount (nI n0) b_cells (tq_n rn) (tq_n fr) (tq_n ik) (tq_n ic) (tq_n tk) b_at b_truths b_open b_chosen b_results := by
  have go : ∀ (n1 : Nat) (R1 : Nat → Nat → Int32) (b_results : Nat → Int32), n1 ≤ 1000 → tq_RC ni g_distinct n0 R0 n1 R1 → tq_RW ni n1 R1 b_results → wY_answer_103 post (nI nf) (nI ni) (nI nt) g_grouped g_distinct g_orderItem g_orderDown g_most g_truthCount g_openCount g_chosenCount (nI n1) b_cells (tq_n rn) (tq_n fr) (tq_n ik) (tq_n ic) (tq_n tk) b_at b_truths b_open b_chosen b_results := by
    intro n1 R1 b_results hn1 hRC hRW
    refine yw_an103 hni hn1 ho hl hRW (fun ix b_results h1 h2 => ?_)
    have lm := tq_lm_le g_most n1 hn1
    exact hp (tq_lm g_most n1) (fun r i => R1 (ix r) i) b_results (by omega) ⟨n0, n1, R0, R1, ix, hRB, hRC, h1, fun _ _ _ _ => rfl, rfl, hn1⟩ (fun r hr i hi => h2 r (by omega) i hi)
  refine br_c (fun g => go n0 R0 b_results hn (Or.inl ⟨g, rfl, fun _ _ _ _ => rfl⟩) hR) (fun g => ?_)
  refine yw_dropSame hni hn hR (fun k b_results hk hDS => ?_)
  dsimp only
  exact go k (fun r i => b_results (4 * r + i)) b_results (by omega) (Or.inr ⟨g, hDS⟩) (fun r _ i _ => rfl)
end
theorem tq_iv (t : Nat) (ht : t ≤ 200) : (nI t - 50).toInt = (t : Int) - 50 := pk_sub_toInt (b := 50) (by omega) (by omega)
theorem tq_iv1 (t : Nat) : nI t - 50 + 1 = nI (t + 1) - 50 := by
  rw [← nI_1]
  grind
section
variable {nf ni nt m : Nat} {fr ik ic tk rn cs : Nat → Nat} {g_distinct g_orderItem g_orderDown g_most g_truthCount g_openCount : Int32} {b_cells b_truths b_open b_chosen : Nat → Int32}
theorem yw_an60 {post : Int32 → SY → Prop} {g : Nat} (d : tq_ds nf fr) (h0 : nf ≠ 0) (fl : ∀ i, fr i < 3) (rl : ∀ i, rn i ≤ 10) (crg : ∀ i, tq_rg (b_cells i)) (hcs : tq_CS nf fr rn m cs b_chosen) (hni : ni ≤ 4) (il : ∀ i, ik i ≤ 4) (cl : ∀ i, ic i ≤ 8) (hok : ∀ i, i < ni → ik i ≠ 1 → tq_pc nf fr (ic i / 3) < 3) (hg : g ≤ 8) (hgp : tq_pc nf fr (g / 3) < 3)
    (hp : ∀ (n0 : Nat) (b_at b_results : Nat → Int32), n0 ≤ 1000 → tq_GS m ni ik ic (tq_D nf fr b_cells (fun j => tq_mx (tq_C nf fr rn) (cs j))) (fun c => (tq_D nf fr b_cells (fun j => tq_mx (tq_C nf fr rn) (cs j))) c g) n0 (fun t i => b_results (4 * t + i)) → wY_answer_92 post (nI nf) (nI ni) (nI nt) (nI g) g_distinct g_orderItem g_orderDown g_most g_truthCount g_openCount (nI m) (nI n0) b_cells (tq_n rn) (tq_n fr) (tq_n ik) (tq_n ic) (tq_n tk) b_at b_truths b_open b_chosen b_results) :
    ∀ (n t rs : Nat) (gv : Nat → Int32) (b_at b_results : Nat → Int32), 101 < n + t → t ≤ 101 → rs ≤ t → tq_EN (· < ·) (fun v => (∃ c, c < m ∧ (tq_D nf fr b_cells (fun j => tq_mx (tq_C nf fr rn) (cs j))) c g = v) ∧ v.toInt < (t : Int) - 50) gv rs → (∀ x, x < rs → tq_GR m ni ik ic (tq_D nf fr b_cells (fun j => tq_mx (tq_C nf fr rn) (cs j))) (fun c => (tq_D nf fr b_cells (fun j => tq_mx (tq_C nf fr rn) (cs j))) c g) (gv x) (fun i => b_results (4 * x + i))) →
    wY_answer_60 post n (nI t - 50) (nI nf) (nI ni) (nI nt) (nI g) g_distinct g_orderItem g_orderDown g_most g_truthCount g_openCount (nI m) (nI rs) b_cells (tq_n rn) (tq_n fr) (tq_n ik) (tq_n ic) (tq_n tk) b_at b_truths b_open b_chosen b_results := by
  have e50 : (50 : Int32).toInt = 50 := by decide
  have drg : ∀ c, tq_rg ((tq_D nf fr b_cells (fun j => tq_mx (tq_C nf fr rn) (cs j))) c g) := by
    intro c
    unfold tq_D
    rw [tq_vv_lo (by omega)]
    exact crg _
  intro n
  induction n with
  | zero => intro t rs gv b_at b_results q1 q2; omega
  | succ n ih =>
    intro t rs gv b_at b_results hf ht hrs hEN hGR
    have iv := tq_iv t (by omega)
    rcases Nat.lt_or_ge t 101 with z | z
    rotate_left
    · refine br_t (by rw [Int32.lt_iff_toInt_lt, iv, e50]; omega) (hp rs b_at b_results (by omega) ⟨gv, tq_en_iff (fun v => ?_) hEN, hGR⟩)
      constructor
      · exact fun q => q.1
      · rintro ⟨c, c1, c2⟩
        refine ⟨⟨c, c1, c2⟩, ?_⟩
        have := drg c
        rw [show tq_D nf fr b_cells (fun j => tq_mx (tq_C nf fr rn) (cs j)) c g = v from c2] at this
        unfold tq_rg at this
        omega
    refine br_f (by rw [Int32.lt_iff_toInt_lt, iv, e50]; omega) (br_f (nI_pos (by omega)) ?_)
    refine yw_hasGroup d h0 fl rl hcs hg hgp (fun q b_at => ?_) (fun q b_at => ?_)
    · dsimp only
      refine br_f (by decide) ?_
      refine yw_addSummaries (K := fun c => (tq_D nf fr b_cells (fun j => tq_mx (tq_C nf fr rn) (cs j))) c g) d h0 fl rl hcs hni il cl hok (by omega) (Or.inr ⟨g, hg, rfl, hgp, fun _ => rfl⟩) (fun at' res' h1 h2 => ?_)
      dsimp only
      refine nm_r (tq_iv1 t) (ih (t + 1) (rs + 1) (tq_u gv rs (nI t - 50)) at' res' (by omega) (by omega) (by omega) (tq_en_s (x := nI t - 50) hEN (fun i hi => tq_un (by omega)) tq_us (fun y hy => ?_) (fun y => ?_)) (fun x hx => ?_))
      · rw [Int32.lt_iff_toInt_lt, iv]; exact hy.2
      · constructor
        · rintro ⟨y1, y2⟩
          rcases Int.lt_or_le y.toInt ((t : Int) - 50) with w | w
          · exact Or.inl ⟨y1, w⟩
          · refine Or.inr (Int32.toInt_inj.mp ?_)
            rw [iv]; omega
        · rintro (⟨y1, y2⟩ | y1)
          · exact ⟨y1, by omega⟩
          · rw [y1, iv]; exact ⟨q, by omega⟩
      · by_cases a : x = rs
        · rw [a, tq_us]; exact h2
        · rw [tq_un a]
          exact tq_GR_cg (fun i hi => h1 _ (by omega)) (hGR x (by omega))
    · dsimp only
      refine br_t rfl (nm_r (tq_iv1 t) (ih (t + 1) rs gv b_at b_results (by omega) (by omega) (by omega) (tq_en_iff (fun y => ?_) hEN) hGR))
      constructor
      · rintro ⟨y1, y2⟩
        exact ⟨y1, by omega⟩
      · rintro ⟨y1, y2⟩
        refine ⟨y1, ?_⟩
        rcases Int.lt_or_le y.toInt ((t : Int) - 50) with w | w
        · exact w
        · have : y = nI t - 50 := Int32.toInt_inj.mp (by rw [iv]; omega)
          rw [this] at y1
          exact absurd y1 q
end
section
variable {nf ni nt : Nat} {fr ik ic tk rn : Nat → Nat} {g_grouped g_distinct g_orderItem g_orderDown g_most g_truthCount g_openCount g_chosenCount g_resultCount : Int32} {b_cells b_at b_truths b_open b_chosen b_results : Nat → Int32}
theorem yw_answer {post : Int32 → SY → Prop} (d : tq_ds nf fr) (fl : ∀ i, fr i < 3) (rl : ∀ i, rn i ≤ 10) (tl : ∀ i, tk i ≤ 36) (h24 : nt ≤ 24) (crg : ∀ i, tq_rg (b_cells i)) (hni : ni ≤ 4) (il : ∀ i, ik i ≤ 4) (cl : ∀ i, ic i ≤ 8) (hg : g_grouped = -1 ∨ ∃ g, g ≤ 8 ∧ g_grouped = nI g) (ho : g_orderItem = -1 ∨ ∃ o, o ≤ 3 ∧ g_orderItem = nI o) (hl : g_most = -1 ∨ ∃ l, l ≤ 50 ∧ g_most = nI l)
    (h4 : nf = 0 → post (-4000) ((nI nf), (nI ni), (nI nt), g_grouped, g_distinct, g_orderItem, g_orderDown, g_most, g_truthCount, g_openCount, g_chosenCount, g_resultCount, b_cells, (tq_n rn), (tq_n fr), (tq_n ik), (tq_n ic), (tq_n tk), b_at, b_truths, b_open, b_chosen, b_results)) (h5 : nf ≠ 0 → tq_cnd nt tk (tq_ok nf fr) = none → post (-5000) ((nI nf), (nI ni), (nI nt), g_grouped, g_distinct, g_orderItem, g_orderDown, g_most, g_truthCount, g_openCount, g_chosenCount, g_resultCount, b_cells, (tq_n rn), (tq_n fr), (tq_n ik), (tq_n ic), (tq_n tk), b_at, b_truths, b_open, b_chosen, b_results)) (h6 : ∀ f, nf ≠ 0 → tq_cnd nt tk (tq_ok nf fr) = some f → tq_bad nf ni fr ik ic g_grouped g_orderItem → post (-6000) ((nI nf), (nI ni), (nI nt), g_grouped, g_distinct, g_orderItem, g_orderDown, g_most, g_truthCount, g_openCount, g_chosenCount, g_resultCount, b_cells, (tq_n rn), (tq_n fr), (tq_n ik), (tq_n ic), (tq_n tk), b_at, b_truths, b_open, b_chosen, b_results))
    (hp : ∀ f, nf ≠ 0 → tq_cnd nt tk (tq_ok nf fr) = some f → ¬ tq_bad nf ni fr ik ic g_grouped g_orderItem → ∀ (m n : Nat) (e : Nat → Nat) (R : Nat → Nat → Int32) (g_truthCount g_openCount : Int32) (b_at b_truths b_open b_chosen b_results : Nat → Int32), m ≤ 1000 → n ≤ 1000 → tq_EN (· < ·) (tq_ch nf fr rn b_cells f) e m → tq_AN m ni ik ic g_grouped g_distinct g_orderItem g_orderDown g_most (tq_D nf fr b_cells e) n R → (∀ r, r < n → ∀ i, i < ni → b_results (4 * r + i) = R r i) → post 0 ((nI nf), (nI ni), (nI nt), g_grouped, g_distinct, g_orderItem, g_orderDown, g_most, g_truthCount, g_openCount, (nI m), (nI n), b_cells, (tq_n rn), (tq_n fr), (tq_n ik), (tq_n ic), (tq_n tk), b_at, b_truths, b_open, b_chosen, b_results)) :
    wpY_answer post ((nI nf), (nI ni), (nI nt), g_grouped, g_distinct, g_orderItem, g_orderDown, g_most, g_truthCount, g_openCount, g_chosenCount, g_resultCount, b_cells, (tq_n rn), (tq_n fr), (tq_n ik), (tq_n ic), (tq_n tk), b_at, b_truths, b_open, b_chosen, b_results) := by
  unfold wpY_answer
  dsimp only
  refine yw_fault d fl h24 tl hni il cl hg (fun q => br_f (by decide) (h4 q)) (fun q1 q2 => br_f (by decide) (h5 q1 q2)) (fun f q1 q2 q3 => br_f (by decide) (h6 f q1 q2 q3)) (fun f q1 q2 q3 => br_t rfl ?_)
  obtain ⟨nb1, nb2, nb3, nb4⟩ := tq_nb_use q3
  have ho' : g_orderItem = -1 ∨ ∃ o, o ≤ 3 ∧ g_orderItem = nI o ∧ o < ni := by
    rcases ho with q | ⟨o, o1, o2⟩
    · exact Or.inl q
    · refine Or.inr ⟨o, o1, o2, ?_⟩
      rw [o2, nI_leI (by omega) (by omega)] at nb1
      omega
  refine yw_choose d q1 fl rl tl h24 q2 (fun m cs g_truthCount g_openCount b_at b_truths b_open b_chosen hm hEN hcs => ?_)
  dsimp only
  have CS : tq_CS nf fr rn m cs b_chosen := ⟨hm, fun j hj => ⟨hcs j hj, (hEN.2.1 j hj).1⟩⟩
  have EN := tq_gn_en rl hEN
  have tail : ∀ (n0 : Nat) (R0 : Nat → Nat → Int32) (b_at b_results : Nat → Int32), n0 ≤ 1000 → tq_RW ni n0 R0 b_results → tq_RB m ni ik ic g_grouped (tq_D nf fr b_cells (fun j => tq_mx (tq_C nf fr rn) (cs j))) n0 R0 → wY_answer_92 post (nI nf) (nI ni) (nI nt) g_grouped g_distinct g_orderItem g_orderDown g_most g_truthCount g_openCount (nI m) (nI n0) b_cells (tq_n rn) (tq_n fr) (tq_n ik) (tq_n ic) (tq_n tk) b_at b_truths b_open b_chosen b_results := by
    intro n0 R0 b_at b_results hn0 hRW hRB
    exact yw_an92 hni hn0 ho' hl hRW hRB (fun n R b_results hn hAN hR => hp f q1 q2 q3 m n _ R _ _ _ _ _ _ _ hm hn EN hAN hR)
  rcases hg with hg | ⟨g, g1, g2⟩
  · subst hg
    have imm : ∀ (n0 : Nat) (R0 : Nat → Nat → Int32) (b_at b_results : Nat → Int32), n0 ≤ 1000 → tq_RW ni n0 R0 b_results → tq_RB m ni ik ic (-1) (tq_D nf fr b_cells (fun j => tq_mx (tq_C nf fr rn) (cs j))) n0 R0 → ∃ n60 : Nat, wY_answer_60 post n60 (-50) (nI nf) (nI ni) (nI nt) (-1) g_distinct g_orderItem g_orderDown g_most g_truthCount g_openCount (nI m) (nI n0) b_cells (tq_n rn) (tq_n fr) (tq_n ik) (tq_n ic) (tq_n tk) b_at b_truths b_open b_chosen b_results := fun n0 R0 b_at b_results a b c => ⟨1, br_f (by decide) (br_t (by decide) (tail n0 R0 b_at b_results a b c))⟩
    have nz : ∀ (su : tq_su ni ik (-1)), ∀ i, i < ni → ik i ≠ 0 := by
      intro su i hi w
      have := nb4 i hi su w
      have c := cl i
      have p := nI_pos (n := ic i) (by omega)
      rw [this] at p
      exact p (by decide)
    refine br_f tq_m1 ?_
    refine yw_hasSummary hni il (fun q => br_f (by decide) (br_f tq_m1 ?_)) (fun q => br_t rfl ?_)
    · have su : tq_su ni ik (-1) := Or.inr q
      refine yw_hasSummary hni il (fun _ => br_f (by decide) ?_) (fun w => absurd q w)
      refine yw_addSummaries (rs := 0) (K := fun _ => 0) d q1 fl rl CS hni il cl nb3 (by omega) (Or.inl ⟨rfl, fun _ => rfl⟩) (fun at' res' h1 h2 => ?_)
      dsimp only
      exact imm 1 (fun r i => res' (4 * r + i)) at' res' (by omega) (fun r _ i _ => rfl) (Or.inr (Or.inl ⟨su, rfl, rfl, h2⟩))
    · have su : ¬ tq_su ni ik (-1) := by
        rintro (w | w)
        · exact w (by decide)
        · exact q w
      refine yw_addPlain d q1 fl rl CS hni cl (fun i hi => nb3 i hi (fun w => q ⟨i, hi, by omega⟩)) (fun b_at b_results hRW => ?_)
      dsimp only
      refine br_f tq_m1 ?_
      refine yw_hasSummary hni il (fun w => absurd w q) (fun _ => br_t rfl ?_)
      exact imm m _ b_at b_results hm hRW (Or.inl ⟨su, rfl, fun _ _ _ _ => rfl⟩)
  · subst g2
    refine br_t (nI_pos' (by omega)) (br_t (nI_pos' (by omega)) ⟨102, ?_⟩)
    exact yw_an60 d q1 fl rl crg CS hni il cl nb3 g1 (nb2 g g1 rfl) (fun n0 b_at b_results hn0 hGS => tail n0 (fun r i => b_results (4 * r + i)) b_at b_results hn0 (fun r _ i _ => rfl) (Or.inr (Or.inr ⟨g, g1, rfl, hGS⟩))) 102 0 0 (fun _ => 0) b_at b_results (by omega) (by omega) (by omega) (tq_en_0 (fun v hv => by
      obtain ⟨⟨c, c1, c2⟩, hv2⟩ := hv
      have : tq_rg v := by
        rw [← c2]
        unfold tq_D
        rw [tq_vv_lo (by omega)]
        exact crg _
      unfold tq_rg at this
      omega)) (fun x hx => absurd hx (by omega))
end
end
section

/-- what is wrong -/
def tq_FL (nf ni nt : Nat) (fr ik ic tk : Nat → Nat) (grp oi : Int32) (r : Int32) : Prop := (r = -4000 ∧ nf = 0) ∨ (r = -5000 ∧ nf ≠ 0 ∧ tq_cnd nt tk (tq_ok nf fr) = none) ∨ (r = -6000 ∧ nf ≠ 0 ∧ ∃ f, tq_cnd nt tk (tq_ok nf fr) = some f ∧ tq_bad nf ni fr ik ic grp oi)
theorem tq_FL_neg {nf ni nt : Nat} {fr ik ic tk : Nat → Nat} {grp oi r : Int32} (h : tq_FL nf ni nt fr ik ic tk grp oi r) : r = -4000 ∨ r = -5000 ∨ r = -6000 := by
  rcases h with h | h | h
  · exact Or.inl h.1
  · exact Or.inr (Or.inl h.1)
  · exact Or.inr (Or.inr h.1)
/-- what is known of both answers -/
theorem tq_meet {nf ni nt : Nat} {fr ik ic tk rn : Nat → Nat} {grp dst oi od lim : Int32} {cx cy : Nat → Int32} (q : tq_Q nf ni nt fr ik ic tk rn grp dst oi od lim cx cy) {f : tq_V} (hf : tq_cnd nt tk (tq_ok nf fr) = some f) (hnb : ¬ tq_bad nf ni fr ik ic grp oi) {m m' n n' : Nat} {e e' : Nat → Nat} {R R' : Nat → Nat → Int32}
    (h1 : tq_EN (· < ·) (tq_ch nf fr rn cx f) e m) (h2 : tq_EN (· < ·) (tq_ch nf fr rn cy f) e' m') (a1 : tq_AN m ni ik ic grp dst oi od lim (tq_D nf fr cx e) n R) (a2 : tq_AN m' ni ik ic grp dst oi od lim (tq_D nf fr cy e') n' R') : m = m' ∧ n = n' ∧ ∀ r, r < n → ∀ i, i < ni → R r i = R' r i := by
  obtain ⟨q1, q2, q3, q4, q5, q6, q7, q8, q9, q10, q11, q12, q13, q14, q15, q16, q17⟩ := q
  obtain ⟨nb1, nb2, nb3, nb4⟩ := tq_nb_use hnb
  have h2' := tq_en_iff (fun c => (tq_ch_ag q4 q17 (tq_cnd_dpd hf) c).symm) h2
  have em := tq_en_n tq_lt_n_ir tq_lt_n_tr h1 h2'
  subst em
  have ee := tq_en_eq tq_lt_n_ir tq_lt_n_tr h1 h2'
  have dd : ∀ c, c < m → ∀ k, k ≤ 8 → tq_pc nf fr (k / 3) < 3 → tq_D nf fr cx e c k = tq_D nf fr cy e' c k := by
    intro c hc k hk hpc
    unfold tq_D
    rw [← ee c hc hc]
    exact tq_vv_ag q4 q17 (h1.2.1 c hc).2.1 (decide_eq_true ⟨by omega, Or.inr hpc⟩)
  have ho : oi < 0 ∨ oi.toNatClampNeg < ni := by
    rcases q12 with w | ⟨o, o1, o2⟩
    · rw [w]; exact Or.inl (by decide)
    · rw [o2, nI_leI (by omega) (by omega)] at nb1
      rw [o2, nI_clamp (by omega)]
      exact Or.inr (by omega)
  exact ⟨rfl, tq_AN_un ho (fun c hc i hi w => dd c hc _ (q7 i) (nb3 i hi w)) (fun g g1 g2 c hc => dd c hc g g1 (nb2 g g1 g2)) a1 a2⟩
section
variable {nf ni nt : Nat} {fr ik ic tk rn : Nat → Nat} {f_group f_distinct f_orderItem f_orderDown f_limit f_nodes f_waitingNodes f_waitingWords f_broken f_top f_parts f_combos f_nextCombos f_placed f_results : Int32} {a_cells a_kind a_left a_right a_needs a_truth a_waitNode a_waitWord a_part a_canCount a_can a_combo a_nextCombo a_current a_stays a_result a_index a_sorted a_key a_table : Nat → Int32} {g_truthCount g_openCount g_chosenCount g_resultCount : Int32} {b_cells b_at b_truths b_open b_chosen b_results : Nat → Int32}
theorem yw_ansF {post : Int32 → SY → Prop} {r : Int32} (q : tq_Q nf ni nt fr ik ic tk rn f_group f_distinct f_orderItem f_orderDown f_limit a_cells b_cells) (h : tq_FL nf ni nt fr ik ic tk f_group f_orderItem r) (hp : post r ((nI nf), (nI ni), (nI nt), f_group, f_distinct, f_orderItem, f_orderDown, f_limit, g_truthCount, g_openCount, g_chosenCount, g_resultCount, b_cells, (tq_n rn), (tq_n fr), (tq_n ik), (tq_n ic), (tq_n tk), b_at, b_truths, b_open, b_chosen, b_results)) : wpY_answer post ((nI nf), (nI ni), (nI nt), f_group, f_distinct, f_orderItem, f_orderDown, f_limit, g_truthCount, g_openCount, g_chosenCount, g_resultCount, b_cells, (tq_n rn), (tq_n fr), (tq_n ik), (tq_n ic), (tq_n tk), b_at, b_truths, b_open, b_chosen, b_results) := by
  obtain ⟨q1, q2, q3, q4, q5, q6, q7, q8, q9, q10, q11, q12, q13, q14, q15, q16, q17⟩ := q
  refine yw_answer ⟨q1, q5⟩ q4 q9 q8 q3 q16 q2 q6 q7 q10 q12 q14 (fun w => ?_) (fun w1 w2 => ?_) (fun f w1 w2 w3 => ?_) (fun f w1 w2 w3 => ?_)
  · rcases h with ⟨h, _⟩ | ⟨_, h, _⟩ | ⟨_, h, _⟩
    · rw [h] at hp; exact hp
    · exact absurd w h
    · exact absurd w h
  · rcases h with ⟨_, h⟩ | ⟨h, _⟩ | ⟨_, _, f, h, _⟩
    · exact absurd h w1
    · rw [h] at hp; exact hp
    · rw [w2] at h; exact absurd h (by simp)
  · rcases h with ⟨_, h⟩ | ⟨_, _, h⟩ | ⟨h, _⟩
    · exact absurd h w1
    · rw [w2] at h; exact absurd h (by simp)
    · rw [h] at hp; exact hp
  · rcases h with ⟨_, h⟩ | ⟨_, _, h⟩ | ⟨_, _, f', _, h⟩
    · exact absurd h w1
    · rw [w2] at h; exact absurd h (by simp)
    · exact absurd h w3
theorem yw_ansS {post : Int32 → SY → Prop} {f : tq_V} {m n : Nat} {e : Nat → Nat} {R : Nat → Nat → Int32} (q : tq_Q nf ni nt fr ik ic tk rn f_group f_distinct f_orderItem f_orderDown f_limit a_cells b_cells) (h0 : nf ≠ 0) (hf : tq_cnd nt tk (tq_ok nf fr) = some f) (hnb : ¬ tq_bad nf ni fr ik ic f_group f_orderItem) (hE : tq_EN (· < ·) (tq_ch nf fr rn a_cells f) e m) (hA : tq_AN m ni ik ic f_group f_distinct f_orderItem f_orderDown f_limit (tq_D nf fr a_cells e) n R)
    (hp : ∀ (g_truthCount g_openCount : Int32) (b_at b_truths b_open b_chosen b_results : Nat → Int32), (∀ r, r < n → ∀ i, i < ni → b_results (4 * r + i) = R r i) → post 0 ((nI nf), (nI ni), (nI nt), f_group, f_distinct, f_orderItem, f_orderDown, f_limit, g_truthCount, g_openCount, (nI m), (nI n), b_cells, (tq_n rn), (tq_n fr), (tq_n ik), (tq_n ic), (tq_n tk), b_at, b_truths, b_open, b_chosen, b_results)) : wpY_answer post ((nI nf), (nI ni), (nI nt), f_group, f_distinct, f_orderItem, f_orderDown, f_limit, g_truthCount, g_openCount, g_chosenCount, g_resultCount, b_cells, (tq_n rn), (tq_n fr), (tq_n ik), (tq_n ic), (tq_n tk), b_at, b_truths, b_open, b_chosen, b_results) := by
  have q0 := q
  obtain ⟨q1, q2, q3, q4, q5, q6, q7, q8, q9, q10, q11, q12, q13, q14, q15, q16, q17⟩ := q
  refine yw_answer ⟨q1, q5⟩ q4 q9 q8 q3 q16 q2 q6 q7 q10 q12 q14 (fun w => absurd w h0) (fun w1 w2 => ?_) (fun f w1 w2 w3 => absurd w3 hnb) (fun f' w1 w2 w3 m' n' e' R' => ?_)
  · rw [hf] at w2; exact absurd w2 (by simp)
  · intro g_truthCount g_openCount b_at b_truths b_open b_chosen b_results hm hn hE' hA' hR'
    have ef : f' = f := by rw [hf] at w2; exact (Option.some.inj w2).symm
    subst ef
    obtain ⟨k1, k2, k3⟩ := tq_meet q0 hf hnb hE hE' hA hA'
    subst k1
    subst k2
    exact hp _ _ _ _ _ _ _ (fun r hr i hi => by rw [hR' r hr i hi, k3 r hr i hi])
theorem xw_work2 {post : Int32 → SX → Prop} (q : tq_Q nf ni nt fr ik ic tk rn f_group f_distinct f_orderItem f_orderDown f_limit a_cells b_cells) (hF : ∀ r, tq_FL nf ni nt fr ik ic tk f_group f_orderItem r → ∀ (f_nodes f_waitingNodes f_waitingWords f_broken f_top f_parts f_combos f_nextCombos f_placed f_results : Int32) (a_kind a_left a_right a_needs a_truth a_waitNode a_waitWord a_part a_canCount a_can a_combo a_nextCombo a_current a_stays a_result a_index a_sorted a_key a_table : Nat → Int32), post r ((nI nf), (nI ni), (nI nt), f_group, f_distinct, f_orderItem, f_orderDown, f_limit, f_nodes, f_waitingNodes, f_waitingWords, f_broken, f_top, f_parts, f_combos, f_nextCombos, f_placed, f_results, (tq_n rn), a_cells, (tq_n fr), (tq_n ik), (tq_n ic), (tq_n tk), a_kind, a_left, a_right, a_needs, a_truth, a_waitNode, a_waitWord, a_part, a_canCount, a_can, a_combo, a_nextCombo, a_current, a_stays, a_result, a_index, a_sorted, a_key, a_table))
    (hp : ∀ f, nf ≠ 0 → tq_cnd nt tk (tq_ok nf fr) = some f → ¬ tq_bad nf ni fr ik ic f_group f_orderItem → ∀ (m n : Nat) (e ix : Nat → Nat) (R : Nat → Nat → Int32) (f_nodes f_waitingNodes f_waitingWords f_broken f_top f_parts f_nextCombos f_placed f_results : Int32) (a_kind a_left a_right a_needs a_truth a_waitNode a_waitWord a_part a_canCount a_can a_combo a_nextCombo a_current a_stays a_result a_index a_sorted a_key a_table : Nat → Int32), m ≤ 1000 → n ≤ 1000 → tq_EN (· < ·) (tq_ch nf fr rn a_cells f) e m → tq_AN m ni ik ic f_group f_distinct f_orderItem f_orderDown f_limit (tq_D nf fr a_cells e) n R → (∀ r, r < n → a_index r = nI (ix r) ∧ ix r < 1000) → (∀ r, r < n → ∀ i, i < ni → a_result (4 * ix r + i) = R r i) → post (nI n) ((nI nf), (nI ni), (nI nt), f_group, f_distinct, f_orderItem, f_orderDown, f_limit, f_nodes, f_waitingNodes, f_waitingWords, f_broken, f_top, f_parts, (nI m), f_nextCombos, f_placed, f_results, (tq_n rn), a_cells, (tq_n fr), (tq_n ik), (tq_n ic), (tq_n tk), a_kind, a_left, a_right, a_needs, a_truth, a_waitNode, a_waitWord, a_part, a_canCount, a_can, a_combo, a_nextCombo, a_current, a_stays, a_result, a_index, a_sorted, a_key, a_table)) : wpX_work post ((nI nf), (nI ni), (nI nt), f_group, f_distinct, f_orderItem, f_orderDown, f_limit, f_nodes, f_waitingNodes, f_waitingWords, f_broken, f_top, f_parts, f_combos, f_nextCombos, f_placed, f_results, (tq_n rn), a_cells, (tq_n fr), (tq_n ik), (tq_n ic), (tq_n tk), a_kind, a_left, a_right, a_needs, a_truth, a_waitNode, a_waitWord, a_part, a_canCount, a_can, a_combo, a_nextCombo, a_current, a_stays, a_result, a_index, a_sorted, a_key, a_table) := by
  obtain ⟨q1, q2, q3, q4, q5, q6, q7, q8, q9, q10, q11, q12, q13, q14, q15, q16, q17⟩ := q
  exact xw_work ⟨q1, q5⟩ q4 q9 q8 q3 q15 q2 q6 q7 q10 q12 q14 (fun w => hF _ (Or.inl ⟨rfl, w⟩)) (fun w1 w2 => hF _ (Or.inr (Or.inl ⟨rfl, w1, w2⟩))) (fun f w1 w2 w3 => hF _ (Or.inr (Or.inr ⟨rfl, w1, f, w2, w3⟩))) hp
end
theorem i_vc_ask {k : Nat} {u : SX} {v : SY} (I : i_Rel k u v) (hk : k + 5 ≤ 2560) : wpX_ask (fun r u' => wpY_ask (fun r' v' => r' = r ∧ i_Rel (k + 5) u' v') v) u := by
  refine tq_el (P := fun u v => wpX_ask (fun r u' => wpY_ask (fun r' v' => r' = r ∧ i_Rel (k + 5) u' v') v) u) ?_ I
  intro nf ni nt fr ik ic tk rn f_group f_distinct f_orderItem f_orderDown f_limit f_nodes f_waitingNodes f_waitingWords f_broken f_top f_parts f_combos f_nextCombos f_placed f_results a_cells a_kind a_left a_right a_needs a_truth a_waitNode a_waitWord a_part a_canCount a_can a_combo a_nextCombo a_current a_stays a_result a_index a_sorted a_key a_table g_truthCount g_openCount g_chosenCount g_resultCount b_cells b_at b_truths b_open b_chosen b_results q
  unfold wpX_ask
  dsimp only
  refine xw_work2 q (fun r hr => ?_) (fun f h0 hf hnb m n e ix R => ?_)
  · intro f_nodes f_waitingNodes f_waitingWords f_broken f_top f_parts f_combos f_nextCombos f_placed f_results a_kind a_left a_right a_needs a_truth a_waitNode a_waitWord a_part a_canCount a_can a_combo a_nextCombo a_current a_stays a_result a_index a_sorted a_key a_table
    dsimp only
    unfold wpY_ask
    dsimp only
    refine yw_ansF q hr ?_
    dsimp only
    refine br_f ?_ ⟨rfl, tq_in q⟩
    rcases tq_FL_neg hr with w | w | w <;> rw [w] <;> decide
  · intro f_nodes f_waitingNodes f_waitingWords f_broken f_top f_parts f_nextCombos f_placed f_results a_kind a_left a_right a_needs a_truth a_waitNode a_waitWord a_part a_canCount a_can a_combo a_nextCombo a_current a_stays a_result a_index a_sorted a_key a_table hm hn hE hA hix hR
    dsimp only
    unfold wpY_ask
    dsimp only
    refine yw_ansS q h0 hf hnb hE hA ?_
    intro g_truthCount g_openCount b_at b_truths b_open b_chosen b_results hRy
    dsimp only
    exact br_t rfl ⟨rfl, tq_in q⟩
theorem i_vc_staying {k : Nat} {u : SX} {v : SY} (I : i_Rel k u v) (hk : k + 5 ≤ 2560) : wpX_staying (fun r u' => wpY_staying (fun r' v' => r' = r ∧ i_Rel (k + 5) u' v') v) u := by
  refine tq_el (P := fun u v => wpX_staying (fun r u' => wpY_staying (fun r' v' => r' = r ∧ i_Rel (k + 5) u' v') v) u) ?_ I
  intro nf ni nt fr ik ic tk rn f_group f_distinct f_orderItem f_orderDown f_limit f_nodes f_waitingNodes f_waitingWords f_broken f_top f_parts f_combos f_nextCombos f_placed f_results a_cells a_kind a_left a_right a_needs a_truth a_waitNode a_waitWord a_part a_canCount a_can a_combo a_nextCombo a_current a_stays a_result a_index a_sorted a_key a_table g_truthCount g_openCount g_chosenCount g_resultCount b_cells b_at b_truths b_open b_chosen b_results q
  unfold wpX_staying
  dsimp only
  refine xw_work2 q (fun r hr => ?_) (fun f h0 hf hnb m n e ix R => ?_)
  · intro f_nodes f_waitingNodes f_waitingWords f_broken f_top f_parts f_combos f_nextCombos f_placed f_results a_kind a_left a_right a_needs a_truth a_waitNode a_waitWord a_part a_canCount a_can a_combo a_nextCombo a_current a_stays a_result a_index a_sorted a_key a_table
    dsimp only
    refine br_f (by rcases tq_FL_neg hr with w | w | w <;> rw [w] <;> decide) ?_
    unfold wpY_staying
    dsimp only
    refine yw_ansF q hr ?_
    dsimp only
    refine br_f ?_ ⟨rfl, tq_in q⟩
    rcases tq_FL_neg hr with w | w | w <;> rw [w] <;> decide
  · intro f_nodes f_waitingNodes f_waitingWords f_broken f_top f_parts f_nextCombos f_placed f_results a_kind a_left a_right a_needs a_truth a_waitNode a_waitWord a_part a_canCount a_can a_combo a_nextCombo a_current a_stays a_result a_index a_sorted a_key a_table hm hn hE hA hix hR
    dsimp only
    refine br_t (nI_pos' (by omega)) ?_
    unfold wpY_staying
    dsimp only
    refine yw_ansS q h0 hf hnb hE hA ?_
    intro g_truthCount g_openCount b_at b_truths b_open b_chosen b_results hRy
    dsimp only
    exact br_t rfl ⟨rfl, tq_in q⟩
theorem i_vc_cell {k : Nat} {u : SX} {v : SY} (I : i_Rel k u v) (hk : k + 5 ≤ 2560) (v1 : Int32) (v2 : Int32) : wpX_cell (fun r u' => wpY_cell (fun r' v' => r' = r ∧ i_Rel (k + 5) u' v') v v1 v2) u v1 v2 := by
  refine tq_el (P := fun u v => wpX_cell (fun r u' => wpY_cell (fun r' v' => r' = r ∧ i_Rel (k + 5) u' v') v v1 v2) u v1 v2) ?_ I
  intro nf ni nt fr ik ic tk rn f_group f_distinct f_orderItem f_orderDown f_limit f_nodes f_waitingNodes f_waitingWords f_broken f_top f_parts f_combos f_nextCombos f_placed f_results a_cells a_kind a_left a_right a_needs a_truth a_waitNode a_waitWord a_part a_canCount a_can a_combo a_nextCombo a_current a_stays a_result a_index a_sorted a_key a_table g_truthCount g_openCount g_chosenCount g_resultCount b_cells b_at b_truths b_open b_chosen b_results q
  unfold wpX_cell
  dsimp only
  refine xw_work2 q (fun r hr => ?_) (fun f h0 hf hnb m n e ix R => ?_)
  · intro f_nodes f_waitingNodes f_waitingWords f_broken f_top f_parts f_combos f_nextCombos f_placed f_results a_kind a_left a_right a_needs a_truth a_waitNode a_waitWord a_part a_canCount a_can a_combo a_nextCombo a_current a_stays a_result a_index a_sorted a_key a_table
    dsimp only
    have Y : wpY_cell (fun r' v' => r' = -3000 ∧ i_Rel (k + 5) ((nI nf), (nI ni), (nI nt), f_group, f_distinct, f_orderItem, f_orderDown, f_limit, f_nodes, f_waitingNodes, f_waitingWords, f_broken, f_top, f_parts, f_combos, f_nextCombos, f_placed, f_results, (tq_n rn), a_cells, (tq_n fr), (tq_n ik), (tq_n ic), (tq_n tk), a_kind, a_left, a_right, a_needs, a_truth, a_waitNode, a_waitWord, a_part, a_canCount, a_can, a_combo, a_nextCombo, a_current, a_stays, a_result, a_index, a_sorted, a_key, a_table) v') ((nI nf), (nI ni), (nI nt), f_group, f_distinct, f_orderItem, f_orderDown, f_limit, g_truthCount, g_openCount, g_chosenCount, g_resultCount, b_cells, (tq_n rn), (tq_n fr), (tq_n ik), (tq_n ic), (tq_n tk), b_at, b_truths, b_open, b_chosen, b_results) v1 v2 := by
      unfold wpY_cell
      dsimp only
      refine yw_ansF q hr ?_
      dsimp only
      refine br_f ?_ ⟨rfl, tq_in q⟩
      rcases tq_FL_neg hr with w | w | w <;> rw [w] <;> decide
    refine br_c (fun _ => Y) (fun g => br_t ?_ Y)
    obtain ⟨j, j1, rfl⟩ := nI_of g
    rw [Int32.le_iff_toInt_le, nI_toInt j1]
    have a1 : (-4000 : Int32).toInt = -4000 := by decide
    have a2 : (-5000 : Int32).toInt = -5000 := by decide
    have a3 : (-6000 : Int32).toInt = -6000 := by decide
    rcases tq_FL_neg hr with w | w | w <;> rw [w] <;> omega
  · intro f_nodes f_waitingNodes f_waitingWords f_broken f_top f_parts f_nextCombos f_placed f_results a_kind a_left a_right a_needs a_truth a_waitNode a_waitWord a_part a_canCount a_can a_combo a_nextCombo a_current a_stays a_result a_index a_sorted a_key a_table hm hn hE hA hix hR
    dsimp only
    have ni4 := q.2.1
    by_cases g1 : v1 < 0
    · refine br_t g1 ?_
      unfold wpY_cell
      dsimp only
      refine yw_ansS q h0 hf hnb hE hA ?_
      intro g_truthCount g_openCount b_at b_truths b_open b_chosen b_results hRy
      dsimp only
      exact br_t rfl (br_t g1 ⟨rfl, tq_in q⟩)
    refine br_f g1 ?_
    by_cases g2 : nI n ≤ v1
    · refine br_t g2 ?_
      unfold wpY_cell
      dsimp only
      refine yw_ansS q h0 hf hnb hE hA ?_
      intro g_truthCount g_openCount b_at b_truths b_open b_chosen b_results hRy
      dsimp only
      exact br_t rfl (br_f g1 (br_t g2 ⟨rfl, tq_in q⟩))
    refine br_f g2 ?_
    by_cases g3 : v2 < 0
    · refine br_t g3 ?_
      unfold wpY_cell
      dsimp only
      refine yw_ansS q h0 hf hnb hE hA ?_
      intro g_truthCount g_openCount b_at b_truths b_open b_chosen b_results hRy
      dsimp only
      exact br_t rfl (br_f g1 (br_f g2 (br_t g3 ⟨rfl, tq_in q⟩)))
    refine br_f g3 ?_
    by_cases g4 : v2 < nI ni
    rotate_left
    · refine br_f g4 ?_
      unfold wpY_cell
      dsimp only
      refine yw_ansS q h0 hf hnb hE hA ?_
      intro g_truthCount g_openCount b_at b_truths b_open b_chosen b_results hRy
      dsimp only
      exact br_t rfl (br_f g1 (br_f g2 (br_f g3 (br_f g4 ⟨rfl, tq_in q⟩))))
    refine br_t g4 ?_
    obtain ⟨r, r1, rfl⟩ := nI_of g1
    obtain ⟨i, i1, rfl⟩ := nI_of g3
    have g2' := g2
    have g4' := g4
    rw [nI_leI (by omega) r1] at g2'
    rw [nI_ltI i1 (by omega)] at g4'
    obtain ⟨x1, x2⟩ := hix r (by omega)
    rw [nI_clamp r1, x1, tq_4, nI_clamp (show 4 * ix r + i < 2 ^ 31 by omega), hR r (by omega) i g4']
    refine ⟨vp_in_nI (by omega) (by decide), vp_in_nI (by omega) (by decide), ?_⟩
    unfold wpY_cell
    dsimp only
    refine yw_ansS q h0 hf hnb hE hA ?_
    intro g_truthCount g_openCount b_at b_truths b_open b_chosen b_results hRy
    dsimp only
    refine br_t rfl (br_f g1 (br_f g2 (br_f g3 (br_t g4 ?_))))
    rw [tq_4, nI_clamp (show 4 * r + i < 2 ^ 31 by omega), hRy r (by omega) i g4']
    exact ⟨vp_in_nI (by omega) (by decide), rfl, tq_in q⟩
/-! the digest -/
def tq_di (R : Nat → Nat → Int32) (r : Nat) (s : Int32) : Nat → Int32
  | 0 => s
  | i + 1 => tq_di R r s i + ((nI r + 1) * (nI i + 3)) * R r i
def tq_dr (ni : Nat) (R : Nat → Nat → Int32) : Nat → Int32
  | 0 => 0
  | r + 1 => tq_di R r (tq_dr ni R r) ni
section
variable {nf ni nt : Nat} {fr ik ic tk rn : Nat → Nat} {f_group f_distinct f_orderItem f_orderDown f_limit f_nodes f_waitingNodes f_waitingWords f_broken f_top f_parts f_combos f_nextCombos f_placed f_results : Int32} {a_cells a_kind a_left a_right a_needs a_truth a_waitNode a_waitWord a_part a_canCount a_can a_combo a_nextCombo a_current a_stays a_result a_index a_sorted a_key a_table : Nat → Int32} {g_truthCount g_openCount g_chosenCount g_resultCount : Int32} {b_cells b_at b_truths b_open b_chosen b_results : Nat → Int32}
theorem xw_dg17 {post : Int32 → SX → Prop} {J : Int32 → Int32 → Prop} {x1 s : Int32} {n r : Nat} {ix : Nat → Nat} {R : Nat → Nat → Int32} (hni : ni ≤ 4) (hn : n ≤ 1000) (hr : r < n) (hix : ∀ r, r < n → a_index r = nI (ix r) ∧ ix r < 1000) (hR : ∀ r, r < n → ∀ i, i < ni → a_result (4 * ix r + i) = R r i)
    (hJ : J (tq_di R r s ni) (nI (r + 1))) : ∀ (c i : Nat), ni < c + i → i ≤ ni → wX_digest_17 post J x1 (nI r) (nI nf) (nI ni) (nI nt) f_group f_distinct f_orderItem f_orderDown f_limit f_nodes f_waitingNodes f_waitingWords f_broken f_top f_parts f_combos f_nextCombos f_placed f_results (tq_n rn) a_cells (tq_n fr) (tq_n ik) (tq_n ic) (tq_n tk) a_kind a_left a_right a_needs a_truth a_waitNode a_waitWord a_part a_canCount a_can a_combo a_nextCombo a_current a_stays a_result a_index a_sorted a_key a_table c (tq_di R r s i) (nI i) := by
  intro c
  induction c with
  | zero => intro i q1 q2; omega
  | succ c ih =>
    intro i hf hi
    rcases Nat.lt_or_ge i ni with z | z
    rotate_left
    · have : i = ni := by omega
      subst this
      exact br_t (nI_le z (by omega)) (nm_r (nI_1 r) hJ)
    obtain ⟨x1', x2'⟩ := hix r hr
    refine br_f (nI_ge z (by omega)) ⟨vp_in_nI (by omega) (by decide), ?_⟩
    rw [nI_clamp (show r < 2 ^ 31 by omega), x1', tq_4, nI_clamp (show 4 * ix r + i < 2 ^ 31 by omega), hR r hr i z]
    exact ⟨vp_in_nI (by omega) (by decide), nm_e (nm_r (nI_1 i) (ih (i + 1) (by omega) (by omega)))⟩
theorem xw_dg9 {post : Int32 → SX → Prop} {n : Nat} {ix : Nat → Nat} {R : Nat → Nat → Int32} (hni : ni ≤ 4) (hn : n ≤ 1000) (hix : ∀ r, r < n → a_index r = nI (ix r) ∧ ix r < 1000) (hR : ∀ r, r < n → ∀ i, i < ni → a_result (4 * ix r + i) = R r i)
    (hp : post (tq_dr ni R n) ((nI nf), (nI ni), (nI nt), f_group, f_distinct, f_orderItem, f_orderDown, f_limit, f_nodes, f_waitingNodes, f_waitingWords, f_broken, f_top, f_parts, f_combos, f_nextCombos, f_placed, f_results, (tq_n rn), a_cells, (tq_n fr), (tq_n ik), (tq_n ic), (tq_n tk), a_kind, a_left, a_right, a_needs, a_truth, a_waitNode, a_waitWord, a_part, a_canCount, a_can, a_combo, a_nextCombo, a_current, a_stays, a_result, a_index, a_sorted, a_key, a_table)) : ∀ (c r : Nat), n < c + r → r ≤ n → wX_digest_9 post (nI n) (nI nf) (nI ni) (nI nt) f_group f_distinct f_orderItem f_orderDown f_limit f_nodes f_waitingNodes f_waitingWords f_broken f_top f_parts f_combos f_nextCombos f_placed f_results (tq_n rn) a_cells (tq_n fr) (tq_n ik) (tq_n ic) (tq_n tk) a_kind a_left a_right a_needs a_truth a_waitNode a_waitWord a_part a_canCount a_can a_combo a_nextCombo a_current a_stays a_result a_index a_sorted a_key a_table c (tq_dr ni R r) (nI r) := by
  intro c
  induction c with
  | zero => intro r q1 q2; omega
  | succ c ih =>
    intro r hf hr
    rcases Nat.lt_or_ge r n with z | z
    rotate_left
    · have : r = n := by omega
      subst this
      exact br_t (nI_le z (by omega)) hp
    refine br_f (nI_ge z (by omega)) ⟨ni + 1, ?_⟩
    exact xw_dg17 hni hn z hix hR (ih (r + 1) (by omega) (by omega)) (ni + 1) 0 (by omega) (by omega)
theorem yw_dg23 {post : Int32 → SY → Prop} {J : Int32 → Int32 → Prop} {s : Int32} {n r : Nat} {R : Nat → Nat → Int32} (hni : ni ≤ 4) (hn : n ≤ 1000) (hr : r < n) (hR : ∀ r, r < n → ∀ i, i < ni → b_results (4 * r + i) = R r i)
    (hJ : J (tq_di R r s ni) (nI (r + 1))) : ∀ (c i : Nat), ni < c + i → i ≤ ni → wY_digest_23 post J (nI r) (nI nf) (nI ni) (nI nt) f_group f_distinct f_orderItem f_orderDown f_limit g_truthCount g_openCount g_chosenCount g_resultCount b_cells (tq_n rn) (tq_n fr) (tq_n ik) (tq_n ic) (tq_n tk) b_at b_truths b_open b_chosen b_results c (tq_di R r s i) (nI i) := by
  intro c
  induction c with
  | zero => intro i q1 q2; omega
  | succ c ih =>
    intro i hf hi
    rcases Nat.lt_or_ge i ni with z | z
    rotate_left
    · have : i = ni := by omega
      subst this
      exact br_t (nI_le z (by omega)) (nm_r (nI_1 r) hJ)
    refine br_f (nI_ge z (by omega)) ?_
    rw [tq_4, nI_clamp (show 4 * r + i < 2 ^ 31 by omega), hR r hr i z]
    exact ⟨vp_in_nI (by omega) (by decide), nm_e (nm_r (nI_1 i) (ih (i + 1) (by omega) (by omega)))⟩
theorem yw_dg13 {post : Int32 → SY → Prop} {n : Nat} {R : Nat → Nat → Int32} (hni : ni ≤ 4) (hn : n ≤ 1000) (hR : ∀ r, r < n → ∀ i, i < ni → b_results (4 * r + i) = R r i)
    (hp : post (tq_dr ni R n) ((nI nf), (nI ni), (nI nt), f_group, f_distinct, f_orderItem, f_orderDown, f_limit, g_truthCount, g_openCount, g_chosenCount, (nI n), b_cells, (tq_n rn), (tq_n fr), (tq_n ik), (tq_n ic), (tq_n tk), b_at, b_truths, b_open, b_chosen, b_results)) : ∀ (c r : Nat), n < c + r → r ≤ n → wY_digest_13 post (nI nf) (nI ni) (nI nt) f_group f_distinct f_orderItem f_orderDown f_limit g_truthCount g_openCount g_chosenCount (nI n) b_cells (tq_n rn) (tq_n fr) (tq_n ik) (tq_n ic) (tq_n tk) b_at b_truths b_open b_chosen b_results c (tq_dr ni R r) (nI r) := by
  intro c
  induction c with
  | zero => intro r q1 q2; omega
  | succ c ih =>
    intro r hf hr
    rcases Nat.lt_or_ge r n with z | z
    rotate_left
    · have : r = n := by omega
      subst this
      exact br_t (nI_le z (by omega)) hp
    refine br_f (nI_ge z (by omega)) ⟨ni + 1, ?_⟩
    exact yw_dg23 hni hn z hR (ih (r + 1) (by omega) (by omega)) (ni + 1) 0 (by omega) (by omega)
end
theorem i_vc_digest {k : Nat} {u : SX} {v : SY} (I : i_Rel k u v) (hk : k + 5 ≤ 2560) : wpX_digest (fun r u' => wpY_digest (fun r' v' => r' = r ∧ i_Rel (k + 5) u' v') v) u := by
  refine tq_el (P := fun u v => wpX_digest (fun r u' => wpY_digest (fun r' v' => r' = r ∧ i_Rel (k + 5) u' v') v) u) ?_ I
  intro nf ni nt fr ik ic tk rn f_group f_distinct f_orderItem f_orderDown f_limit f_nodes f_waitingNodes f_waitingWords f_broken f_top f_parts f_combos f_nextCombos f_placed f_results a_cells a_kind a_left a_right a_needs a_truth a_waitNode a_waitWord a_part a_canCount a_can a_combo a_nextCombo a_current a_stays a_result a_index a_sorted a_key a_table g_truthCount g_openCount g_chosenCount g_resultCount b_cells b_at b_truths b_open b_chosen b_results q
  unfold wpX_digest
  dsimp only
  have ni4 := q.2.1
  refine xw_work2 q (fun r hr => ?_) (fun f h0 hf hnb m n e ix R => ?_)
  · intro f_nodes f_waitingNodes f_waitingWords f_broken f_top f_parts f_combos f_nextCombos f_placed f_results a_kind a_left a_right a_needs a_truth a_waitNode a_waitWord a_part a_canCount a_can a_combo a_nextCombo a_current a_stays a_result a_index a_sorted a_key a_table
    dsimp only
    refine ⟨1, br_t (by rcases tq_FL_neg hr with w | w | w <;> rw [w] <;> decide) ?_⟩
    unfold wpY_digest
    dsimp only
    refine yw_ansF q hr ?_
    dsimp only
    refine br_f ?_ ⟨rfl, tq_in q⟩
    rcases tq_FL_neg hr with w | w | w <;> rw [w] <;> decide
  · intro f_nodes f_waitingNodes f_waitingWords f_broken f_top f_parts f_nextCombos f_placed f_results a_kind a_left a_right a_needs a_truth a_waitNode a_waitWord a_part a_canCount a_can a_combo a_nextCombo a_current a_stays a_result a_index a_sorted a_key a_table hm hn hE hA hix hR
    dsimp only
    refine ⟨n + 1, xw_dg9 ni4 hn hix hR ?_ (n + 1) 0 (by omega) (by omega)⟩
    unfold wpY_digest
    dsimp only
    refine yw_ansS q h0 hf hnb hE hA ?_
    intro g_truthCount g_openCount b_at b_truths b_open b_chosen b_results hRy
    dsimp only
    exact br_t rfl ⟨n + 1, yw_dg13 ni4 hn hRy ⟨rfl, tq_in q⟩ (n + 1) 0 (by omega) (by omega)⟩
end
