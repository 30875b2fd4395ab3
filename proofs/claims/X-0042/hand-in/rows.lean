section
/-! pure rows to paste: stores, nI and lN arithmetic, masks, shifts, narrowing, branches by naturals (pk_le, pk_lt, pk_eq), loops (lp1 .. lp16: the measure of the state; rp1 ..: recursion), negatives. Take what you need -/
theorem pk_us {f : Nat → Int32} {k : Nat} {x : Int32} : upd f k x k = x := if_pos rfl
theorem pk_un {f : Nat → Int32} {k j : Nat} {x : Int32} (h : j ≠ k) : upd f k x j = f j := if_neg h
theorem pk_uLs {f : Nat → Int64} {k : Nat} {x : Int64} : vp_updL f k x k = x := if_pos rfl
theorem pk_uLn {f : Nat → Int64} {k j : Nat} {x : Int64} (h : j ≠ k) : vp_updL f k x j = f j := if_neg h
theorem pk_sub {a b : Nat} (h : b ≤ a) : nI a - nI b = nI (a - b) := by
  obtain ⟨c, rfl⟩ : ∃ c, a = c + b := ⟨a - b, by omega⟩
  rw [← nI_add, Int32.add_sub_cancel, Nat.add_sub_cancel]
theorem pk_m1 (n : Nat) : nI (n + 1) + (-1) = nI n := by
  rw [← nI_1, Int32.add_assoc, show (1 : Int32) + (-1) = 0 from rfl, Int32.add_zero]
theorem pk_mul (a b : Nat) : nI a * nI b = nI (a * b) := (Int32.ofNat_mul a b).symm
theorem pk_div {a d : Nat} (ha : a < 2 ^ 31) (h0 : 0 < d) (hd : d < 2 ^ 31) : nI a / nI d = nI (a / d) := by
  apply Int32.toInt_inj.mp
  rw [lg_idiv_nonneg (by rw [nI_toInt ha]; omega) (by rw [nI_toInt hd]; omega), nI_toInt ha, nI_toInt hd, nI_toInt (Nat.lt_of_le_of_lt (Nat.div_le_self a d) ha)]
  first | rfl | exact (Int.natCast_ediv _ _).symm
theorem pk_rem {a d : Nat} (ha : a < 2 ^ 31) (h0 : 0 < d) (hd : d < 2 ^ 31) : nI a - nI a / nI d * nI d = nI (a % d) := by
  rw [pk_div ha h0 hd, pk_mul, pk_sub (Nat.div_mul_le_self a d)]
  exact congrArg nI (by have := Nat.div_add_mod' a d; omega)
theorem pk_sub_toInt {a b : Nat} (ha : a < 2 ^ 30) (hb : b < 2 ^ 30) : (nI a - nI b).toInt = (a : Int) - b := by
  rw [Int32.toInt_sub, nI_toInt (by omega), nI_toInt (by omega)]
  exact Int.bmod_eq_of_le (by omega) (by omega)
theorem pk_sneg {a b : Nat} (hb : b < 2 ^ 30) (h : a < b) : nI a - nI b < 0 := by
  rw [Int32.lt_iff_toInt_lt, pk_sub_toInt (by omega) hb, show (0 : Int32).toInt = 0 from by decide]
  omega
theorem pk_ix (x : Int32) {n : Nat} (hn : n < 2 ^ 31) : x < 0 ∨ nI n ≤ x ∨ ∃ j : Nat, j < n ∧ x = nI j := by
  by_cases h : x < 0
  · exact Or.inl h
  · obtain ⟨j, hj, rfl⟩ := nI_of h
    by_cases h2 : j < n
    · exact Or.inr (Or.inr ⟨j, h2, rfl⟩)
    · exact Or.inr (Or.inl (nI_le (by omega) hj))
theorem pk_le {x y : Int32} {A B : Prop} (a b : Nat) (f : a ≤ b → A) (g : b < a → B) (hx : x = nI a := by rfl) (hy : y = nI b := by rfl) (ha : a < 2 ^ 31 := by omega) (hb : b < 2 ^ 31 := by omega) : (x ≤ y → A) ∧ (¬ x ≤ y → B) := by
  subst hx hy
  rw [nI_leI ha hb]
  exact ⟨f, fun z => g (by omega)⟩
theorem pk_lt {x y : Int32} {A B : Prop} (a b : Nat) (f : a < b → A) (g : b ≤ a → B) (hx : x = nI a := by rfl) (hy : y = nI b := by rfl) (ha : a < 2 ^ 31 := by omega) (hb : b < 2 ^ 31 := by omega) : (x < y → A) ∧ (¬ x < y → B) := by
  subst hx hy
  rw [nI_ltI ha hb]
  exact ⟨f, fun z => g (by omega)⟩
theorem pk_eq {x y : Int32} {A B : Prop} (a b : Nat) (f : a = b → A) (g : a ≠ b → B) (hx : x = nI a := by rfl) (hy : y = nI b := by rfl) (ha : a < 2 ^ 31 := by omega) (hb : b < 2 ^ 31 := by omega) : (x = y → A) ∧ (¬ x = y → B) := by
  subst hx hy
  rw [nI_eq ha hb]
  exact ⟨f, g⟩
theorem pk_in {x : Int32} (n N : Nat) (h : n < N) (hx : x = nI n := by rfl) (hN : N < 2 ^ 31 := by omega) : vp_in x N := by
  subst hx
  exact vp_in_nI h hN
theorem pk_cl {x : Int32} (n : Nat) (hx : x = nI n := by rfl) (h : n < 2 ^ 31 := by omega) : x.toNatClampNeg = n := by
  subst hx
  exact nI_clamp h
theorem pk_tn {n : Nat} (h : n < 2 ^ 32) : (nI n).toBitVec.toNat = n := Nat.mod_eq_of_lt h
theorem pk_and (x : Int32) {m : Int32} (k : Nat) (hm : m.toBitVec.toNat = 2 ^ k - 1) : x &&& m = nI (x.toBitVec.toNat % 2 ^ k) := by
  apply Int32.toBitVec_inj.mp
  apply BitVec.eq_of_toNat_eq
  rw [Int32.toBitVec_and, BitVec.toNat_and, hm, Nat.and_two_pow_sub_one_eq_mod]
  show _ = (BitVec.ofNat 32 _).toNat
  rw [BitVec.toNat_ofNat]
  exact (Nat.mod_eq_of_lt (Nat.lt_of_le_of_lt (Nat.mod_le _ _) x.toBitVec.isLt)).symm
theorem pk_andN {n : Nat} (h : n < 2 ^ 32) {m : Int32} (k : Nat) (hm : m.toBitVec.toNat = 2 ^ k - 1) : nI n &&& m = nI (n % 2 ^ k) := by
  rw [pk_and _ k hm, pk_tn h]
theorem pk_andE (x : Int32) {m : Int32} (k : Nat) (hm : m.toBitVec.toNat = 2 ^ k - 1) : ∃ j : Nat, j < 2 ^ k ∧ x &&& m = nI j := ⟨_, Nat.mod_lt _ (Nat.two_pow_pos k), pk_and x k hm⟩
theorem pk_andIn (x : Int32) {m : Int32} (k : Nat) (hm : m.toBitVec.toNat = 2 ^ k - 1) (hk : k ≤ 30) : vp_in (x &&& m) (2 ^ k) := by
  obtain ⟨j, hj, e⟩ := pk_andE x k hm
  rw [e]
  exact vp_in_nI hj (Nat.lt_of_le_of_lt (Nat.pow_le_pow_right (by decide) hk) (by decide))
theorem pk_shl (a s : Int32) (k : Nat) (hs : (s.toBitVec.smod 32).toNat = k) : (a <<< s).toBitVec.toNat = a.toBitVec.toNat * 2 ^ k % 2 ^ 32 := by
  show (a.toBitVec <<< (s.toBitVec.smod 32).toNat).toNat = _
  rw [hs, BitVec.toNat_shiftLeft, Nat.shiftLeft_eq]
theorem pk_shlN {n : Nat} (s : Int32) (k : Nat) (hs : (s.toBitVec.smod 32).toNat = k) (h : n * 2 ^ k < 2 ^ 32) : nI n <<< s = nI (n * 2 ^ k) := by
  apply Int32.toBitVec_inj.mp
  apply BitVec.eq_of_toNat_eq
  have hn : n < 2 ^ 32 := Nat.lt_of_le_of_lt (Nat.le_mul_of_pos_right n (Nat.two_pow_pos k)) h
  rw [pk_shl _ _ k hs, pk_tn hn, pk_tn h, Nat.mod_eq_of_lt h]
theorem pk_shr (a s : Int32) (k : Nat) (hs : (s.toBitVec.smod 32).toNat = k) : (a >>> s).toInt = a.toInt >>> k := by
  show (a.toBitVec.sshiftRight (s.toBitVec.smod 32).toNat).toInt = _
  rw [hs, BitVec.toInt_sshiftRight]
  rfl
theorem pk_shrN {n : Nat} (h : n < 2 ^ 31) (s : Int32) (k : Nat) (hs : (s.toBitVec.smod 32).toNat = k) : nI n >>> s = nI (n / 2 ^ k) := by
  apply Int32.toInt_inj.mp
  have h2 : n / 2 ^ k ≤ n := Nat.div_le_self _ _
  rw [pk_shr _ _ k hs, nI_toInt h, nI_toInt (by omega), Int.shiftRight_eq_div_pow]
  rfl
theorem pk_ushr (x s : Int32) (k : Nat) (hs : ((s.toUInt32 &&& Int32.toUInt32 31).toBitVec % 32).toNat = k) : (x.toUInt32 >>> (s.toUInt32 &&& Int32.toUInt32 31)).toInt32.toBitVec.toNat = x.toBitVec.toNat / 2 ^ k := by
  have e : (x.toUInt32 >>> (s.toUInt32 &&& Int32.toUInt32 31)).toInt32.toBitVec = x.toBitVec >>> k := by
    rw [← hs]
    exact UInt32.toBitVec_shiftRight _ _
  rw [e, BitVec.toNat_ushiftRight, Nat.shiftRight_eq_div_pow]
theorem pk_ushrN {n : Nat} (hn : n < 2 ^ 32) (s : Int32) (k : Nat) (hs : ((s.toUInt32 &&& Int32.toUInt32 31).toBitVec % 32).toNat = k) : ((nI n).toUInt32 >>> (s.toUInt32 &&& Int32.toUInt32 31)).toInt32 = nI (n / 2 ^ k) := by
  apply Int32.toBitVec_inj.mp
  apply BitVec.eq_of_toNat_eq
  rw [pk_ushr _ s k hs, pk_tn hn, pk_tn (Nat.lt_of_le_of_lt (Nat.div_le_self _ _) hn)]
theorem pk_nb (z : Int32) : narrow .byte (.int z.toInt8.toInt32) = .int z.toInt8.toInt32 := congrArg Value.int (by simp)
theorem pk_ns (z : Int32) : narrow .short (.int z.toInt16.toInt32) = .int z.toInt16.toInt32 := congrArg Value.int (by simp)
theorem pk_fb (r : Int32) : fits .byte (.int r.toInt8.toInt32) = true := by
  have ⟨a, b⟩ := lg_i2b_range r
  have h1 : (-128 : Int32).toInt = -128 := by decide
  have h2 : (127 : Int32).toInt = 127 := by decide
  simp only [fits, Bool.and_eq_true, decide_eq_true_eq, Int32.le_iff_toInt_le, h1, h2]
  omega
theorem pk_fs (r : Int32) : fits .short (.int r.toInt16.toInt32) = true := by
  have ⟨a, b⟩ := lg_i2s_range r
  have h1 : (-32768 : Int32).toInt = -32768 := by decide
  have h2 : (32767 : Int32).toInt = 32767 := by decide
  simp only [fits, Bool.and_eq_true, decide_eq_true_eq, Int32.le_iff_toInt_le, h1, h2]
  omega
theorem pk_charN {q : Nat} (hq : q < 65536) : narrow .char (.int (nI q)) = .int (nI q) ∧ fits .char (.int (nI q)) = true := by
  constructor
  · have e : (nI q).toUInt32.toUInt16.toUInt32.toInt32 = nI q := by
      apply Int32.toBitVec_inj.mp
      apply BitVec.eq_of_toNat_eq
      show (nI q).toUInt32.toUInt16.toUInt32.toNat = q % 2 ^ 32
      rw [UInt16.toNat_toUInt32, UInt32.toNat_toUInt16, show (nI q).toUInt32.toNat = q % 2 ^ 32 from rfl]
      omega
    exact congrArg Value.int e
  · have a : (0 : Int32) ≤ nI q := nI_pos' (by omega)
    have b : nI q ≤ 65535 := nI_le (b := 65535) (by omega) (by decide)
    show (decide ((0 : Int32) ≤ nI q) && decide (nI q ≤ 65535)) = true
    rw [decide_eq_true a, decide_eq_true b]
    rfl
theorem pk_char (x : Int32) : (x.toUInt32 % 65536).toInt32 = nI (x.toBitVec.toNat % 65536) := by
  apply Int32.toBitVec_inj.mp
  apply BitVec.eq_of_toNat_eq
  rw [pk_tn (by omega)]
  show (x.toUInt32 % 65536).toNat = _
  rw [UInt32.toNat_mod]
  rfl
theorem pk_nc (x : Int32) : narrow .char (.int (x.toUInt32 % 65536).toInt32) = .int (x.toUInt32 % 65536).toInt32 := by
  rw [pk_char]
  exact (pk_charN (Nat.mod_lt _ (by decide))).1
theorem pk_fc (x : Int32) : fits .char (.int (x.toUInt32 % 65536).toInt32) = true := by
  rw [pk_char]
  exact (pk_charN (Nat.mod_lt _ (by decide))).2
theorem pk_vb (z : Int32) : vp_nar .byte z.toInt8.toInt32 = z.toInt8.toInt32 := by rw [vp_nar_byte]; simp
theorem pk_vs (z : Int32) : vp_nar .short z.toInt16.toInt32 = z.toInt16.toInt32 := by rw [vp_nar_short]; simp
theorem pk_vc (z : Int32) : vp_nar .char (z.toUInt32 % 65536).toInt32 = (z.toUInt32 % 65536).toInt32 := Value.int.inj (pk_nc z)
theorem pk_lT {n : Nat} (h : n < 2 ^ 63) : (lN n).toInt = (n : Int) := lg_ofNat_toInt h
theorem pk_lLT {a b : Nat} (ha : a < 2 ^ 63) (hb : b < 2 ^ 63) : lN a < lN b ↔ a < b := by
  rw [Int64.lt_iff_toInt_lt, pk_lT ha, pk_lT hb]; omega
theorem pk_lLE {a b : Nat} (ha : a < 2 ^ 63) (hb : b < 2 ^ 63) : lN a ≤ lN b ↔ a ≤ b := by
  rw [Int64.le_iff_toInt_le, pk_lT ha, pk_lT hb]; omega
theorem pk_lEQ {a b : Nat} (ha : a < 2 ^ 63) (hb : b < 2 ^ 63) : lN a = lN b ↔ a = b := by
  rw [← Int64.toInt_inj, pk_lT ha, pk_lT hb]; omega
theorem pk_lOf {x : Int64} (h : ¬ x < 0) : ∃ k : Nat, k < 2 ^ 63 ∧ x = lN k := by
  rw [Int64.lt_iff_toInt_lt] at h
  have h0 : (0 : Int64).toInt = 0 := by decide
  have hx := Int64.toInt_lt x
  refine ⟨x.toInt.toNat, by omega, Int64.toInt_inj.mp ?_⟩
  rw [pk_lT (by omega)]
  omega
theorem pk_lDiv {a b : Nat} (ha : a < 2 ^ 63) (h0 : 0 < b) (hb : b < 2 ^ 63) : lN a / lN b = lN (a / b) := by
  apply Int64.toInt_inj.mp
  rw [lg_ldiv_nonneg (by rw [pk_lT ha]; omega) (by rw [pk_lT hb]; omega), pk_lT ha, pk_lT hb, pk_lT (Nat.lt_of_le_of_lt (Nat.div_le_self a b) ha)]
  rfl
theorem pk_lRem {a b : Nat} (ha : a < 2 ^ 63) (h0 : 0 < b) (hb : b < 2 ^ 63) : lN a - lN a / lN b * lN b = lN (a % b) := by
  rw [pk_lDiv ha h0 hb, lN_mul, lN_sub (Nat.div_mul_le_self a b)]
  exact congrArg lN (by have := Nat.div_add_mod' a b; omega)
theorem pk_loop {σ : Type} (W : Nat → Nat → σ → Prop) (I : Nat → σ → Prop) (e i0 : Nat) (s : σ) (hi : i0 ≤ e) (h0 : I i0 s) (hx : ∀ n s, I e s → W (n + 1) e s)
    (hs : ∀ n i s, i < e → I i s → (∀ s', I (i + 1) s' → W n (i + 1) s') → W (n + 1) i s) : ∃ n, W n i0 s :=
  ⟨e + 1, loop_i W I e hx hs (e + 1) i0 s hi (by omega) h0⟩
theorem pk_loopD {σ : Type} (W : Nat → Nat → σ → Prop) (I : Nat → σ → Prop) (hx : ∀ n s, I 0 s → W (n + 1) 0 s)
    (hs : ∀ n i s, I (i + 1) s → (∀ s', I i s' → W n i s') → W (n + 1) (i + 1) s) : ∀ (e : Nat) (s : σ), I e s → W (e + 1) e s := by
  intro e
  induction e with
  | zero => exact fun s h => hx 0 s h
  | succ e ih => exact fun s h => hs (e + 1) e s h (fun s' h' => ih s' h')
theorem lp1 {A1 : Type} (W : Nat → A1 → Prop) (I : A1 → Prop) (μ : A1 → Nat) (hs : ∀ (n : Nat) (a1 : A1), I a1 → (∀ (b1 : A1), I b1 → μ b1 < μ a1 → W n b1) → W (n + 1) a1) (a1 : A1) (h : I a1) : ∃ n, W n a1 :=
  loop_m (σ := A1) (fun n s => W n s) (fun s => I s) (fun s => μ s) (fun n s hI hk => hs n s hI (fun b1 h9 hm => hk b1 h9 hm)) a1 h
theorem lp2 {A1 A2 : Type} (W : Nat → A1 → A2 → Prop) (I : A1 → A2 → Prop) (μ : A1 → A2 → Nat) (hs : ∀ (n : Nat) (a1 : A1) (a2 : A2), I a1 a2 → (∀ (b1 : A1) (b2 : A2), I b1 b2 → μ b1 b2 < μ a1 a2 → W n b1 b2) → W (n + 1) a1 a2) (a1 : A1) (a2 : A2) (h : I a1 a2) : ∃ n, W n a1 a2 :=
  loop_m (σ := A1 × A2) (fun n s => W n s.1 s.2) (fun s => I s.1 s.2) (fun s => μ s.1 s.2) (fun n s hI hk => hs n s.1 s.2 hI (fun b1 b2 h9 hm => hk (b1, b2) h9 hm)) (a1, a2) h
theorem lp3 {A1 A2 A3 : Type} (W : Nat → A1 → A2 → A3 → Prop) (I : A1 → A2 → A3 → Prop) (μ : A1 → A2 → A3 → Nat) (hs : ∀ (n : Nat) (a1 : A1) (a2 : A2) (a3 : A3), I a1 a2 a3 → (∀ (b1 : A1) (b2 : A2) (b3 : A3), I b1 b2 b3 → μ b1 b2 b3 < μ a1 a2 a3 → W n b1 b2 b3) → W (n + 1) a1 a2 a3) (a1 : A1) (a2 : A2) (a3 : A3) (h : I a1 a2 a3) : ∃ n, W n a1 a2 a3 :=
  loop_m (σ := A1 × A2 × A3) (fun n s => W n s.1 s.2.1 s.2.2) (fun s => I s.1 s.2.1 s.2.2) (fun s => μ s.1 s.2.1 s.2.2) (fun n s hI hk => hs n s.1 s.2.1 s.2.2 hI (fun b1 b2 b3 h9 hm => hk (b1, b2, b3) h9 hm)) (a1, a2, a3) h
theorem lp4 {A1 A2 A3 A4 : Type} (W : Nat → A1 → A2 → A3 → A4 → Prop) (I : A1 → A2 → A3 → A4 → Prop) (μ : A1 → A2 → A3 → A4 → Nat) (hs : ∀ (n : Nat) (a1 : A1) (a2 : A2) (a3 : A3) (a4 : A4), I a1 a2 a3 a4 → (∀ (b1 : A1) (b2 : A2) (b3 : A3) (b4 : A4), I b1 b2 b3 b4 → μ b1 b2 b3 b4 < μ a1 a2 a3 a4 → W n b1 b2 b3 b4) → W (n + 1) a1 a2 a3 a4) (a1 : A1) (a2 : A2) (a3 : A3) (a4 : A4) (h : I a1 a2 a3 a4) : ∃ n, W n a1 a2 a3 a4 :=
  loop_m (σ := A1 × A2 × A3 × A4) (fun n s => W n s.1 s.2.1 s.2.2.1 s.2.2.2) (fun s => I s.1 s.2.1 s.2.2.1 s.2.2.2) (fun s => μ s.1 s.2.1 s.2.2.1 s.2.2.2) (fun n s hI hk => hs n s.1 s.2.1 s.2.2.1 s.2.2.2 hI (fun b1 b2 b3 b4 h9 hm => hk (b1, b2, b3, b4) h9 hm)) (a1, a2, a3, a4) h
theorem lp5 {A1 A2 A3 A4 A5 : Type} (W : Nat → A1 → A2 → A3 → A4 → A5 → Prop) (I : A1 → A2 → A3 → A4 → A5 → Prop) (μ : A1 → A2 → A3 → A4 → A5 → Nat) (hs : ∀ (n : Nat) (a1 : A1) (a2 : A2) (a3 : A3) (a4 : A4) (a5 : A5), I a1 a2 a3 a4 a5 → (∀ (b1 : A1) (b2 : A2) (b3 : A3) (b4 : A4) (b5 : A5), I b1 b2 b3 b4 b5 → μ b1 b2 b3 b4 b5 < μ a1 a2 a3 a4 a5 → W n b1 b2 b3 b4 b5) → W (n + 1) a1 a2 a3 a4 a5) (a1 : A1) (a2 : A2) (a3 : A3) (a4 : A4) (a5 : A5) (h : I a1 a2 a3 a4 a5) : ∃ n, W n a1 a2 a3 a4 a5 :=
  loop_m (σ := A1 × A2 × A3 × A4 × A5) (fun n s => W n s.1 s.2.1 s.2.2.1 s.2.2.2.1 s.2.2.2.2) (fun s => I s.1 s.2.1 s.2.2.1 s.2.2.2.1 s.2.2.2.2) (fun s => μ s.1 s.2.1 s.2.2.1 s.2.2.2.1 s.2.2.2.2) (fun n s hI hk => hs n s.1 s.2.1 s.2.2.1 s.2.2.2.1 s.2.2.2.2 hI (fun b1 b2 b3 b4 b5 h9 hm => hk (b1, b2, b3, b4, b5) h9 hm)) (a1, a2, a3, a4, a5) h
theorem lp6 {A1 A2 A3 A4 A5 A6 : Type} (W : Nat → A1 → A2 → A3 → A4 → A5 → A6 → Prop) (I : A1 → A2 → A3 → A4 → A5 → A6 → Prop) (μ : A1 → A2 → A3 → A4 → A5 → A6 → Nat) (hs : ∀ (n : Nat) (a1 : A1) (a2 : A2) (a3 : A3) (a4 : A4) (a5 : A5) (a6 : A6), I a1 a2 a3 a4 a5 a6 → (∀ (b1 : A1) (b2 : A2) (b3 : A3) (b4 : A4) (b5 : A5) (b6 : A6), I b1 b2 b3 b4 b5 b6 → μ b1 b2 b3 b4 b5 b6 < μ a1 a2 a3 a4 a5 a6 → W n b1 b2 b3 b4 b5 b6) → W (n + 1) a1 a2 a3 a4 a5 a6) (a1 : A1) (a2 : A2) (a3 : A3) (a4 : A4) (a5 : A5) (a6 : A6) (h : I a1 a2 a3 a4 a5 a6) : ∃ n, W n a1 a2 a3 a4 a5 a6 :=
  loop_m (σ := A1 × A2 × A3 × A4 × A5 × A6) (fun n s => W n s.1 s.2.1 s.2.2.1 s.2.2.2.1 s.2.2.2.2.1 s.2.2.2.2.2) (fun s => I s.1 s.2.1 s.2.2.1 s.2.2.2.1 s.2.2.2.2.1 s.2.2.2.2.2) (fun s => μ s.1 s.2.1 s.2.2.1 s.2.2.2.1 s.2.2.2.2.1 s.2.2.2.2.2) (fun n s hI hk => hs n s.1 s.2.1 s.2.2.1 s.2.2.2.1 s.2.2.2.2.1 s.2.2.2.2.2 hI (fun b1 b2 b3 b4 b5 b6 h9 hm => hk (b1, b2, b3, b4, b5, b6) h9 hm)) (a1, a2, a3, a4, a5, a6) h
theorem lp7 {A1 A2 A3 A4 A5 A6 A7 : Type} (W : Nat → A1 → A2 → A3 → A4 → A5 → A6 → A7 → Prop) (I : A1 → A2 → A3 → A4 → A5 → A6 → A7 → Prop) (μ : A1 → A2 → A3 → A4 → A5 → A6 → A7 → Nat) (hs : ∀ (n : Nat) (a1 : A1) (a2 : A2) (a3 : A3) (a4 : A4) (a5 : A5) (a6 : A6) (a7 : A7), I a1 a2 a3 a4 a5 a6 a7 → (∀ (b1 : A1) (b2 : A2) (b3 : A3) (b4 : A4) (b5 : A5) (b6 : A6) (b7 : A7), I b1 b2 b3 b4 b5 b6 b7 → μ b1 b2 b3 b4 b5 b6 b7 < μ a1 a2 a3 a4 a5 a6 a7 → W n b1 b2 b3 b4 b5 b6 b7) → W (n + 1) a1 a2 a3 a4 a5 a6 a7) (a1 : A1) (a2 : A2) (a3 : A3) (a4 : A4) (a5 : A5) (a6 : A6) (a7 : A7) (h : I a1 a2 a3 a4 a5 a6 a7) : ∃ n, W n a1 a2 a3 a4 a5 a6 a7 :=
  loop_m (σ := A1 × A2 × A3 × A4 × A5 × A6 × A7) (fun n s => W n s.1 s.2.1 s.2.2.1 s.2.2.2.1 s.2.2.2.2.1 s.2.2.2.2.2.1 s.2.2.2.2.2.2) (fun s => I s.1 s.2.1 s.2.2.1 s.2.2.2.1 s.2.2.2.2.1 s.2.2.2.2.2.1 s.2.2.2.2.2.2) (fun s => μ s.1 s.2.1 s.2.2.1 s.2.2.2.1 s.2.2.2.2.1 s.2.2.2.2.2.1 s.2.2.2.2.2.2) (fun n s hI hk => hs n s.1 s.2.1 s.2.2.1 s.2.2.2.1 s.2.2.2.2.1 s.2.2.2.2.2.1 s.2.2.2.2.2.2 hI (fun b1 b2 b3 b4 b5 b6 b7 h9 hm => hk (b1, b2, b3, b4, b5, b6, b7) h9 hm)) (a1, a2, a3, a4, a5, a6, a7) h
theorem lp8 {A1 A2 A3 A4 A5 A6 A7 A8 : Type} (W : Nat → A1 → A2 → A3 → A4 → A5 → A6 → A7 → A8 → Prop) (I : A1 → A2 → A3 → A4 → A5 → A6 → A7 → A8 → Prop) (μ : A1 → A2 → A3 → A4 → A5 → A6 → A7 → A8 → Nat) (hs : ∀ (n : Nat) (a1 : A1) (a2 : A2) (a3 : A3) (a4 : A4) (a5 : A5) (a6 : A6) (a7 : A7) (a8 : A8), I a1 a2 a3 a4 a5 a6 a7 a8 → (∀ (b1 : A1) (b2 : A2) (b3 : A3) (b4 : A4) (b5 : A5) (b6 : A6) (b7 : A7) (b8 : A8), I b1 b2 b3 b4 b5 b6 b7 b8 → μ b1 b2 b3 b4 b5 b6 b7 b8 < μ a1 a2 a3 a4 a5 a6 a7 a8 → W n b1 b2 b3 b4 b5 b6 b7 b8) → W (n + 1) a1 a2 a3 a4 a5 a6 a7 a8) (a1 : A1) (a2 : A2) (a3 : A3) (a4 : A4) (a5 : A5) (a6 : A6) (a7 : A7) (a8 : A8) (h : I a1 a2 a3 a4 a5 a6 a7 a8) : ∃ n, W n a1 a2 a3 a4 a5 a6 a7 a8 :=
  loop_m (σ := A1 × A2 × A3 × A4 × A5 × A6 × A7 × A8) (fun n s => W n s.1 s.2.1 s.2.2.1 s.2.2.2.1 s.2.2.2.2.1 s.2.2.2.2.2.1 s.2.2.2.2.2.2.1 s.2.2.2.2.2.2.2) (fun s => I s.1 s.2.1 s.2.2.1 s.2.2.2.1 s.2.2.2.2.1 s.2.2.2.2.2.1 s.2.2.2.2.2.2.1 s.2.2.2.2.2.2.2) (fun s => μ s.1 s.2.1 s.2.2.1 s.2.2.2.1 s.2.2.2.2.1 s.2.2.2.2.2.1 s.2.2.2.2.2.2.1 s.2.2.2.2.2.2.2) (fun n s hI hk => hs n s.1 s.2.1 s.2.2.1 s.2.2.2.1 s.2.2.2.2.1 s.2.2.2.2.2.1 s.2.2.2.2.2.2.1 s.2.2.2.2.2.2.2 hI (fun b1 b2 b3 b4 b5 b6 b7 b8 h9 hm => hk (b1, b2, b3, b4, b5, b6, b7, b8) h9 hm)) (a1, a2, a3, a4, a5, a6, a7, a8) h
theorem lp9 {A1 A2 A3 A4 A5 A6 A7 A8 A9 : Type} (W : Nat → A1 → A2 → A3 → A4 → A5 → A6 → A7 → A8 → A9 → Prop) (I : A1 → A2 → A3 → A4 → A5 → A6 → A7 → A8 → A9 → Prop) (μ : A1 → A2 → A3 → A4 → A5 → A6 → A7 → A8 → A9 → Nat) (hs : ∀ (n : Nat) (a1 : A1) (a2 : A2) (a3 : A3) (a4 : A4) (a5 : A5) (a6 : A6) (a7 : A7) (a8 : A8) (a9 : A9), I a1 a2 a3 a4 a5 a6 a7 a8 a9 → (∀ (b1 : A1) (b2 : A2) (b3 : A3) (b4 : A4) (b5 : A5) (b6 : A6) (b7 : A7) (b8 : A8) (b9 : A9), I b1 b2 b3 b4 b5 b6 b7 b8 b9 → μ b1 b2 b3 b4 b5 b6 b7 b8 b9 < μ a1 a2 a3 a4 a5 a6 a7 a8 a9 → W n b1 b2 b3 b4 b5 b6 b7 b8 b9) → W (n + 1) a1 a2 a3 a4 a5 a6 a7 a8 a9) (a1 : A1) (a2 : A2) (a3 : A3) (a4 : A4) (a5 : A5) (a6 : A6) (a7 : A7) (a8 : A8) (a9 : A9) (h : I a1 a2 a3 a4 a5 a6 a7 a8 a9) : ∃ n, W n a1 a2 a3 a4 a5 a6 a7 a8 a9 :=
  loop_m (σ := A1 × A2 × A3 × A4 × A5 × A6 × A7 × A8 × A9) (fun n s => W n s.1 s.2.1 s.2.2.1 s.2.2.2.1 s.2.2.2.2.1 s.2.2.2.2.2.1 s.2.2.2.2.2.2.1 s.2.2.2.2.2.2.2.1 s.2.2.2.2.2.2.2.2) (fun s => I s.1 s.2.1 s.2.2.1 s.2.2.2.1 s.2.2.2.2.1 s.2.2.2.2.2.1 s.2.2.2.2.2.2.1 s.2.2.2.2.2.2.2.1 s.2.2.2.2.2.2.2.2) (fun s => μ s.1 s.2.1 s.2.2.1 s.2.2.2.1 s.2.2.2.2.1 s.2.2.2.2.2.1 s.2.2.2.2.2.2.1 s.2.2.2.2.2.2.2.1 s.2.2.2.2.2.2.2.2) (fun n s hI hk => hs n s.1 s.2.1 s.2.2.1 s.2.2.2.1 s.2.2.2.2.1 s.2.2.2.2.2.1 s.2.2.2.2.2.2.1 s.2.2.2.2.2.2.2.1 s.2.2.2.2.2.2.2.2 hI (fun b1 b2 b3 b4 b5 b6 b7 b8 b9 h9 hm => hk (b1, b2, b3, b4, b5, b6, b7, b8, b9) h9 hm)) (a1, a2, a3, a4, a5, a6, a7, a8, a9) h
theorem lp10 {A1 A2 A3 A4 A5 A6 A7 A8 A9 A10 : Type} (W : Nat → A1 → A2 → A3 → A4 → A5 → A6 → A7 → A8 → A9 → A10 → Prop) (I : A1 → A2 → A3 → A4 → A5 → A6 → A7 → A8 → A9 → A10 → Prop) (μ : A1 → A2 → A3 → A4 → A5 → A6 → A7 → A8 → A9 → A10 → Nat) (hs : ∀ (n : Nat) (a1 : A1) (a2 : A2) (a3 : A3) (a4 : A4) (a5 : A5) (a6 : A6) (a7 : A7) (a8 : A8) (a9 : A9) (a10 : A10), I a1 a2 a3 a4 a5 a6 a7 a8 a9 a10 → (∀ (b1 : A1) (b2 : A2) (b3 : A3) (b4 : A4) (b5 : A5) (b6 : A6) (b7 : A7) (b8 : A8) (b9 : A9) (b10 : A10), I b1 b2 b3 b4 b5 b6 b7 b8 b9 b10 → μ b1 b2 b3 b4 b5 b6 b7 b8 b9 b10 < μ a1 a2 a3 a4 a5 a6 a7 a8 a9 a10 → W n b1 b2 b3 b4 b5 b6 b7 b8 b9 b10) → W (n + 1) a1 a2 a3 a4 a5 a6 a7 a8 a9 a10) (a1 : A1) (a2 : A2) (a3 : A3) (a4 : A4) (a5 : A5) (a6 : A6) (a7 : A7) (a8 : A8) (a9 : A9) (a10 : A10) (h : I a1 a2 a3 a4 a5 a6 a7 a8 a9 a10) : ∃ n, W n a1 a2 a3 a4 a5 a6 a7 a8 a9 a10 :=
  loop_m (σ := A1 × A2 × A3 × A4 × A5 × A6 × A7 × A8 × A9 × A10) (fun n s => W n s.1 s.2.1 s.2.2.1 s.2.2.2.1 s.2.2.2.2.1 s.2.2.2.2.2.1 s.2.2.2.2.2.2.1 s.2.2.2.2.2.2.2.1 s.2.2.2.2.2.2.2.2.1 s.2.2.2.2.2.2.2.2.2) (fun s => I s.1 s.2.1 s.2.2.1 s.2.2.2.1 s.2.2.2.2.1 s.2.2.2.2.2.1 s.2.2.2.2.2.2.1 s.2.2.2.2.2.2.2.1 s.2.2.2.2.2.2.2.2.1 s.2.2.2.2.2.2.2.2.2) (fun s => μ s.1 s.2.1 s.2.2.1 s.2.2.2.1 s.2.2.2.2.1 s.2.2.2.2.2.1 s.2.2.2.2.2.2.1 s.2.2.2.2.2.2.2.1 s.2.2.2.2.2.2.2.2.1 s.2.2.2.2.2.2.2.2.2) (fun n s hI hk => hs n s.1 s.2.1 s.2.2.1 s.2.2.2.1 s.2.2.2.2.1 s.2.2.2.2.2.1 s.2.2.2.2.2.2.1 s.2.2.2.2.2.2.2.1 s.2.2.2.2.2.2.2.2.1 s.2.2.2.2.2.2.2.2.2 hI (fun b1 b2 b3 b4 b5 b6 b7 b8 b9 b10 h9 hm => hk (b1, b2, b3, b4, b5, b6, b7, b8, b9, b10) h9 hm)) (a1, a2, a3, a4, a5, a6, a7, a8, a9, a10) h
theorem lp11 {A1 A2 A3 A4 A5 A6 A7 A8 A9 A10 A11 : Type} (W : Nat → A1 → A2 → A3 → A4 → A5 → A6 → A7 → A8 → A9 → A10 → A11 → Prop) (I : A1 → A2 → A3 → A4 → A5 → A6 → A7 → A8 → A9 → A10 → A11 → Prop) (μ : A1 → A2 → A3 → A4 → A5 → A6 → A7 → A8 → A9 → A10 → A11 → Nat) (hs : ∀ (n : Nat) (a1 : A1) (a2 : A2) (a3 : A3) (a4 : A4) (a5 : A5) (a6 : A6) (a7 : A7) (a8 : A8) (a9 : A9) (a10 : A10) (a11 : A11), I a1 a2 a3 a4 a5 a6 a7 a8 a9 a10 a11 → (∀ (b1 : A1) (b2 : A2) (b3 : A3) (b4 : A4) (b5 : A5) (b6 : A6) (b7 : A7) (b8 : A8) (b9 : A9) (b10 : A10) (b11 : A11), I b1 b2 b3 b4 b5 b6 b7 b8 b9 b10 b11 → μ b1 b2 b3 b4 b5 b6 b7 b8 b9 b10 b11 < μ a1 a2 a3 a4 a5 a6 a7 a8 a9 a10 a11 → W n b1 b2 b3 b4 b5 b6 b7 b8 b9 b10 b11) → W (n + 1) a1 a2 a3 a4 a5 a6 a7 a8 a9 a10 a11) (a1 : A1) (a2 : A2) (a3 : A3) (a4 : A4) (a5 : A5) (a6 : A6) (a7 : A7) (a8 : A8) (a9 : A9) (a10 : A10) (a11 : A11) (h : I a1 a2 a3 a4 a5 a6 a7 a8 a9 a10 a11) : ∃ n, W n a1 a2 a3 a4 a5 a6 a7 a8 a9 a10 a11 :=
  loop_m (σ := A1 × A2 × A3 × A4 × A5 × A6 × A7 × A8 × A9 × A10 × A11) (fun n s => W n s.1 s.2.1 s.2.2.1 s.2.2.2.1 s.2.2.2.2.1 s.2.2.2.2.2.1 s.2.2.2.2.2.2.1 s.2.2.2.2.2.2.2.1 s.2.2.2.2.2.2.2.2.1 s.2.2.2.2.2.2.2.2.2.1 s.2.2.2.2.2.2.2.2.2.2) (fun s => I s.1 s.2.1 s.2.2.1 s.2.2.2.1 s.2.2.2.2.1 s.2.2.2.2.2.1 s.2.2.2.2.2.2.1 s.2.2.2.2.2.2.2.1 s.2.2.2.2.2.2.2.2.1 s.2.2.2.2.2.2.2.2.2.1 s.2.2.2.2.2.2.2.2.2.2) (fun s => μ s.1 s.2.1 s.2.2.1 s.2.2.2.1 s.2.2.2.2.1 s.2.2.2.2.2.1 s.2.2.2.2.2.2.1 s.2.2.2.2.2.2.2.1 s.2.2.2.2.2.2.2.2.1 s.2.2.2.2.2.2.2.2.2.1 s.2.2.2.2.2.2.2.2.2.2) (fun n s hI hk => hs n s.1 s.2.1 s.2.2.1 s.2.2.2.1 s.2.2.2.2.1 s.2.2.2.2.2.1 s.2.2.2.2.2.2.1 s.2.2.2.2.2.2.2.1 s.2.2.2.2.2.2.2.2.1 s.2.2.2.2.2.2.2.2.2.1 s.2.2.2.2.2.2.2.2.2.2 hI (fun b1 b2 b3 b4 b5 b6 b7 b8 b9 b10 b11 h9 hm => hk (b1, b2, b3, b4, b5, b6, b7, b8, b9, b10, b11) h9 hm)) (a1, a2, a3, a4, a5, a6, a7, a8, a9, a10, a11) h
theorem lp12 {A1 A2 A3 A4 A5 A6 A7 A8 A9 A10 A11 A12 : Type} (W : Nat → A1 → A2 → A3 → A4 → A5 → A6 → A7 → A8 → A9 → A10 → A11 → A12 → Prop) (I : A1 → A2 → A3 → A4 → A5 → A6 → A7 → A8 → A9 → A10 → A11 → A12 → Prop) (μ : A1 → A2 → A3 → A4 → A5 → A6 → A7 → A8 → A9 → A10 → A11 → A12 → Nat) (hs : ∀ (n : Nat) (a1 : A1) (a2 : A2) (a3 : A3) (a4 : A4) (a5 : A5) (a6 : A6) (a7 : A7) (a8 : A8) (a9 : A9) (a10 : A10) (a11 : A11) (a12 : A12), I a1 a2 a3 a4 a5 a6 a7 a8 a9 a10 a11 a12 → (∀ (b1 : A1) (b2 : A2) (b3 : A3) (b4 : A4) (b5 : A5) (b6 : A6) (b7 : A7) (b8 : A8) (b9 : A9) (b10 : A10) (b11 : A11) (b12 : A12), I b1 b2 b3 b4 b5 b6 b7 b8 b9 b10 b11 b12 → μ b1 b2 b3 b4 b5 b6 b7 b8 b9 b10 b11 b12 < μ a1 a2 a3 a4 a5 a6 a7 a8 a9 a10 a11 a12 → W n b1 b2 b3 b4 b5 b6 b7 b8 b9 b10 b11 b12) → W (n + 1) a1 a2 a3 a4 a5 a6 a7 a8 a9 a10 a11 a12) (a1 : A1) (a2 : A2) (a3 : A3) (a4 : A4) (a5 : A5) (a6 : A6) (a7 : A7) (a8 : A8) (a9 : A9) (a10 : A10) (a11 : A11) (a12 : A12) (h : I a1 a2 a3 a4 a5 a6 a7 a8 a9 a10 a11 a12) : ∃ n, W n a1 a2 a3 a4 a5 a6 a7 a8 a9 a10 a11 a12 :=
  loop_m (σ := A1 × A2 × A3 × A4 × A5 × A6 × A7 × A8 × A9 × A10 × A11 × A12) (fun n s => W n s.1 s.2.1 s.2.2.1 s.2.2.2.1 s.2.2.2.2.1 s.2.2.2.2.2.1 s.2.2.2.2.2.2.1 s.2.2.2.2.2.2.2.1 s.2.2.2.2.2.2.2.2.1 s.2.2.2.2.2.2.2.2.2.1 s.2.2.2.2.2.2.2.2.2.2.1 s.2.2.2.2.2.2.2.2.2.2.2) (fun s => I s.1 s.2.1 s.2.2.1 s.2.2.2.1 s.2.2.2.2.1 s.2.2.2.2.2.1 s.2.2.2.2.2.2.1 s.2.2.2.2.2.2.2.1 s.2.2.2.2.2.2.2.2.1 s.2.2.2.2.2.2.2.2.2.1 s.2.2.2.2.2.2.2.2.2.2.1 s.2.2.2.2.2.2.2.2.2.2.2) (fun s => μ s.1 s.2.1 s.2.2.1 s.2.2.2.1 s.2.2.2.2.1 s.2.2.2.2.2.1 s.2.2.2.2.2.2.1 s.2.2.2.2.2.2.2.1 s.2.2.2.2.2.2.2.2.1 s.2.2.2.2.2.2.2.2.2.1 s.2.2.2.2.2.2.2.2.2.2.1 s.2.2.2.2.2.2.2.2.2.2.2) (fun n s hI hk => hs n s.1 s.2.1 s.2.2.1 s.2.2.2.1 s.2.2.2.2.1 s.2.2.2.2.2.1 s.2.2.2.2.2.2.1 s.2.2.2.2.2.2.2.1 s.2.2.2.2.2.2.2.2.1 s.2.2.2.2.2.2.2.2.2.1 s.2.2.2.2.2.2.2.2.2.2.1 s.2.2.2.2.2.2.2.2.2.2.2 hI (fun b1 b2 b3 b4 b5 b6 b7 b8 b9 b10 b11 b12 h9 hm => hk (b1, b2, b3, b4, b5, b6, b7, b8, b9, b10, b11, b12) h9 hm)) (a1, a2, a3, a4, a5, a6, a7, a8, a9, a10, a11, a12) h
theorem lp13 {A1 A2 A3 A4 A5 A6 A7 A8 A9 A10 A11 A12 A13 : Type} (W : Nat → A1 → A2 → A3 → A4 → A5 → A6 → A7 → A8 → A9 → A10 → A11 → A12 → A13 → Prop) (I : A1 → A2 → A3 → A4 → A5 → A6 → A7 → A8 → A9 → A10 → A11 → A12 → A13 → Prop) (μ : A1 → A2 → A3 → A4 → A5 → A6 → A7 → A8 → A9 → A10 → A11 → A12 → A13 → Nat) (hs : ∀ (n : Nat) (a1 : A1) (a2 : A2) (a3 : A3) (a4 : A4) (a5 : A5) (a6 : A6) (a7 : A7) (a8 : A8) (a9 : A9) (a10 : A10) (a11 : A11) (a12 : A12) (a13 : A13), I a1 a2 a3 a4 a5 a6 a7 a8 a9 a10 a11 a12 a13 → (∀ (b1 : A1) (b2 : A2) (b3 : A3) (b4 : A4) (b5 : A5) (b6 : A6) (b7 : A7) (b8 : A8) (b9 : A9) (b10 : A10) (b11 : A11) (b12 : A12) (b13 : A13), I b1 b2 b3 b4 b5 b6 b7 b8 b9 b10 b11 b12 b13 → μ b1 b2 b3 b4 b5 b6 b7 b8 b9 b10 b11 b12 b13 < μ a1 a2 a3 a4 a5 a6 a7 a8 a9 a10 a11 a12 a13 → W n b1 b2 b3 b4 b5 b6 b7 b8 b9 b10 b11 b12 b13) → W (n + 1) a1 a2 a3 a4 a5 a6 a7 a8 a9 a10 a11 a12 a13) (a1 : A1) (a2 : A2) (a3 : A3) (a4 : A4) (a5 : A5) (a6 : A6) (a7 : A7) (a8 : A8) (a9 : A9) (a10 : A10) (a11 : A11) (a12 : A12) (a13 : A13) (h : I a1 a2 a3 a4 a5 a6 a7 a8 a9 a10 a11 a12 a13) : ∃ n, W n a1 a2 a3 a4 a5 a6 a7 a8 a9 a10 a11 a12 a13 :=
  loop_m (σ := A1 × A2 × A3 × A4 × A5 × A6 × A7 × A8 × A9 × A10 × A11 × A12 × A13) (fun n s => W n s.1 s.2.1 s.2.2.1 s.2.2.2.1 s.2.2.2.2.1 s.2.2.2.2.2.1 s.2.2.2.2.2.2.1 s.2.2.2.2.2.2.2.1 s.2.2.2.2.2.2.2.2.1 s.2.2.2.2.2.2.2.2.2.1 s.2.2.2.2.2.2.2.2.2.2.1 s.2.2.2.2.2.2.2.2.2.2.2.1 s.2.2.2.2.2.2.2.2.2.2.2.2) (fun s => I s.1 s.2.1 s.2.2.1 s.2.2.2.1 s.2.2.2.2.1 s.2.2.2.2.2.1 s.2.2.2.2.2.2.1 s.2.2.2.2.2.2.2.1 s.2.2.2.2.2.2.2.2.1 s.2.2.2.2.2.2.2.2.2.1 s.2.2.2.2.2.2.2.2.2.2.1 s.2.2.2.2.2.2.2.2.2.2.2.1 s.2.2.2.2.2.2.2.2.2.2.2.2) (fun s => μ s.1 s.2.1 s.2.2.1 s.2.2.2.1 s.2.2.2.2.1 s.2.2.2.2.2.1 s.2.2.2.2.2.2.1 s.2.2.2.2.2.2.2.1 s.2.2.2.2.2.2.2.2.1 s.2.2.2.2.2.2.2.2.2.1 s.2.2.2.2.2.2.2.2.2.2.1 s.2.2.2.2.2.2.2.2.2.2.2.1 s.2.2.2.2.2.2.2.2.2.2.2.2) (fun n s hI hk => hs n s.1 s.2.1 s.2.2.1 s.2.2.2.1 s.2.2.2.2.1 s.2.2.2.2.2.1 s.2.2.2.2.2.2.1 s.2.2.2.2.2.2.2.1 s.2.2.2.2.2.2.2.2.1 s.2.2.2.2.2.2.2.2.2.1 s.2.2.2.2.2.2.2.2.2.2.1 s.2.2.2.2.2.2.2.2.2.2.2.1 s.2.2.2.2.2.2.2.2.2.2.2.2 hI (fun b1 b2 b3 b4 b5 b6 b7 b8 b9 b10 b11 b12 b13 h9 hm => hk (b1, b2, b3, b4, b5, b6, b7, b8, b9, b10, b11, b12, b13) h9 hm)) (a1, a2, a3, a4, a5, a6, a7, a8, a9, a10, a11, a12, a13) h
theorem lp14 {A1 A2 A3 A4 A5 A6 A7 A8 A9 A10 A11 A12 A13 A14 : Type} (W : Nat → A1 → A2 → A3 → A4 → A5 → A6 → A7 → A8 → A9 → A10 → A11 → A12 → A13 → A14 → Prop) (I : A1 → A2 → A3 → A4 → A5 → A6 → A7 → A8 → A9 → A10 → A11 → A12 → A13 → A14 → Prop) (μ : A1 → A2 → A3 → A4 → A5 → A6 → A7 → A8 → A9 → A10 → A11 → A12 → A13 → A14 → Nat) (hs : ∀ (n : Nat) (a1 : A1) (a2 : A2) (a3 : A3) (a4 : A4) (a5 : A5) (a6 : A6) (a7 : A7) (a8 : A8) (a9 : A9) (a10 : A10) (a11 : A11) (a12 : A12) (a13 : A13) (a14 : A14), I a1 a2 a3 a4 a5 a6 a7 a8 a9 a10 a11 a12 a13 a14 → (∀ (b1 : A1) (b2 : A2) (b3 : A3) (b4 : A4) (b5 : A5) (b6 : A6) (b7 : A7) (b8 : A8) (b9 : A9) (b10 : A10) (b11 : A11) (b12 : A12) (b13 : A13) (b14 : A14), I b1 b2 b3 b4 b5 b6 b7 b8 b9 b10 b11 b12 b13 b14 → μ b1 b2 b3 b4 b5 b6 b7 b8 b9 b10 b11 b12 b13 b14 < μ a1 a2 a3 a4 a5 a6 a7 a8 a9 a10 a11 a12 a13 a14 → W n b1 b2 b3 b4 b5 b6 b7 b8 b9 b10 b11 b12 b13 b14) → W (n + 1) a1 a2 a3 a4 a5 a6 a7 a8 a9 a10 a11 a12 a13 a14) (a1 : A1) (a2 : A2) (a3 : A3) (a4 : A4) (a5 : A5) (a6 : A6) (a7 : A7) (a8 : A8) (a9 : A9) (a10 : A10) (a11 : A11) (a12 : A12) (a13 : A13) (a14 : A14) (h : I a1 a2 a3 a4 a5 a6 a7 a8 a9 a10 a11 a12 a13 a14) : ∃ n, W n a1 a2 a3 a4 a5 a6 a7 a8 a9 a10 a11 a12 a13 a14 :=
  loop_m (σ := A1 × A2 × A3 × A4 × A5 × A6 × A7 × A8 × A9 × A10 × A11 × A12 × A13 × A14) (fun n s => W n s.1 s.2.1 s.2.2.1 s.2.2.2.1 s.2.2.2.2.1 s.2.2.2.2.2.1 s.2.2.2.2.2.2.1 s.2.2.2.2.2.2.2.1 s.2.2.2.2.2.2.2.2.1 s.2.2.2.2.2.2.2.2.2.1 s.2.2.2.2.2.2.2.2.2.2.1 s.2.2.2.2.2.2.2.2.2.2.2.1 s.2.2.2.2.2.2.2.2.2.2.2.2.1 s.2.2.2.2.2.2.2.2.2.2.2.2.2) (fun s => I s.1 s.2.1 s.2.2.1 s.2.2.2.1 s.2.2.2.2.1 s.2.2.2.2.2.1 s.2.2.2.2.2.2.1 s.2.2.2.2.2.2.2.1 s.2.2.2.2.2.2.2.2.1 s.2.2.2.2.2.2.2.2.2.1 s.2.2.2.2.2.2.2.2.2.2.1 s.2.2.2.2.2.2.2.2.2.2.2.1 s.2.2.2.2.2.2.2.2.2.2.2.2.1 s.2.2.2.2.2.2.2.2.2.2.2.2.2) (fun s => μ s.1 s.2.1 s.2.2.1 s.2.2.2.1 s.2.2.2.2.1 s.2.2.2.2.2.1 s.2.2.2.2.2.2.1 s.2.2.2.2.2.2.2.1 s.2.2.2.2.2.2.2.2.1 s.2.2.2.2.2.2.2.2.2.1 s.2.2.2.2.2.2.2.2.2.2.1 s.2.2.2.2.2.2.2.2.2.2.2.1 s.2.2.2.2.2.2.2.2.2.2.2.2.1 s.2.2.2.2.2.2.2.2.2.2.2.2.2) (fun n s hI hk => hs n s.1 s.2.1 s.2.2.1 s.2.2.2.1 s.2.2.2.2.1 s.2.2.2.2.2.1 s.2.2.2.2.2.2.1 s.2.2.2.2.2.2.2.1 s.2.2.2.2.2.2.2.2.1 s.2.2.2.2.2.2.2.2.2.1 s.2.2.2.2.2.2.2.2.2.2.1 s.2.2.2.2.2.2.2.2.2.2.2.1 s.2.2.2.2.2.2.2.2.2.2.2.2.1 s.2.2.2.2.2.2.2.2.2.2.2.2.2 hI (fun b1 b2 b3 b4 b5 b6 b7 b8 b9 b10 b11 b12 b13 b14 h9 hm => hk (b1, b2, b3, b4, b5, b6, b7, b8, b9, b10, b11, b12, b13, b14) h9 hm)) (a1, a2, a3, a4, a5, a6, a7, a8, a9, a10, a11, a12, a13, a14) h
theorem lp15 {A1 A2 A3 A4 A5 A6 A7 A8 A9 A10 A11 A12 A13 A14 A15 : Type} (W : Nat → A1 → A2 → A3 → A4 → A5 → A6 → A7 → A8 → A9 → A10 → A11 → A12 → A13 → A14 → A15 → Prop) (I : A1 → A2 → A3 → A4 → A5 → A6 → A7 → A8 → A9 → A10 → A11 → A12 → A13 → A14 → A15 → Prop) (μ : A1 → A2 → A3 → A4 → A5 → A6 → A7 → A8 → A9 → A10 → A11 → A12 → A13 → A14 → A15 → Nat) (hs : ∀ (n : Nat) (a1 : A1) (a2 : A2) (a3 : A3) (a4 : A4) (a5 : A5) (a6 : A6) (a7 : A7) (a8 : A8) (a9 : A9) (a10 : A10) (a11 : A11) (a12 : A12) (a13 : A13) (a14 : A14) (a15 : A15), I a1 a2 a3 a4 a5 a6 a7 a8 a9 a10 a11 a12 a13 a14 a15 → (∀ (b1 : A1) (b2 : A2) (b3 : A3) (b4 : A4) (b5 : A5) (b6 : A6) (b7 : A7) (b8 : A8) (b9 : A9) (b10 : A10) (b11 : A11) (b12 : A12) (b13 : A13) (b14 : A14) (b15 : A15), I b1 b2 b3 b4 b5 b6 b7 b8 b9 b10 b11 b12 b13 b14 b15 → μ b1 b2 b3 b4 b5 b6 b7 b8 b9 b10 b11 b12 b13 b14 b15 < μ a1 a2 a3 a4 a5 a6 a7 a8 a9 a10 a11 a12 a13 a14 a15 → W n b1 b2 b3 b4 b5 b6 b7 b8 b9 b10 b11 b12 b13 b14 b15) → W (n + 1) a1 a2 a3 a4 a5 a6 a7 a8 a9 a10 a11 a12 a13 a14 a15) (a1 : A1) (a2 : A2) (a3 : A3) (a4 : A4) (a5 : A5) (a6 : A6) (a7 : A7) (a8 : A8) (a9 : A9) (a10 : A10) (a11 : A11) (a12 : A12) (a13 : A13) (a14 : A14) (a15 : A15) (h : I a1 a2 a3 a4 a5 a6 a7 a8 a9 a10 a11 a12 a13 a14 a15) : ∃ n, W n a1 a2 a3 a4 a5 a6 a7 a8 a9 a10 a11 a12 a13 a14 a15 :=
  loop_m (σ := A1 × A2 × A3 × A4 × A5 × A6 × A7 × A8 × A9 × A10 × A11 × A12 × A13 × A14 × A15) (fun n s => W n s.1 s.2.1 s.2.2.1 s.2.2.2.1 s.2.2.2.2.1 s.2.2.2.2.2.1 s.2.2.2.2.2.2.1 s.2.2.2.2.2.2.2.1 s.2.2.2.2.2.2.2.2.1 s.2.2.2.2.2.2.2.2.2.1 s.2.2.2.2.2.2.2.2.2.2.1 s.2.2.2.2.2.2.2.2.2.2.2.1 s.2.2.2.2.2.2.2.2.2.2.2.2.1 s.2.2.2.2.2.2.2.2.2.2.2.2.2.1 s.2.2.2.2.2.2.2.2.2.2.2.2.2.2) (fun s => I s.1 s.2.1 s.2.2.1 s.2.2.2.1 s.2.2.2.2.1 s.2.2.2.2.2.1 s.2.2.2.2.2.2.1 s.2.2.2.2.2.2.2.1 s.2.2.2.2.2.2.2.2.1 s.2.2.2.2.2.2.2.2.2.1 s.2.2.2.2.2.2.2.2.2.2.1 s.2.2.2.2.2.2.2.2.2.2.2.1 s.2.2.2.2.2.2.2.2.2.2.2.2.1 s.2.2.2.2.2.2.2.2.2.2.2.2.2.1 s.2.2.2.2.2.2.2.2.2.2.2.2.2.2) (fun s => μ s.1 s.2.1 s.2.2.1 s.2.2.2.1 s.2.2.2.2.1 s.2.2.2.2.2.1 s.2.2.2.2.2.2.1 s.2.2.2.2.2.2.2.1 s.2.2.2.2.2.2.2.2.1 s.2.2.2.2.2.2.2.2.2.1 s.2.2.2.2.2.2.2.2.2.2.1 s.2.2.2.2.2.2.2.2.2.2.2.1 s.2.2.2.2.2.2.2.2.2.2.2.2.1 s.2.2.2.2.2.2.2.2.2.2.2.2.2.1 s.2.2.2.2.2.2.2.2.2.2.2.2.2.2) (fun n s hI hk => hs n s.1 s.2.1 s.2.2.1 s.2.2.2.1 s.2.2.2.2.1 s.2.2.2.2.2.1 s.2.2.2.2.2.2.1 s.2.2.2.2.2.2.2.1 s.2.2.2.2.2.2.2.2.1 s.2.2.2.2.2.2.2.2.2.1 s.2.2.2.2.2.2.2.2.2.2.1 s.2.2.2.2.2.2.2.2.2.2.2.1 s.2.2.2.2.2.2.2.2.2.2.2.2.1 s.2.2.2.2.2.2.2.2.2.2.2.2.2.1 s.2.2.2.2.2.2.2.2.2.2.2.2.2.2 hI (fun b1 b2 b3 b4 b5 b6 b7 b8 b9 b10 b11 b12 b13 b14 b15 h9 hm => hk (b1, b2, b3, b4, b5, b6, b7, b8, b9, b10, b11, b12, b13, b14, b15) h9 hm)) (a1, a2, a3, a4, a5, a6, a7, a8, a9, a10, a11, a12, a13, a14, a15) h
theorem lp16 {A1 A2 A3 A4 A5 A6 A7 A8 A9 A10 A11 A12 A13 A14 A15 A16 : Type} (W : Nat → A1 → A2 → A3 → A4 → A5 → A6 → A7 → A8 → A9 → A10 → A11 → A12 → A13 → A14 → A15 → A16 → Prop) (I : A1 → A2 → A3 → A4 → A5 → A6 → A7 → A8 → A9 → A10 → A11 → A12 → A13 → A14 → A15 → A16 → Prop) (μ : A1 → A2 → A3 → A4 → A5 → A6 → A7 → A8 → A9 → A10 → A11 → A12 → A13 → A14 → A15 → A16 → Nat) (hs : ∀ (n : Nat) (a1 : A1) (a2 : A2) (a3 : A3) (a4 : A4) (a5 : A5) (a6 : A6) (a7 : A7) (a8 : A8) (a9 : A9) (a10 : A10) (a11 : A11) (a12 : A12) (a13 : A13) (a14 : A14) (a15 : A15) (a16 : A16), I a1 a2 a3 a4 a5 a6 a7 a8 a9 a10 a11 a12 a13 a14 a15 a16 → (∀ (b1 : A1) (b2 : A2) (b3 : A3) (b4 : A4) (b5 : A5) (b6 : A6) (b7 : A7) (b8 : A8) (b9 : A9) (b10 : A10) (b11 : A11) (b12 : A12) (b13 : A13) (b14 : A14) (b15 : A15) (b16 : A16), I b1 b2 b3 b4 b5 b6 b7 b8 b9 b10 b11 b12 b13 b14 b15 b16 → μ b1 b2 b3 b4 b5 b6 b7 b8 b9 b10 b11 b12 b13 b14 b15 b16 < μ a1 a2 a3 a4 a5 a6 a7 a8 a9 a10 a11 a12 a13 a14 a15 a16 → W n b1 b2 b3 b4 b5 b6 b7 b8 b9 b10 b11 b12 b13 b14 b15 b16) → W (n + 1) a1 a2 a3 a4 a5 a6 a7 a8 a9 a10 a11 a12 a13 a14 a15 a16) (a1 : A1) (a2 : A2) (a3 : A3) (a4 : A4) (a5 : A5) (a6 : A6) (a7 : A7) (a8 : A8) (a9 : A9) (a10 : A10) (a11 : A11) (a12 : A12) (a13 : A13) (a14 : A14) (a15 : A15) (a16 : A16) (h : I a1 a2 a3 a4 a5 a6 a7 a8 a9 a10 a11 a12 a13 a14 a15 a16) : ∃ n, W n a1 a2 a3 a4 a5 a6 a7 a8 a9 a10 a11 a12 a13 a14 a15 a16 :=
  loop_m (σ := A1 × A2 × A3 × A4 × A5 × A6 × A7 × A8 × A9 × A10 × A11 × A12 × A13 × A14 × A15 × A16) (fun n s => W n s.1 s.2.1 s.2.2.1 s.2.2.2.1 s.2.2.2.2.1 s.2.2.2.2.2.1 s.2.2.2.2.2.2.1 s.2.2.2.2.2.2.2.1 s.2.2.2.2.2.2.2.2.1 s.2.2.2.2.2.2.2.2.2.1 s.2.2.2.2.2.2.2.2.2.2.1 s.2.2.2.2.2.2.2.2.2.2.2.1 s.2.2.2.2.2.2.2.2.2.2.2.2.1 s.2.2.2.2.2.2.2.2.2.2.2.2.2.1 s.2.2.2.2.2.2.2.2.2.2.2.2.2.2.1 s.2.2.2.2.2.2.2.2.2.2.2.2.2.2.2) (fun s => I s.1 s.2.1 s.2.2.1 s.2.2.2.1 s.2.2.2.2.1 s.2.2.2.2.2.1 s.2.2.2.2.2.2.1 s.2.2.2.2.2.2.2.1 s.2.2.2.2.2.2.2.2.1 s.2.2.2.2.2.2.2.2.2.1 s.2.2.2.2.2.2.2.2.2.2.1 s.2.2.2.2.2.2.2.2.2.2.2.1 s.2.2.2.2.2.2.2.2.2.2.2.2.1 s.2.2.2.2.2.2.2.2.2.2.2.2.2.1 s.2.2.2.2.2.2.2.2.2.2.2.2.2.2.1 s.2.2.2.2.2.2.2.2.2.2.2.2.2.2.2) (fun s => μ s.1 s.2.1 s.2.2.1 s.2.2.2.1 s.2.2.2.2.1 s.2.2.2.2.2.1 s.2.2.2.2.2.2.1 s.2.2.2.2.2.2.2.1 s.2.2.2.2.2.2.2.2.1 s.2.2.2.2.2.2.2.2.2.1 s.2.2.2.2.2.2.2.2.2.2.1 s.2.2.2.2.2.2.2.2.2.2.2.1 s.2.2.2.2.2.2.2.2.2.2.2.2.1 s.2.2.2.2.2.2.2.2.2.2.2.2.2.1 s.2.2.2.2.2.2.2.2.2.2.2.2.2.2.1 s.2.2.2.2.2.2.2.2.2.2.2.2.2.2.2) (fun n s hI hk => hs n s.1 s.2.1 s.2.2.1 s.2.2.2.1 s.2.2.2.2.1 s.2.2.2.2.2.1 s.2.2.2.2.2.2.1 s.2.2.2.2.2.2.2.1 s.2.2.2.2.2.2.2.2.1 s.2.2.2.2.2.2.2.2.2.1 s.2.2.2.2.2.2.2.2.2.2.1 s.2.2.2.2.2.2.2.2.2.2.2.1 s.2.2.2.2.2.2.2.2.2.2.2.2.1 s.2.2.2.2.2.2.2.2.2.2.2.2.2.1 s.2.2.2.2.2.2.2.2.2.2.2.2.2.2.1 s.2.2.2.2.2.2.2.2.2.2.2.2.2.2.2 hI (fun b1 b2 b3 b4 b5 b6 b7 b8 b9 b10 b11 b12 b13 b14 b15 b16 h9 hm => hk (b1, b2, b3, b4, b5, b6, b7, b8, b9, b10, b11, b12, b13, b14, b15, b16) h9 hm)) (a1, a2, a3, a4, a5, a6, a7, a8, a9, a10, a11, a12, a13, a14, a15, a16) h
theorem pk_least (P : Nat → Prop) (h : ∃ k, P k) : ∃ k, P k ∧ ∀ j, j < k → ¬ P j := by
  obtain ⟨k, hk⟩ := h
  induction k using Nat.strongRecOn with
  | ind k ih =>
    by_cases e : ∃ j, j < k ∧ P j
    · obtain ⟨j, hj, pj⟩ := e
      exact ih j hj pj
    · exact ⟨k, hk, fun j hj pj => e ⟨j, hj, pj⟩⟩
theorem rp1 {ρ A1 : Type} (W : Nat → (ρ → Prop) → A1 → Prop) (ok : A1 → Prop) (μ : A1 → Nat) (val : A1 → ρ)
    (hs : ∀ (d : Nat) (post : ρ → Prop) (a1 : A1), ok a1 → post (val a1) → (∀ (post' : ρ → Prop) (b1 : A1), ok b1 → μ b1 < μ a1 → post' (val b1) → W d post' b1) → W (d + 1) post a1) :
    ∀ (d : Nat) (post : ρ → Prop) (a1 : A1), ok a1 → μ a1 < d → post (val a1) → W d post a1 := by
  intro d
  induction d with
  | zero => intro post a1 _ h; omega
  | succ d ih =>
    intro post a1 ho hm hp
    exact hs d post a1 ho hp (fun post' b1 ho' hm' hp' => ih post' b1 ho' (by omega) hp')
theorem rp2 {ρ A1 A2 : Type} (W : Nat → (ρ → Prop) → A1 → A2 → Prop) (ok : A1 → A2 → Prop) (μ : A1 → A2 → Nat) (val : A1 → A2 → ρ)
    (hs : ∀ (d : Nat) (post : ρ → Prop) (a1 : A1) (a2 : A2), ok a1 a2 → post (val a1 a2) → (∀ (post' : ρ → Prop) (b1 : A1) (b2 : A2), ok b1 b2 → μ b1 b2 < μ a1 a2 → post' (val b1 b2) → W d post' b1 b2) → W (d + 1) post a1 a2) :
    ∀ (d : Nat) (post : ρ → Prop) (a1 : A1) (a2 : A2), ok a1 a2 → μ a1 a2 < d → post (val a1 a2) → W d post a1 a2 := by
  intro d
  induction d with
  | zero => intro post a1 a2 _ h; omega
  | succ d ih =>
    intro post a1 a2 ho hm hp
    exact hs d post a1 a2 ho hp (fun post' b1 b2 ho' hm' hp' => ih post' b1 b2 ho' (by omega) hp')
theorem rp3 {ρ A1 A2 A3 : Type} (W : Nat → (ρ → Prop) → A1 → A2 → A3 → Prop) (ok : A1 → A2 → A3 → Prop) (μ : A1 → A2 → A3 → Nat) (val : A1 → A2 → A3 → ρ)
    (hs : ∀ (d : Nat) (post : ρ → Prop) (a1 : A1) (a2 : A2) (a3 : A3), ok a1 a2 a3 → post (val a1 a2 a3) → (∀ (post' : ρ → Prop) (b1 : A1) (b2 : A2) (b3 : A3), ok b1 b2 b3 → μ b1 b2 b3 < μ a1 a2 a3 → post' (val b1 b2 b3) → W d post' b1 b2 b3) → W (d + 1) post a1 a2 a3) :
    ∀ (d : Nat) (post : ρ → Prop) (a1 : A1) (a2 : A2) (a3 : A3), ok a1 a2 a3 → μ a1 a2 a3 < d → post (val a1 a2 a3) → W d post a1 a2 a3 := by
  intro d
  induction d with
  | zero => intro post a1 a2 a3 _ h; omega
  | succ d ih =>
    intro post a1 a2 a3 ho hm hp
    exact hs d post a1 a2 a3 ho hp (fun post' b1 b2 b3 ho' hm' hp' => ih post' b1 b2 b3 ho' (by omega) hp')
theorem rp4 {ρ A1 A2 A3 A4 : Type} (W : Nat → (ρ → Prop) → A1 → A2 → A3 → A4 → Prop) (ok : A1 → A2 → A3 → A4 → Prop) (μ : A1 → A2 → A3 → A4 → Nat) (val : A1 → A2 → A3 → A4 → ρ)
    (hs : ∀ (d : Nat) (post : ρ → Prop) (a1 : A1) (a2 : A2) (a3 : A3) (a4 : A4), ok a1 a2 a3 a4 → post (val a1 a2 a3 a4) → (∀ (post' : ρ → Prop) (b1 : A1) (b2 : A2) (b3 : A3) (b4 : A4), ok b1 b2 b3 b4 → μ b1 b2 b3 b4 < μ a1 a2 a3 a4 → post' (val b1 b2 b3 b4) → W d post' b1 b2 b3 b4) → W (d + 1) post a1 a2 a3 a4) :
    ∀ (d : Nat) (post : ρ → Prop) (a1 : A1) (a2 : A2) (a3 : A3) (a4 : A4), ok a1 a2 a3 a4 → μ a1 a2 a3 a4 < d → post (val a1 a2 a3 a4) → W d post a1 a2 a3 a4 := by
  intro d
  induction d with
  | zero => intro post a1 a2 a3 a4 _ h; omega
  | succ d ih =>
    intro post a1 a2 a3 a4 ho hm hp
    exact hs d post a1 a2 a3 a4 ho hp (fun post' b1 b2 b3 b4 ho' hm' hp' => ih post' b1 b2 b3 b4 ho' (by omega) hp')
theorem rp5 {ρ A1 A2 A3 A4 A5 : Type} (W : Nat → (ρ → Prop) → A1 → A2 → A3 → A4 → A5 → Prop) (ok : A1 → A2 → A3 → A4 → A5 → Prop) (μ : A1 → A2 → A3 → A4 → A5 → Nat) (val : A1 → A2 → A3 → A4 → A5 → ρ)
    (hs : ∀ (d : Nat) (post : ρ → Prop) (a1 : A1) (a2 : A2) (a3 : A3) (a4 : A4) (a5 : A5), ok a1 a2 a3 a4 a5 → post (val a1 a2 a3 a4 a5) → (∀ (post' : ρ → Prop) (b1 : A1) (b2 : A2) (b3 : A3) (b4 : A4) (b5 : A5), ok b1 b2 b3 b4 b5 → μ b1 b2 b3 b4 b5 < μ a1 a2 a3 a4 a5 → post' (val b1 b2 b3 b4 b5) → W d post' b1 b2 b3 b4 b5) → W (d + 1) post a1 a2 a3 a4 a5) :
    ∀ (d : Nat) (post : ρ → Prop) (a1 : A1) (a2 : A2) (a3 : A3) (a4 : A4) (a5 : A5), ok a1 a2 a3 a4 a5 → μ a1 a2 a3 a4 a5 < d → post (val a1 a2 a3 a4 a5) → W d post a1 a2 a3 a4 a5 := by
  intro d
  induction d with
  | zero => intro post a1 a2 a3 a4 a5 _ h; omega
  | succ d ih =>
    intro post a1 a2 a3 a4 a5 ho hm hp
    exact hs d post a1 a2 a3 a4 a5 ho hp (fun post' b1 b2 b3 b4 b5 ho' hm' hp' => ih post' b1 b2 b3 b4 b5 ho' (by omega) hp')
theorem rp6 {ρ A1 A2 A3 A4 A5 A6 : Type} (W : Nat → (ρ → Prop) → A1 → A2 → A3 → A4 → A5 → A6 → Prop) (ok : A1 → A2 → A3 → A4 → A5 → A6 → Prop) (μ : A1 → A2 → A3 → A4 → A5 → A6 → Nat) (val : A1 → A2 → A3 → A4 → A5 → A6 → ρ)
    (hs : ∀ (d : Nat) (post : ρ → Prop) (a1 : A1) (a2 : A2) (a3 : A3) (a4 : A4) (a5 : A5) (a6 : A6), ok a1 a2 a3 a4 a5 a6 → post (val a1 a2 a3 a4 a5 a6) → (∀ (post' : ρ → Prop) (b1 : A1) (b2 : A2) (b3 : A3) (b4 : A4) (b5 : A5) (b6 : A6), ok b1 b2 b3 b4 b5 b6 → μ b1 b2 b3 b4 b5 b6 < μ a1 a2 a3 a4 a5 a6 → post' (val b1 b2 b3 b4 b5 b6) → W d post' b1 b2 b3 b4 b5 b6) → W (d + 1) post a1 a2 a3 a4 a5 a6) :
    ∀ (d : Nat) (post : ρ → Prop) (a1 : A1) (a2 : A2) (a3 : A3) (a4 : A4) (a5 : A5) (a6 : A6), ok a1 a2 a3 a4 a5 a6 → μ a1 a2 a3 a4 a5 a6 < d → post (val a1 a2 a3 a4 a5 a6) → W d post a1 a2 a3 a4 a5 a6 := by
  intro d
  induction d with
  | zero => intro post a1 a2 a3 a4 a5 a6 _ h; omega
  | succ d ih =>
    intro post a1 a2 a3 a4 a5 a6 ho hm hp
    exact hs d post a1 a2 a3 a4 a5 a6 ho hp (fun post' b1 b2 b3 b4 b5 b6 ho' hm' hp' => ih post' b1 b2 b3 b4 b5 b6 ho' (by omega) hp')
theorem rec_p {σ ρ : Type} (W : Nat → (ρ → Prop) → σ → Prop) (ok : σ → Prop) (μ : σ → Nat) (val : σ → ρ)
    (hs : ∀ d s post, ok s → post (val s) → (∀ s' post', ok s' → μ s' < μ s → post' (val s') → W d post' s') → W (d + 1) post s) :
    ∀ d s post, ok s → μ s < d → post (val s) → W d post s := by
  intro d
  induction d with
  | zero => intro s post _ h; omega
  | succ d ih =>
    intro s post ho hm hp
    exact hs d s post ho hp (fun s' post' ho' hm' hp' => ih s' post' ho' (by omega) hp')
theorem rec_q {σ ρ : Type} (W : Nat → (ρ → Prop) → σ → Prop) (ok : σ → Prop) (μ : σ → Nat) (Q : σ → ρ → Prop)
    (hs : ∀ d s post, ok s → (∀ r, Q s r → post r) → (∀ s' post', ok s' → μ s' < μ s → (∀ r, Q s' r → post' r) → W d post' s') → W (d + 1) post s) :
    ∀ d s post, ok s → μ s < d → (∀ r, Q s r → post r) → W d post s := by
  intro d
  induction d with
  | zero => intro s post _ h; omega
  | succ d ih =>
    intro s post ho hm hp
    exact hs d s post ho hp (fun s' post' ho' hm' hp' => ih s' post' ho' (by omega) hp')
def bx_sum (f : Nat → Int32) : Nat → Int32
  | 0 => 0
  | n + 1 => bx_sum f n + f n
theorem ek_u {A : Prop} {B : Nat → Prop} {k N : Nat} (hk : k < N) (h : B k) : (some k = none → A) ∧ (∀ y : Nat, some k = some y → (y < N ∧ B y)) :=
  ⟨fun z => absurd z (Option.some_ne_none k), fun _ e => (by cases e; exact ⟨hk, h⟩)⟩
theorem ek_nu {A : Prop} {B : Nat → Prop} (h : A) : ((none : Option Nat) = none → A) ∧ (∀ y : Nat, (none : Option Nat) = some y → B y) :=
  ⟨fun _ => h, fun _ e => (by cases e)⟩
theorem ek_if {c d A B : Prop} (e : c ↔ d) (f : d → A) (g : ¬ d → B) : (c → A) ∧ (¬ c → B) :=
  ⟨fun z => f (e.mp z), fun z => g (fun y => z (e.mpr y))⟩
theorem ek_v {α : Sort _} {P : α → Prop} {a b : α} (e : a = b) (h : P b) : P a := e ▸ h
theorem co_some {x : Option Nat} {A : Prop} {B : Nat → Prop} (i : Nat) (h : B i) (hx : x = some i := by rfl) : (x = none → A) ∧ (∀ y : Nat, x = some y → B y) := by
  subst hx
  exact ⟨fun e => (nomatch e), fun y e => Option.some.inj e ▸ h⟩
theorem co_none {x : Option Nat} {A : Prop} {B : Nat → Prop} (h : A) (hx : x = none := by rfl) : (x = none → A) ∧ (∀ y : Nat, x = some y → B y) := by
  subst hx
  exact ⟨fun _ => h, fun y e => (nomatch e)⟩
theorem co_any {x : Option Nat} {A : Prop} {B : Nat → Prop} (hn : x = none → A) (hs : ∀ i : Nat, x = some i → B i) : (x = none → A) ∧ (∀ y : Nat, x = some y → B y) := ⟨hn, hs⟩
theorem co_2 {P : Nat → Prop} (h0 : P 0) (h1 : P 1) {i : Nat} (hi : i < 2) : P i :=
  match i, hi with
  | 0, _ => h0
  | 1, _ => h1
theorem co_3 {P : Nat → Prop} (h0 : P 0) (h1 : P 1) (h2 : P 2) {i : Nat} (hi : i < 3) : P i :=
  match i, hi with
  | 0, _ => h0
  | 1, _ => h1
  | 2, _ => h2
theorem co_4 {P : Nat → Prop} (h0 : P 0) (h1 : P 1) (h2 : P 2) (h3 : P 3) {i : Nat} (hi : i < 4) : P i :=
  match i, hi with
  | 0, _ => h0
  | 1, _ => h1
  | 2, _ => h2
  | 3, _ => h3
theorem co_dec {N : Nat} {P : Nat → Prop} [DecidablePred P] (h : (List.range N).all (fun i => decide (P i)) = true) {i : Nat} (hi : i < N) : P i := by
  have := List.all_eq_true.mp h i (List.mem_range.mpr hi)
  exact of_decide_eq_true this
theorem co_tab {α : Type} {l : List α} {d : α} {P : α → Prop} (h : ∀ a, a ∈ l → P a) {i : Nat} (hi : i < l.length) : P (l.getD i d) := by
  rw [List.getD_eq_getElem?_getD, List.getElem?_eq_getElem hi]
  exact h _ (List.getElem_mem hi)
theorem pk_mu {x : Int32} {L : Nat} (h0 : ¬ x < 0) (h : ¬ nI L ≤ x) (hL : L < 2 ^ 31) : ∃ j : Nat, j < L ∧ x = nI j ∧ x + 1 = nI (j + 1) ∧ x.toNatClampNeg = j ∧ L - (x + 1).toNatClampNeg < L - x.toNatClampNeg := by
  obtain ⟨j, hj, rfl⟩ := nI_of h0
  have hl : j < L := Nat.not_le.mp fun q => h (nI_le q hj)
  refine ⟨j, hl, rfl, nI_1 j, nI_clamp hj, ?_⟩
  rw [nI_1, nI_clamp (by omega), nI_clamp hj]
  omega
theorem op_s {α : Type} {r : Option α} {A : Prop} {B : α → Prop} {y : α} (h : r = some y) (b : B y) : (r = none → A) ∧ ∀ z, r = some z → B z :=
  ⟨fun e => (by rw [h] at e; cases e), fun z e => (by rw [h] at e; cases e; exact b)⟩
def l_holds {α : Type} (a : Nat → Option Nat) (LP : List Nat) (p : Nat → α) (c : Nat) (b : Nat → α) : Prop :=
  ∀ j, j < c → ∃ y, a j = some y ∧ y ∈ LP ∧ p y = b j
theorem l_holds_0 {α : Type} {a : Nat → Option Nat} {LP : List Nat} {p b : Nat → α} : l_holds a LP p 0 b := fun j h => absurd h (Nat.not_lt_zero j)
theorem l_in_new (LP : List Nat) (q : Nat) : q ∈ LP ++ [q] := List.mem_append.mpr (Or.inr (List.mem_singleton.mpr rfl))
def l_sum (b : Nat → Int32) : Nat → Int32
  | 0 => 0
  | k + 1 => l_sum b k + b k
theorem sb_shr0 (x : Int32) : x >>> ((0 : Int32) &&& 31) = x := by
  rw [show ((0 : Int32) &&& 31) = 0 by decide]
  simp
theorem sb_shl0 (x : Int32) : x <<< ((0 : Int32) &&& 31) = x := by
  rw [show ((0 : Int32) &&& 31) = 0 by decide]
  simp
theorem sb_cl0 : (0 : Int32).toNatClampNeg = 0 := by decide
theorem sb_m1 {p : Nat} (h : 0 < p) : nI p + (-1) = nI (p - 1) := by
  obtain ⟨q, rfl⟩ : ∃ q, p = q + 1 := ⟨p - 1, by omega⟩
  exact pk_m1 q
def sb_b (c : Nat) : Int32 := (nI c).toInt8.toInt32
theorem sb_byte : ∀ c, c < 256 → sb_b c &&& 255 = nI c ∧ ((nI c).toUInt32 % 65536).toInt32 = nI c ∧ nI c ≤ 255 := by decide +kernel
def sb_Fit (a : Nat → Int32) : Prop := ∀ j, fits .byte (.int (a j)) = true
def sb_Lat (t : Nat → Nat) (n : Nat) (a : Nat → Int32) : Prop := ∀ j, j < n → t j < 256 ∧ a j = sb_b (t j)
theorem sb_fitB (c : Nat) : fits .byte (.int (sb_b c)) = true := pk_fb _
theorem sb_fit0 : sb_Fit (fun _ => 0) := fun _ => by
  show fits .byte (.int 0) = true
  decide
theorem sb_fitU {a : Nat → Int32} {k : Nat} {x : Int32} (h : sb_Fit a) (hx : fits .byte (.int x) = true) : sb_Fit (upd a k x) := by
  intro j
  by_cases e : j = k
  · subst e
    rw [pk_us]
    exact hx
  · rw [pk_un e]
    exact h j
def sb_cat (t : Nat → Nat) (n : Nat) (s : Nat → Nat) : Nat → Nat := fun j => if j < n then t j else s (j - n)
theorem sb_cat_lo {t s : Nat → Nat} {n j : Nat} (h : j < n) : sb_cat t n s j = t j := if_pos h
theorem sb_cat_hi {t s : Nat → Nat} {n j : Nat} : sb_cat t n s (n + j) = s j := by
  show (if n + j < n then t (n + j) else s (n + j - n)) = s j
  rw [if_neg (by omega), Nat.add_sub_cancel_left]
theorem sb_latPut {t s : Nat → Nat} {n w : Nat} {a a' : Nat → Int32} (h : sb_Lat t n a) (hk : ∀ j, j < n → a' j = a j) (hs : ∀ i, i < w → s i < 256 ∧ a' (n + i) = sb_b (s i)) : sb_Lat (sb_cat t n s) (n + w) a' := by
  intro j hj
  by_cases e : j < n
  · rw [sb_cat_lo e, hk j e]
    exact h j e
  · obtain ⟨i, rfl⟩ : ∃ i, j = n + i := ⟨j - n, by omega⟩
    rw [sb_cat_hi]
    exact hs i (by omega)
theorem sb_latKeep {t : Nat → Nat} {n : Nat} {a a' : Nat → Int32} (h : sb_Lat t n a) (hk : ∀ j, j < n → a' j = a j) : sb_Lat t n a' := fun j hj => by
  rw [hk j hj]
  exact h j hj
def sb_cap (q m : Nat) : Nat := if q ≤ m then m else if 2 * m + 2 < q then q else 2 * m + 2
def sb_Room (q m mc ms : Nat) : Prop := q ≤ m ∨ (1 ≤ mc ∧ sb_cap q m ≤ ms ∧ sb_cap q m ≤ 65536)
theorem sb_cap_ge (q m : Nat) : q ≤ sb_cap q m := by
  unfold sb_cap
  split
  · omega
  · split <;> omega
theorem sb_cap_gem (q m : Nat) : m ≤ sb_cap q m := by
  unfold sb_cap
  split
  · omega
  · split <;> omega
theorem sb_cap_le {q m mc ms : Nat} (hm : m ≤ 65536) (hr : sb_Room q m mc ms) : sb_cap q m ≤ 65536 := by
  rcases hr with h | h
  · rw [sb_cap, if_pos h]
    exact hm
  · exact h.2.2
theorem sb_at {P : Int32 → Prop} {x y : Int32} (e : x = y) (h : P y) : P x := e ▸ h
def sb_dg (w : Nat) : Nat := if w < 10 then 1 else if w < 100 then 2 else if w < 1000 then 3 else if w < 10000 then 4 else if w < 100000 then 5 else if w < 1000000 then 6 else if w < 10000000 then 7 else if w < 100000000 then 8 else if w < 1000000000 then 9 else 10
def sb_dec (v : Nat) : Nat → Nat := fun i => 48 + v / 10 ^ (sb_dg v - 1 - i) % 10
theorem sb_dg_in (w : Nat) : 1 ≤ sb_dg w ∧ sb_dg w ≤ 10 := by
  unfold sb_dg
  constructor <;> (repeat' split) <;> omega
theorem sb_dg100 {w : Nat} (h : 100 ≤ w) (hw : w < 2 ^ 31) : sb_dg w = sb_dg (w / 100) + 2 := by
  rw [sb_dg, sb_dg, if_neg (show ¬ w < 10 by omega), if_neg (show ¬ w < 100 by omega)]
  by_cases h3 : w < 1000
  · rw [if_pos h3, if_pos (show w / 100 < 10 by omega)]
  rw [if_neg h3, if_neg (show ¬ w / 100 < 10 by omega)]
  by_cases h4 : w < 10000
  · rw [if_pos h4, if_pos (show w / 100 < 100 by omega)]
  rw [if_neg h4, if_neg (show ¬ w / 100 < 100 by omega)]
  by_cases h5 : w < 100000
  · rw [if_pos h5, if_pos (show w / 100 < 1000 by omega)]
  rw [if_neg h5, if_neg (show ¬ w / 100 < 1000 by omega)]
  by_cases h6 : w < 1000000
  · rw [if_pos h6, if_pos (show w / 100 < 10000 by omega)]
  rw [if_neg h6, if_neg (show ¬ w / 100 < 10000 by omega)]
  by_cases h7 : w < 10000000
  · rw [if_pos h7, if_pos (show w / 100 < 100000 by omega)]
  rw [if_neg h7, if_neg (show ¬ w / 100 < 100000 by omega)]
  by_cases h8 : w < 100000000
  · rw [if_pos h8, if_pos (show w / 100 < 1000000 by omega)]
  rw [if_neg h8, if_neg (show ¬ w / 100 < 1000000 by omega)]
  by_cases h9 : w < 1000000000
  · rw [if_pos h9, if_pos (show w / 100 < 10000000 by omega)]
  rw [if_neg h9, if_neg (show ¬ w / 100 < 10000000 by omega)]
  rw [if_pos (show w / 100 < 100000000 by omega)]
theorem sb_negT {w : Nat} (h : w < 2 ^ 31) : (-nI w).toInt = -(w : Int) := by
  rw [Int32.toInt_neg, nI_toInt h]
  exact Int.bmod_eq_of_le (by omega) (by omega)
theorem sb_nle {a b : Nat} (ha : a < 2 ^ 31) (hb : b < 2 ^ 31) : -nI a ≤ -nI b ↔ b ≤ a := by
  rw [Int32.le_iff_toInt_le, sb_negT ha, sb_negT hb]
  omega
theorem sb_nlt {a b : Nat} (ha : a < 2 ^ 31) (hb : b < 2 ^ 31) : -nI a < -nI b ↔ b < a := by
  rw [Int32.lt_iff_toInt_lt, sb_negT ha, sb_negT hb]
  omega
theorem sb_cmp {A B : Prop} {x : Int32} (v c : Nat) (f : c ≤ v → A) (g : v < c → B) (hv : v < 2 ^ 31) (hx : x = -nI c := by rfl) (hc : c < 2 ^ 31 := by omega) : (-nI v ≤ x → A) ∧ (¬ -nI v ≤ x → B) := by
  subst hx
  rw [sb_nle hv hc]
  exact ⟨f, fun z => g (by omega)⟩
theorem sb_ndiv {w : Nat} (hw : w < 2 ^ 31) : (-nI w) / 100 = -nI (w / 100) := by
  apply Int32.toInt_inj.mp
  have h100 : (100 : Int32).toInt = 100 := by decide
  rw [Int32.toInt_div, sb_negT hw, h100, sb_negT (by omega), Int.neg_tdiv, Int.tdiv_eq_ediv_of_nonneg (by omega), Int.bmod_eq_of_le (by omega) (by omega)]
  omega
theorem sb_nrem {w : Nat} (hw : w < 2 ^ 31) : (-nI (w / 100)) * 100 - (-nI w) = nI (w % 100) := by
  have h := pk_rem (a := w) (d := 100) hw (by decide) (by decide)
  rw [pk_div hw (by decide) (by decide)] at h
  rw [← h]
  show (-nI (w / 100)) * nI 100 - (-nI w) = nI w - nI (w / 100) * nI 100
  rw [Int32.neg_mul, Int32.sub_neg, Int32.add_comm, ← Int32.sub_eq_add_neg]
/-! rows on bits, shifts and unsigned numbers, to paste: each family out of a closed proof of our own, whole with what it rests on; each by itself clean at Lean in its own claim (generation 39, form 5). Take a family whole -/
/-! ===== Int32 by its bits: bt x i ===== -/
def bt (x : Int32) (i : Nat) : Bool := x.toBitVec.getLsbD i
theorem b_ext {x y : Int32} (h : ∀ i, i < 32 → bt x i = bt y i) : x = y := Int32.toBitVec_inj.mp (BitVec.eq_of_getLsbD_eq (fun i hi => h i hi))
theorem b_or (x y : Int32) (i : Nat) : bt (x ||| y) i = (bt x i || bt y i) := by unfold bt; rw [Int32.toBitVec_or, BitVec.getLsbD_or]
theorem b_and (x y : Int32) (i : Nat) : bt (x &&& y) i = (bt x i && bt y i) := by unfold bt; rw [Int32.toBitVec_and, BitVec.getLsbD_and]
theorem b_xor (x y : Int32) (i : Nat) : bt (x ^^^ y) i = (bt x i ^^ bt y i) := by unfold bt; rw [Int32.toBitVec_xor, BitVec.getLsbD_xor]
theorem b_big {x : Int32} {i : Nat} (h : 32 ≤ i) : bt x i = false := BitVec.getLsbD_of_ge _ _ h
theorem b_255 (i : Nat) : bt 255 i = decide (i < 8) := by
  rcases Nat.lt_or_ge i 32 with h | h
  · exact (by decide +kernel : ∀ i, i < 32 → bt 255 i = decide (i < 8)) i h
  · rw [b_big h, decide_eq_false (by omega)]
theorem b_65535 (i : Nat) : bt 65535 i = decide (i < 16) := by
  rcases Nat.lt_or_ge i 32 with h | h
  · exact (by decide +kernel : ∀ i, i < 32 → bt 65535 i = decide (i < 16)) i h
  · rw [b_big h, decide_eq_false (by omega)]
theorem b_m1 : ∀ i, i < 32 → bt (-1) i = true := by decide +kernel
theorem b_0 (i : Nat) : bt 0 i = false := BitVec.getLsbD_zero
theorem s_l : ∀ n, n < 32 → ((nI n &&& 31).toBitVec.smod 32).toNat = n := by decide +kernel
theorem s_u : ∀ n, n < 32 → (((nI n).toUInt32 &&& Int32.toUInt32 31).toBitVec % 32).toNat = n := by decide +kernel
theorem b_shl (n : Nat) (hn : n < 32) (x : Int32) {i : Nat} (hi : i < 32) : bt (x <<< (nI n &&& 31)) i = (decide (n ≤ i) && bt x (i - n)) := by
  unfold bt
  rw [Int32.toBitVec_shiftLeft]
  show (x.toBitVec <<< ((nI n &&& 31).toBitVec.smod 32).toNat).getLsbD i = _
  rw [s_l n hn, BitVec.getLsbD_shiftLeft]
  rcases Nat.lt_or_ge i n with h | h
  · simp [h, Nat.not_le.mpr h]
  · simp [hi, h, Nat.not_lt.mpr h]
theorem b_ushr (n : Nat) (hn : n < 32) (x : Int32) (i : Nat) : bt ((x.toUInt32 >>> ((nI n).toUInt32 &&& Int32.toUInt32 31)).toInt32) i = bt x (n + i) := by
  show (x.toUInt32 >>> ((nI n).toUInt32 &&& Int32.toUInt32 31)).toBitVec.getLsbD i = x.toUInt32.toBitVec.getLsbD (n + i)
  rw [UInt32.toBitVec_shiftRight]
  show (x.toUInt32.toBitVec >>> (((nI n).toUInt32 &&& Int32.toUInt32 31).toBitVec % 32).toNat).getLsbD i = _
  rw [s_u n hn, BitVec.getLsbD_ushiftRight]
theorem b_sshr (n : Nat) (hn : n < 32) (x : Int32) {i : Nat} (hi : i < 32) : bt (x >>> (nI n &&& 31)) i = if n + i < 32 then bt x (n + i) else bt x 31 := by
  unfold bt
  rw [Int32.toBitVec_shiftRight]
  show (x.toBitVec.sshiftRight ((nI n &&& 31).toBitVec.smod 32).toNat).getLsbD i = _
  rw [s_l n hn, BitVec.getLsbD_sshiftRight, BitVec.msb_eq_getLsbD_last]
  simp [hi]
theorem b_shl8 (x : Int32) {i : Nat} (hi : i < 32) : bt (x <<< ((8 : Int32) &&& 31)) i = (decide (8 ≤ i) && bt x (i - 8)) := b_shl 8 (by omega) x hi
theorem b_shl16 (x : Int32) {i : Nat} (hi : i < 32) : bt (x <<< ((16 : Int32) &&& 31)) i = (decide (16 ≤ i) && bt x (i - 16)) := b_shl 16 (by omega) x hi
theorem b_shl24 (x : Int32) {i : Nat} (hi : i < 32) : bt (x <<< ((24 : Int32) &&& 31)) i = (decide (24 ≤ i) && bt x (i - 24)) := b_shl 24 (by omega) x hi
theorem b_sshr8 (x : Int32) {i : Nat} (hi : i < 32) : bt (x >>> ((8 : Int32) &&& 31)) i = if 8 + i < 32 then bt x (8 + i) else bt x 31 := b_sshr 8 (by omega) x hi
/-! ===== nI under and, xor, >>>, one bit, 65535 ===== -/
theorem nx_and (a b : Nat) : nI a &&& nI b = nI (a &&& b) := by
  apply Int32.toBitVec_inj.1
  show BitVec.ofNat 32 a &&& BitVec.ofNat 32 b = BitVec.ofNat 32 (a &&& b)
  apply BitVec.eq_of_getLsbD_eq
  intro i hi
  simp [hi]
theorem nx_xor (a b : Nat) : nI a ^^^ nI b = nI (a ^^^ b) := by
  apply Int32.toBitVec_inj.1
  show BitVec.ofNat 32 a ^^^ BitVec.ofNat 32 b = BitVec.ofNat 32 (a ^^^ b)
  apply BitVec.eq_of_getLsbD_eq
  intro i hi
  simp [hi]
theorem nx_cnt : ∀ j : Fin 32, (UInt32.ofNat j.val &&& Int32.toUInt32 31).toNat % 32 = j.val := by decide +kernel
theorem nx_ush {k j : Nat} (hk : k < 65536) (hj : j < 32) : ((nI k).toUInt32 >>> ((nI j).toUInt32 &&& Int32.toUInt32 31)).toInt32 = nI (k >>> j) := by
  have hs : k >>> j ≤ k := by
    rw [Nat.shiftRight_eq_div_pow]
    exact Nat.div_le_self _ _
  have e2 : UInt32.ofNat k >>> (UInt32.ofNat j &&& Int32.toUInt32 31) = UInt32.ofNat (k >>> j) := by
    apply UInt32.toNat_inj.1
    have h1 : (UInt32.ofNat k).toNat = k := Nat.mod_eq_of_lt (by omega)
    have h2 : (UInt32.ofNat (k >>> j)).toNat = k >>> j := Nat.mod_eq_of_lt (by omega)
    rw [UInt32.toNat_shiftRight, nx_cnt ⟨j, hj⟩, h1, h2]
  show (UInt32.ofNat k >>> (UInt32.ofNat j &&& Int32.toUInt32 31)).toInt32 = _
  rw [e2]
  rfl
theorem nx_bit {k j : Nat} (hk : k < 65536) (hj : j < 16) : (((nI k).toUInt32 >>> ((nI j).toUInt32 &&& Int32.toUInt32 31)).toInt32 &&& 1) = 0 ↔ k.testBit j = false := by
  rw [nx_ush hk (by omega)]
  show nI (k >>> j) &&& nI 1 = 0 ↔ _
  rw [nx_and, Nat.and_one_is_mod, ← nI_0, nI_eq (by omega) (by omega), Nat.testBit_eq_decide_div_mod_eq, Nat.shiftRight_eq_div_pow, decide_eq_false_iff_not]
  generalize k / 2 ^ j = z
  omega
theorem nx_mod (k : Nat) : nI k &&& 65535 = nI (k % 65536) := by
  show nI k &&& nI 65535 = _
  rw [nx_and, show (65535 : Nat) = 2 ^ 16 - 1 from rfl, Nat.and_two_pow_sub_one_eq_mod]
theorem nx_m16 {k : Nat} (h : k < 65536) : nI k &&& 65535 = nI k := by rw [nx_mod, Nat.mod_eq_of_lt h]
theorem nx_mask (x : Int32) : ∃ k, k < 65536 ∧ x &&& 65535 = nI k := by
  have e : x = nI x.toBitVec.toNat := by
    apply Int32.toBitVec_inj.1
    show x.toBitVec = BitVec.ofNat 32 x.toBitVec.toNat
    simp
  refine ⟨x.toBitVec.toNat % 65536, Nat.mod_lt _ (by omega), ?_⟩
  rw [← nx_mod, ← e]
/-! ===== Int32 as a set of bits: test, set ===== -/
def nf_M (m : Int32) : Nat := 4294967296 - m.toBitVec.toNat
theorem nf_sh : ∀ l, l < 32 → ((1 : Int32) <<< (nI l &&& 31)).toBitVec = BitVec.twoPow 32 l := by decide +kernel
theorem nf_sl : ∀ l, l < 32 → (((nI l).toUInt32 &&& Int32.toUInt32 31).toBitVec % 32).toNat = l := by decide +kernel
theorem nf_tp : ∀ l, l < 32 → BitVec.twoPow 32 l ≠ 0#32 := by decide +kernel
theorem nf_bit (m : Int32) (l : Nat) (hl : l < 32) : ((m.toUInt32 >>> ((nI l).toUInt32 &&& Int32.toUInt32 31)).toInt32 &&& 1) = 0 ↔ (m &&& ((1 : Int32) <<< (nI l &&& 31))) = 0 := by
  have e : ((m.toUInt32 >>> ((nI l).toUInt32 &&& Int32.toUInt32 31)).toInt32).toBitVec = m.toBitVec >>> l := by
    show m.toBitVec >>> (((nI l).toUInt32 &&& Int32.toUInt32 31).toBitVec % 32) = m.toBitVec >>> l
    rw [BitVec.ushiftRight_eq', nf_sl l hl]
  rw [← Int32.toBitVec_inj, ← Int32.toBitVec_inj, Int32.toBitVec_and, Int32.toBitVec_and, nf_sh l hl, e, BitVec.and_twoPow]
  show (m.toBitVec >>> l &&& 1#32) = 0#32 ↔ _ = 0#32
  rw [BitVec.and_one_eq_setWidth_ofBool_getLsbD, BitVec.getLsbD_ushiftRight, Nat.add_zero]
  cases hb : m.toBitVec.getLsbD l
  · exact ⟨fun _ => by simp, fun _ => by decide⟩
  · exact ⟨fun z => absurd z (by decide), fun z => absurd ((if_pos rfl).symm.trans z) (nf_tp l hl)⟩
theorem nf_gr (m k : Int32) (h : m &&& k = 0) (hk : k ≠ 0) : nf_M (m ||| k) < nf_M m := by
  have hm := m.toBitVec.isLt
  have hm' := (m ||| k).toBitVec.isLt
  have h1 : m.toBitVec.toNat ≤ (m ||| k).toBitVec.toNat := by
    rw [Int32.toBitVec_or, BitVec.toNat_or]
    exact Nat.left_le_or
  have h2 : m.toBitVec.toNat ≠ (m ||| k).toBitVec.toNat := by
    intro e
    have e2 : m = m ||| k := Int32.toBitVec_inj.mp (BitVec.eq_of_toNat_eq e)
    apply hk
    apply Int32.toBitVec_inj.mp
    show k.toBitVec = 0#32
    apply BitVec.eq_of_getLsbD_eq
    intro i hi
    have a : m.toBitVec.getLsbD i = (m.toBitVec.getLsbD i || k.toBitVec.getLsbD i) := by rw [← BitVec.getLsbD_or, ← Int32.toBitVec_or, ← e2]
    have b : (m.toBitVec.getLsbD i && k.toBitVec.getLsbD i) = false := by
      rw [← BitVec.getLsbD_and, ← Int32.toBitVec_and, h]
      exact BitVec.getLsbD_zero
    rw [BitVec.getLsbD_zero]
    revert a b
    cases m.toBitVec.getLsbD i <;> cases k.toBitVec.getLsbD i <;> simp
  unfold nf_M
  omega
/-! ===== a byte read unsigned ===== -/
theorem bp_b (x : Int32) : x.toInt8.toInt32 &&& 255 = x &&& 255 := by
  apply Int32.toBitVec_inj.mp
  rw [Int32.toBitVec_and, Int32.toBitVec_and, Int8.toBitVec_toInt32, Int32.toBitVec_toInt8]
  apply BitVec.eq_of_getLsbD_eq
  intro i hi
  rw [BitVec.getLsbD_and, BitVec.getLsbD_and]
  have hm : ∀ i < 32, 8 ≤ i → (255 : Int32).toBitVec.getLsbD i = false := by decide
  rcases Nat.lt_or_ge i 8 with z | z
  · rw [BitVec.getLsbD_signExtend, BitVec.getLsbD_signExtend, if_pos z, if_pos hi]
    simp only [z, hi, decide_true, Bool.true_and]
  · rw [hm i hi z]; simp
/-! ===== the char cast and 65535 ===== -/
theorem em_w (v : Int32) : ∃ w : Nat, w < 65536 ∧ (v.toUInt32 % 65536).toInt32 = nI w ∧ v &&& 65535 = nI w := by
  have hr := lw_u16_r v
  have h0 : (0 : Int32).toInt = 0 := by decide
  obtain ⟨w, h1, h2⟩ := nI_of (x := lw_u16 v) (by rw [Int32.lt_iff_toInt_lt]; omega)
  have h3 : (v.toUInt32 % 65536).toInt32 = nI w := h2
  rw [h2, nI_toInt h1] at hr
  exact ⟨w, by omega, h3, by rw [← lg_i2c_mask, ← lg_i2c_nf, h3]⟩
/-! ===== Int64 as a set of bits: test, set, clear ===== -/
theorem ts_nf {x : Bool} (h : ¬ x = false) : x = true := by cases x <;> first | rfl | exact absurd rfl h
theorem ts_nt {x : Bool} (h : ¬ x = true) : x = false := by cases x <;> first | rfl | exact absurd rfl h
theorem ts_bit {w : Int64} {s : UInt64} {j : Nat} (hj : j < 64) (hs : s.toNat = j) : ((w.toUInt64 >>> s).toInt64 &&& 1) = 0 ↔ w.toBitVec.getLsbD j = false := by
  have e : (w.toUInt64 >>> s).toInt64.toBitVec = w.toBitVec >>> j := by
    apply BitVec.eq_of_toNat_eq
    show (w.toUInt64 >>> s).toNat = _
    rw [UInt64.toNat_shiftRight, hs, Nat.mod_eq_of_lt hj, BitVec.toNat_ushiftRight]
    rfl
  rw [← Int64.toBitVec_inj, Int64.toBitVec_and, e]
  show w.toBitVec >>> j &&& 1#64 = 0#64 ↔ _
  constructor
  · intro h
    have t := congrArg (fun x => x.getLsbD 0) h
    simpa using t
  · intro h
    apply BitVec.eq_of_getLsbD_eq
    intro i hi
    cases i with
    | zero => simp [h]
    | succ i => simp
theorem ts_or {w m : Int64} {j : Nat} (hj : j < 64) (hm : m.toBitVec = BitVec.twoPow 64 j) : (w ||| m) = w ↔ w.toBitVec.getLsbD j = true := by
  rw [← Int64.toBitVec_inj, Int64.toBitVec_or, hm]
  constructor
  · intro h
    have t := congrArg (fun x => x.getLsbD j) h
    simp only [BitVec.getLsbD_or, BitVec.getLsbD_twoPow] at t
    simpa [hj] using t.symm
  · intro h
    apply BitVec.eq_of_getLsbD_eq
    intro i hi
    rw [BitVec.getLsbD_or, BitVec.getLsbD_twoPow]
    by_cases e : j = i
    · subst e; rw [h, Bool.true_or]
    · simp [e]
theorem ts_and {w m : Int64} {j : Nat} (hj : j < 64) (hm : m.toBitVec = BitVec.twoPow 64 j) : (w &&& (m ^^^ (-1))) = w ↔ w.toBitVec.getLsbD j = false := by
  have ha : (-1 : Int64).toBitVec = BitVec.allOnes 64 := by decide
  rw [← Int64.toBitVec_inj, Int64.toBitVec_and, Int64.toBitVec_xor, hm, ha]
  constructor
  · intro h
    have t := congrArg (fun x => x.getLsbD j) h
    simp only [BitVec.getLsbD_and, BitVec.getLsbD_xor, BitVec.getLsbD_twoPow, BitVec.getLsbD_allOnes] at t
    simpa [hj] using t.symm
  · intro h
    apply BitVec.eq_of_getLsbD_eq
    intro i hi
    rw [BitVec.getLsbD_and, BitVec.getLsbD_xor, BitVec.getLsbD_twoPow, BitVec.getLsbD_allOnes]
    by_cases e : j = i
    · subst e; rw [h, Bool.false_and]
    · simp [e, hi]
/-! ===== lN n to 2^64: shifts, and, or, masks, one bit ===== -/
theorem wb_tb (n : Nat) : (lN n).toBitVec = BitVec.ofNat 64 n := rfl
theorem wb_inj {a b : Int64} (h : a.toBitVec = b.toBitVec) : a = b := Int64.toBitVec_inj.mp h
theorem wb_tn {n : Nat} (h : n < 2 ^ 64) : (lN n).toBitVec.toNat = n := by rw [wb_tb, BitVec.toNat_ofNat, Nat.mod_eq_of_lt h]
theorem wb_of (x : Int64) : ∃ n, n < 2 ^ 64 ∧ x = lN n := ⟨x.toBitVec.toNat, x.toBitVec.isLt, wb_inj (by rw [wb_tb]; simp)⟩
theorem wb_of32 (x : Int32) : ∃ n, n < 2 ^ 32 ∧ x = nI n := ⟨x.toBitVec.toNat, x.toBitVec.isLt, Int32.toBitVec_inj.mp (by show _ = BitVec.ofNat 32 _; simp)⟩
theorem wb_c : ∀ k, k < 64 → ((nI k).toInt64 &&& 63) = lN k := by decide +kernel
theorem wb_cu : ∀ k, k < 64 → ((nI k).toInt64.toUInt64 &&& Int64.toUInt64 63) = UInt64.ofNat k := by decide +kernel
theorem wb_sm : ∀ k, k < 64 → (BitVec.ofNat 64 k).smod 64 = BitVec.ofNat 64 k := by decide +kernel
theorem wb_pw {a b : Nat} (h : a ≤ b) : 2 ^ b = 2 ^ a * 2 ^ (b - a) := by rw [← Nat.pow_add]; congr 1; omega
theorem wb_lt2 {a b : Nat} (h : a < b) : 2 ^ a < 2 ^ b := Nat.pow_lt_pow_right (by decide) h
theorem wb_mod (n : Nat) : lN n = lN (n % 2 ^ 64) := wb_inj (by rw [wb_tb, wb_tb]; apply BitVec.eq_of_toNat_eq; rw [BitVec.toNat_ofNat, BitVec.toNat_ofNat, Nat.mod_mod])
theorem wb_shr {n k : Nat} (hn : n < 2 ^ 64) (hk : k < 64) : ((lN n).toUInt64 >>> ((nI k).toInt64.toUInt64 &&& Int64.toUInt64 63)).toInt64 = lN (n / 2 ^ k) := by
  rw [wb_cu k hk]
  apply wb_inj
  apply BitVec.eq_of_toNat_eq
  show ((lN n).toUInt64 >>> UInt64.ofNat k).toNat = (BitVec.ofNat 64 _).toNat
  have h1 : (UInt64.ofNat k).toNat = k := by
    show (BitVec.ofNat 64 k).toNat = k
    rw [BitVec.toNat_ofNat, Nat.mod_eq_of_lt (by omega)]
  have h2 : (lN n).toUInt64.toNat = n := wb_tn hn
  rw [UInt64.toNat_shiftRight, h1, h2, Nat.mod_eq_of_lt hk, Nat.shiftRight_eq_div_pow, BitVec.toNat_ofNat, Nat.mod_eq_of_lt (Nat.lt_of_le_of_lt (Nat.div_le_self _ _) hn)]
theorem wb_shl (n : Nat) {k : Nat} (hk : k < 64) : lN n <<< ((nI k).toInt64 &&& 63) = lN (n * 2 ^ k) := by
  rw [wb_c k hk]
  apply wb_inj
  rw [Int64.toBitVec_shiftLeft, wb_tb, wb_tb, wb_tb, wb_sm k hk]
  apply BitVec.eq_of_toNat_eq
  rw [BitVec.shiftLeft_eq', BitVec.toNat_shiftLeft, BitVec.toNat_ofNat, BitVec.toNat_ofNat, BitVec.toNat_ofNat, Nat.mod_eq_of_lt (show k < 2 ^ 64 by omega), Nat.shiftLeft_eq, Nat.mul_mod, Nat.mod_mod, ← Nat.mul_mod]
theorem wb_and {a b : Nat} (ha : a < 2 ^ 64) (hb : b < 2 ^ 64) : lN a &&& lN b = lN (a &&& b) := by
  apply wb_inj
  rw [Int64.toBitVec_and, wb_tb, wb_tb, wb_tb]
  apply BitVec.eq_of_toNat_eq
  rw [BitVec.toNat_and, BitVec.toNat_ofNat, BitVec.toNat_ofNat, BitVec.toNat_ofNat, Nat.mod_eq_of_lt ha, Nat.mod_eq_of_lt hb, Nat.mod_eq_of_lt (Nat.and_lt_two_pow _ hb)]
theorem wb_or {a b : Nat} (ha : a < 2 ^ 64) (hb : b < 2 ^ 64) : lN a ||| lN b = lN (a ||| b) := by
  apply wb_inj
  rw [Int64.toBitVec_or, wb_tb, wb_tb, wb_tb]
  apply BitVec.eq_of_toNat_eq
  rw [BitVec.toNat_or, BitVec.toNat_ofNat, BitVec.toNat_ofNat, BitVec.toNat_ofNat, Nat.mod_eq_of_lt ha, Nat.mod_eq_of_lt hb, Nat.mod_eq_of_lt (Nat.or_lt_two_pow ha hb)]
theorem wb_mask {n k : Nat} (hn : n < 2 ^ 64) (hk : k < 64) : lN n &&& lN (2 ^ k - 1) = lN (n % 2 ^ k) := by
  rw [wb_and hn (by have := wb_lt2 hk; omega), Nat.and_two_pow_sub_one_eq_mod]
theorem wb_a1 {n : Nat} (hn : n < 2 ^ 64) : lN n &&& 1 = lN (n % 2) := wb_mask (k := 1) hn (by decide)
theorem wb_bit {n k : Nat} (hn : n < 2 ^ 64) (hk : k < 64) : ((lN n).toUInt64 >>> ((nI k).toInt64.toUInt64 &&& Int64.toUInt64 63)).toInt64 &&& 1 = lN (n / 2 ^ k % 2) := by
  rw [wb_shr hn hk, wb_a1 (Nat.lt_of_le_of_lt (Nat.div_le_self _ _) hn)]
theorem wb_xor {q k : Nat} (hk : k < 63) (h : 2 ^ k ≤ q) (h2 : q < 2 ^ (k + 1)) : lN q ^^^ lN (2 ^ k) = lN (q - 2 ^ k) := by
  obtain ⟨r, rfl⟩ : ∃ r, q = 2 ^ k + r := ⟨q - 2 ^ k, by omega⟩
  have hr : r < 2 ^ k := by rw [Nat.pow_succ] at h2; omega
  have hx : (2 ^ k + r) ^^^ 2 ^ k = r := by
    apply Nat.eq_of_testBit_eq
    intro i
    rw [Nat.testBit_xor, Nat.testBit_two_pow]
    rcases Nat.lt_trichotomy i k with h | h | h
    · rw [Nat.testBit_two_pow_add_gt h]
      simp [show ¬ k = i by omega]
    · subst h
      rw [Nat.testBit_two_pow_add_eq]
      simp
    · have a1 : 2 ^ (k + 1) ≤ 2 ^ i := Nat.pow_le_pow_right (by decide) h
      rw [Nat.testBit_lt_two_pow (show 2 ^ k + r < 2 ^ i by omega), Nat.testBit_lt_two_pow (show r < 2 ^ i by omega)]
      simp [show ¬ k = i by omega]
  have b1 := wb_lt2 (show k + 1 < 64 by omega)
  have b2 := wb_lt2 (show k < 64 by omega)
  apply wb_inj
  rw [Int64.toBitVec_xor, wb_tb, wb_tb, wb_tb]
  apply BitVec.eq_of_toNat_eq
  rw [BitVec.toNat_xor, BitVec.toNat_ofNat, BitVec.toNat_ofNat, BitVec.toNat_ofNat, Nat.mod_eq_of_lt (by omega : 2 ^ k + r < 2 ^ 64), Nat.mod_eq_of_lt b2, hx, Nat.add_sub_cancel_left, Nat.mod_eq_of_lt (by omega)]
/-! ===== lN: masks, 'or' of parts that don't overlap is a sum ===== -/
theorem u_tn {n : Nat} (h : n < 2 ^ 64) : (UInt64.ofNat n).toNat = n := Nat.mod_eq_of_lt h
theorem g_and {a b c : Nat} (ha : a < 2 ^ 64) (hb : b < 2 ^ 64) (hc : a &&& b = c) : lN a &&& lN b = lN c := by
  subst hc
  have h : UInt64.ofNat a &&& UInt64.ofNat b = UInt64.ofNat (a &&& b) := UInt64.toNat_inj.mp (by rw [UInt64.toNat_and, u_tn ha, u_tn hb, u_tn (Nat.and_lt_two_pow a hb)])
  have h2 := congrArg UInt64.toInt64 h
  exact h2
theorem g_and1 {a : Nat} (ha : a < 2 ^ 64) : lN a &&& 1 = lN (a % 2) := g_and (b := 1) ha (by decide) (Nat.and_two_pow_sub_one_eq_mod a 1)
theorem g_mask {a s p : Nat} (hp : 2 ^ s = p) (hs : s < 64) (ha : a < 2 ^ 64) : lN a &&& lN (p - 1) = lN (a % p) := by
  subst hp
  have := Nat.pow_lt_pow_right (show 1 < 2 by decide) hs
  exact g_and ha (by omega) (Nat.and_two_pow_sub_one_eq_mod a s)
theorem g_or {k p a b : Nat} (hp : 2 ^ k = p) (ha : a < p) (h : b * p + a < 2 ^ 64) : lN (b * p) ||| lN a = lN (b * p + a) := by
  subst hp
  have h1 : b * 2 ^ k ||| a = b * 2 ^ k + a := by rw [← Nat.shiftLeft_eq, Nat.shiftLeft_add_eq_or_of_lt ha]
  have h3 : UInt64.ofNat (b * 2 ^ k) ||| UInt64.ofNat a = UInt64.ofNat (b * 2 ^ k + a) := UInt64.toNat_inj.mp (by rw [UInt64.toNat_or, u_tn (by omega), u_tn (by omega), u_tn h, h1])
  have h2 := congrArg UInt64.toInt64 h3
  exact h2
theorem g_or' {k p a b : Nat} (hp : 2 ^ k = p) (ha : a < p) (h : a + b * p < 2 ^ 64) : lN a ||| lN (b * p) = lN (a + b * p) := by
  rw [Int64.or_comm, g_or hp ha (by omega), Nat.add_comm]
theorem g_ushr {a k p : Nat} {y : UInt64} (hy : y = UInt64.ofNat k) (hk : k < 64) (hp : 2 ^ k = p) (ha : a < 2 ^ 64) : ((lN a).toUInt64 >>> y).toInt64 = lN (a / p) := by
  subst hy hp
  have h : UInt64.ofNat a >>> UInt64.ofNat k = UInt64.ofNat (a / 2 ^ k) := UInt64.toNat_inj.mp (by rw [UInt64.toNat_shiftRight, u_tn ha, u_tn (by omega), u_tn (Nat.lt_of_le_of_lt (Nat.div_le_self _ _) ha), Nat.mod_eq_of_lt hk, Nat.shiftRight_eq_div_pow])
  have h2 := congrArg UInt64.toInt64 h
  exact h2
theorem g_shl {a k p : Nat} {y : Int64} (hy : y.toBitVec.smod 64 = BitVec.ofNat 64 k) (hk : k < 64) (hp : 2 ^ k = p) (ha : a < 2 ^ 64) : lN a <<< y = lN (a * p) := by
  subst hp
  apply Int64.toBitVec_inj.mp
  rw [Int64.toBitVec_shiftLeft, hy]
  apply BitVec.eq_of_toNat_eq
  have hb : (lN a).toBitVec.toNat = a := Nat.mod_eq_of_lt ha
  have hk' : (BitVec.ofNat 64 k).toNat = k := Nat.mod_eq_of_lt (by omega)
  have h : ((lN a).toBitVec <<< BitVec.ofNat 64 k).toNat = (a * 2 ^ k) % 2 ^ 64 := by simp only [BitVec.shiftLeft_eq', BitVec.toNat_shiftLeft, hb, hk', Nat.shiftLeft_eq]
  exact h
/-! ===== lN to 2^62 under >> and >>> ===== -/
theorem pf_lI {a : Nat} (h : a < 2 ^ 63) : (lN a).toInt = (a : Int) := lg_ofNat_toInt h
theorem pf_shr {a d : Nat} {D : Int64} (hD : (D.toBitVec.smod 64).toNat = d) (h : a < 2 ^ 62) : lN a >>> D = lN (a / 2 ^ d) := by
  have hd : a / 2 ^ d ≤ a := Nat.div_le_self _ _
  apply Int64.toInt_inj.mp
  have e : (lN a >>> D).toInt = (lN a).toInt >>> d := by
    rw [← hD]
    exact BitVec.toInt_sshiftRight ..
  rw [e, Int.shiftRight_eq_div_pow, pf_lI (by omega), pf_lI (by omega)]
  rfl
theorem pf_ushr {a d : Nat} {D : UInt64} (hD : D.toNat % 64 = d) (h : a < 2 ^ 62) : ((lN a).toUInt64 >>> D).toInt64 = lN (a / 2 ^ d) := by
  have hd : a / 2 ^ d ≤ a := Nat.div_le_self _ _
  have e : (lN a).toUInt64 >>> D = UInt64.ofNat (a / 2 ^ d) := UInt64.toNat_inj.mp (by
    rw [UInt64.toNat_shiftRight, hD, Nat.shiftRight_eq_div_pow, UInt64.toNat_ofNat']
    show (UInt64.ofNat a).toNat / 2 ^ d = _
    rw [UInt64.toNat_ofNat', Nat.mod_eq_of_lt (by omega), Nat.mod_eq_of_lt (by omega)])
  rw [e]
  rfl
theorem pf_andw (x : Int64) : ∃ m, m < 2 ^ 32 ∧ x &&& 4294967295 = lN m := ⟨x.toBitVec.toNat % 2 ^ 32, Nat.mod_lt _ (by decide), Int64.toBitVec_inj.mp (BitVec.eq_of_toNat_eq (by
  show (x.toBitVec &&& 4294967295#64).toNat = (BitVec.ofNat 64 (x.toBitVec.toNat % 2 ^ 32)).toNat
  rw [BitVec.toNat_and, show (4294967295#64).toNat = 2 ^ 32 - 1 from by decide, Nat.and_two_pow_sub_one_eq_mod, BitVec.toNat_ofNat]
  omega))⟩
/-! ===== Int64 as an unsigned number: uN x ===== -/
def uN (x : Int64) : Nat := x.toUInt64.toNat
theorem uN_lt (x : Int64) : uN x < 18446744073709551616 := x.toUInt64.toNat_lt
theorem uN_inj {x y : Int64} (h : uN x = uN y) : x = y := congrArg UInt64.toInt64 (UInt64.toNat_inj.mp h)
theorem uN_add (x y : Int64) : uN (x + y) = (uN x + uN y) % 18446744073709551616 := by
  show (x.toUInt64 + y.toUInt64).toNat = _
  exact UInt64.toNat_add _ _
theorem uN_mul (x y : Int64) : uN (x * y) = (uN x * uN y) % 18446744073709551616 := by
  show (x.toUInt64 * y.toUInt64).toNat = _
  exact UInt64.toNat_mul _ _
theorem uN_shl (x : Int64) : uN (x <<< ((1 : Int32).toInt64 &&& 63)) = (2 * uN x) % 18446744073709551616 := by
  have h : (((1 : Int32).toInt64 &&& 63).toBitVec.smod 64).toNat = 1 := by decide
  show (x.toBitVec <<< (((1 : Int32).toInt64 &&& 63).toBitVec.smod 64).toNat).toNat = _
  rw [h, BitVec.toNat_shiftLeft, Nat.shiftLeft_eq, Nat.mul_comm]
  rfl
theorem uN_shr (x : Int64) (s : UInt64) : uN (x.toUInt64 >>> s).toInt64 = uN x / 2 ^ (s.toNat % 64) := by
  show (x.toUInt64 >>> s).toNat = _
  rw [UInt64.toNat_shiftRight, Nat.shiftRight_eq_div_pow]
  rfl
theorem uN_s32 (x : Int64) : uN (x.toUInt64 >>> ((32 : Int32).toInt64.toUInt64 &&& Int64.toUInt64 63)).toInt64 = uN x / 4294967296 := by
  have h : ((32 : Int32).toInt64.toUInt64 &&& Int64.toUInt64 63).toNat % 64 = 32 := by decide
  rw [uN_shr, h]
theorem uN_s63 (x : Int64) : uN (x.toUInt64 >>> ((63 : Int32).toInt64.toUInt64 &&& Int64.toUInt64 63)).toInt64 = uN x / 9223372036854775808 := by
  have h : ((63 : Int32).toInt64.toUInt64 &&& Int64.toUInt64 63).toNat % 64 = 63 := by decide
  rw [uN_shr, h]
theorem uN_lo (x : Int64) : uN (x &&& 4294967295) = uN x % 4294967296 := by
  show (x.toUInt64 &&& Int64.toUInt64 4294967295).toNat = _
  rw [UInt64.toNat_and]
  exact Nat.and_two_pow_sub_one_eq_mod _ 32
theorem uN_bit (x : Int64) : (x &&& 1) = 0 ↔ uN x % 2 = 0 := by
  have h : uN (x &&& 1) = uN x % 2 := by
    show (x.toUInt64 &&& Int64.toUInt64 1).toNat = _
    rw [UInt64.toNat_and]
    exact Nat.and_two_pow_sub_one_eq_mod _ 1
  rw [← h]
  exact ⟨fun z => by rw [z]; rfl, fun z => uN_inj (z.trans rfl)⟩
theorem uN_or {x y : Int64} (hy : uN y < 2) : uN ((x <<< ((1 : Int32).toInt64 &&& 63)) ||| y) = (2 * uN x) % 18446744073709551616 + uN y := by
  have h1 : uN ((x <<< ((1 : Int32).toInt64 &&& 63)) ||| y) = uN (x <<< ((1 : Int32).toInt64 &&& 63)) ||| uN y := UInt64.toNat_or _ _
  have h2 : (2 * uN x) % 18446744073709551616 = 2 ^ 1 * (uN x % 9223372036854775808) := by omega
  rw [h1, uN_shl, h2]
  exact (Nat.two_pow_add_eq_or_of_lt (i := 1) hy _).symm
theorem nat_xor {a : Nat} (h : a < 18446744073709551616) : a ^^^ 2 ^ 63 = (a + 9223372036854775808) % 18446744073709551616 := by
  have h1 : (a ^^^ 2 ^ 63) % 2 ^ 63 = a % 2 ^ 63 := by rw [Nat.xor_mod_two_pow, Nat.mod_self, Nat.xor_zero]
  have h2 : (a ^^^ 2 ^ 63) / 2 ^ 63 = (a / 2 ^ 63) ^^^ 1 := by rw [Nat.xor_div_two_pow, Nat.div_self (Nat.two_pow_pos 63)]
  have h3 : a / 2 ^ 63 = 0 ∨ a / 2 ^ 63 = 1 := by omega
  generalize a ^^^ 2 ^ 63 = t at h1 h2
  rcases h3 with h3 | h3
  · rw [h3] at h2
    have h2 : t / 2 ^ 63 = 1 := h2
    omega
  · rw [h3] at h2
    have h2 : t / 2 ^ 63 = 0 := h2
    omega
theorem uN_xor (x : Int64) : uN (x ^^^ (-9223372036854775808)) = (uN x + 9223372036854775808) % 18446744073709551616 := by
  rw [← nat_xor (uN_lt x)]
  exact UInt64.toNat_xor _ _
theorem uN_int (x : Int64) : x.toInt = if 2 * uN x < 18446744073709551616 then (uN x : Int) else (uN x : Int) - 18446744073709551616 := BitVec.toInt_eq_toNat_cond _
theorem uN_le (x y : Int64) : (x ^^^ (-9223372036854775808)) ≤ (y ^^^ (-9223372036854775808)) ↔ uN x ≤ uN y := by
  have hx := uN_lt x
  have hy := uN_lt y
  rw [Int64.le_iff_toInt_le, uN_int, uN_int, uN_xor, uN_xor]
  omega
theorem uN_sk (x : Int64) {k : Nat} (hk : k < 64) : uN (x.toUInt64 >>> ((nI k).toInt64.toUInt64 &&& Int64.toUInt64 63)).toInt64 = uN x / 2 ^ k := by
  have h : ((nI k).toInt64.toUInt64 &&& Int64.toUInt64 63).toNat % 64 = k := by
    rw [nI_l (by omega), UInt64.toNat_and]
    have e : (lN k).toUInt64.toNat = k % 2 ^ 64 := rfl
    have e2 : (Int64.toUInt64 63).toNat = 2 ^ 6 - 1 := by decide
    rw [e, e2, Nat.and_two_pow_sub_one_eq_mod]
    omega
  rw [uN_shr, h]
/-! ===== unsigned comparison by xor with the least ===== -/
theorem lN_bv (n : Nat) : (lN n).toBitVec = BitVec.ofNat 64 n := rfl
theorem lN_nat {n : Nat} (h : n < 2 ^ 64) : (lN n).toBitVec.toNat = n := by rw [lN_bv, BitVec.toNat_ofNat]; exact Nat.mod_eq_of_lt h
theorem lN_xor (a b : Nat) : lN a ^^^ lN b = lN (a ^^^ b) := by
  apply Int64.toBitVec_inj.mp; rw [Int64.toBitVec_xor, lN_bv, lN_bv, lN_bv]; apply BitVec.eq_of_getLsbD_eq; intro i hi; simp [BitVec.getLsbD_ofNat, Nat.testBit_xor, hi]
theorem lN_ti {m : Nat} (h : m < 2 ^ 64) : (lN m).toInt = if m < 2 ^ 63 then (m : Int) else (m : Int) - 2 ^ 64 := by
  have c := BitVec.toInt_eq_toNat_cond (lN m).toBitVec
  rw [lN_nat h] at c
  show (lN m).toBitVec.toInt = _
  rw [c]
  split <;> split <;> omega
theorem xor63 {x : Nat} (h : x < 2 ^ 63) : x ^^^ 2 ^ 63 = 2 ^ 63 + x := by
  apply Nat.eq_of_testBit_eq
  intro i
  rw [Nat.testBit_xor, Nat.testBit_two_pow]
  rcases Nat.lt_trichotomy i 63 with z | z | z
  · rw [Nat.testBit_two_pow_add_gt z, decide_eq_false (by omega)]; simp
  · subst z; rw [Nat.testBit_two_pow_add_eq]; simp
  · have hp : 2 ^ 64 ≤ 2 ^ i := Nat.pow_le_pow_right (by decide) z
    rw [Nat.testBit_lt_two_pow (show x < 2 ^ i by omega), Nat.testBit_lt_two_pow (show 2 ^ 63 + x < 2 ^ i by omega), decide_eq_false (by omega)]; rfl
theorem xorS {a : Nat} (h : a < 2 ^ 64) : (lN a ^^^ (-9223372036854775808)).toInt = (a : Int) - 2 ^ 63 := by
  rw [show (-9223372036854775808 : Int64) = lN (2 ^ 63) from by decide +kernel, lN_xor]
  rcases Nat.lt_or_ge a (2 ^ 63) with z | z
  · rw [xor63 z, lN_ti (by omega), if_neg (by omega)]; omega
  · obtain ⟨x, rfl⟩ : ∃ x, a = 2 ^ 63 + x := ⟨a - 2 ^ 63, by omega⟩
    rw [← xor63 (by omega), Nat.xor_assoc, Nat.xor_self, Nat.xor_zero, lN_ti (by omega), if_pos (by omega), xor63 (by omega)]; omega
theorem ultL {a b : Nat} (ha : a < 2 ^ 64) (hb : b < 2 ^ 64) : ((lN b ^^^ (-9223372036854775808)) ≤ (lN a ^^^ (-9223372036854775808))) ↔ b ≤ a := by
  rw [Int64.le_iff_toInt_le, xorS ha, xorS hb]; omega
/-! ===== Int64 masks of n low bits ===== -/
theorem cr_bits (W U M : BitVec 64) : ((W &&& U) &&& (U &&& (M ^^^ BitVec.allOnes 64))) = 0#64 ↔ (W &&& U) &&& M = W &&& U := by
  constructor
  · intro h
    apply BitVec.eq_of_getLsbD_eq
    intro i hi
    have e := congrArg (fun x => BitVec.getLsbD x i) h
    simp only [BitVec.getLsbD_and, BitVec.getLsbD_xor, BitVec.getLsbD_allOnes, BitVec.getLsbD_zero, hi, decide_true] at e ⊢
    revert e
    cases W.getLsbD i <;> cases U.getLsbD i <;> cases M.getLsbD i <;> decide
  · intro h
    apply BitVec.eq_of_getLsbD_eq
    intro i hi
    have e := congrArg (fun x => BitVec.getLsbD x i) h
    simp only [BitVec.getLsbD_and, BitVec.getLsbD_xor, BitVec.getLsbD_allOnes, BitVec.getLsbD_zero, hi, decide_true] at e ⊢
    revert e
    cases W.getLsbD i <;> cases U.getLsbD i <;> cases M.getLsbD i <;> decide
theorem cr_mask (w U m : Int64) (n : Nat) (hm : m.toBitVec.toNat = 2 ^ n - 1) : ((w &&& U) &&& (U &&& (m ^^^ (-1)))) = 0 ↔ (w &&& U).toBitVec.toNat < 2 ^ n := by
  have e0 : (-1 : Int64).toBitVec = BitVec.allOnes 64 := by decide
  have z0 : (0 : Int64).toBitVec = 0#64 := by decide
  rw [← Int64.toBitVec_inj, z0, Int64.toBitVec_and, Int64.toBitVec_and, Int64.toBitVec_and, Int64.toBitVec_xor, e0, cr_bits]
  generalize w.toBitVec &&& U.toBitVec = T
  rw [← BitVec.toNat_inj, BitVec.toNat_and, hm, Nat.and_two_pow_sub_one_eq_mod]
  constructor
  · intro h
    have t := Nat.mod_lt T.toNat (Nat.two_pow_pos n)
    rw [h] at t
    exact t
  · exact Nat.mod_eq_of_lt
theorem cr_shr (t : Int64) (x : UInt64) (n : Nat) (hx : x.toNat % 64 = n) : (t.toUInt64 >>> x).toInt64 = 0 ↔ t.toBitVec.toNat < 2 ^ n := by
  rw [← Int64.toBitVec_inj, ← BitVec.toNat_inj]
  show (t.toUInt64 >>> x).toNat = 0 ↔ t.toUInt64.toNat < 2 ^ n
  rw [UInt64.toNat_shiftRight, hx, Nat.shiftRight_eq_div_pow]
  constructor
  · intro h
    have d : t.toUInt64.toNat / 2 ^ n < 1 := by
      rw [h]
      decide
    have e := (Nat.div_lt_iff_lt_mul (Nat.two_pow_pos n)).mp d
    rw [Nat.one_mul] at e
    exact e
  · exact Nat.div_eq_of_lt
theorem cr_amt (s : Int64) : ∃ n, n < 64 ∧ s &&& 63 = lN n ∧ (s.toUInt64 &&& Int64.toUInt64 63).toNat % 64 = n := by
  have e : (s.toUInt64 &&& Int64.toUInt64 63).toNat = s.toUInt64.toNat % 2 ^ 6 := by
    rw [UInt64.toNat_and, show (Int64.toUInt64 63).toNat = 2 ^ 6 - 1 from by decide, Nat.and_two_pow_sub_one_eq_mod]
  refine ⟨s.toUInt64.toNat % 2 ^ 6, by omega, ?_, by omega⟩
  rw [← Int64.toBitVec_inj, ← BitVec.toNat_inj]
  show (s.toUInt64 &&& Int64.toUInt64 63).toNat = (BitVec.ofNat 64 (s.toUInt64.toNat % 2 ^ 6)).toNat
  rw [e, BitVec.toNat_ofNat]
  omega
end
section
/-! ===== counting over the 32 cards, from the top card down ===== -/
def zc_cnt (p : Nat → Bool) : Nat → Nat
  | 0 => 0
  | n + 1 => zc_cnt p n + (if p n = true then 1 else 0)
theorem zc_s (p : Nat → Bool) (n : Nat) : zc_cnt p (n + 1) = zc_cnt p n + (if p n = true then 1 else 0) := rfl
theorem zc_mono {p : Nat → Bool} {a : Nat} : ∀ {b : Nat}, a ≤ b → zc_cnt p a ≤ zc_cnt p b := by
  intro b
  induction b with
  | zero => intro h; have e : a = 0 := by omega
            rw [e]; exact Nat.le_refl _
  | succ b ih =>
    intro h
    by_cases e : a = b + 1
    · rw [e]; exact Nat.le_refl _
    · have h2 := ih (by omega)
      rw [zc_s]
      exact Nat.le_trans h2 (Nat.le_add_right _ _)
theorem zc_congr {p q : Nat → Bool} : ∀ {n : Nat}, (∀ i, i < n → p i = q i) → zc_cnt p n = zc_cnt q n := by
  intro n
  induction n with
  | zero => intro _; rfl
  | succ n ih => intro h; rw [zc_s, zc_s, ih (fun i hi => h i (by omega)), h n (by omega)]
theorem zc_le {p q : Nat → Bool} : ∀ {n : Nat}, (∀ i, i < n → p i = true → q i = true) → zc_cnt p n ≤ zc_cnt q n := by
  intro n
  induction n with
  | zero => intro _; exact Nat.le_refl _
  | succ n ih =>
    intro h
    have h1 := ih (fun i hi => h i (by omega))
    have h2 := h n (by omega)
    rw [zc_s, zc_s]
    by_cases e : p n = true
    · rw [if_pos e, if_pos (h2 e)]; omega
    · rw [if_neg e]; exact Nat.le_trans h1 (Nat.le_add_right _ _)
theorem zc_lt {p q : Nat → Bool} {x : Nat} (hq : q x = true) (hp : p x = false) : ∀ {n : Nat}, (∀ i, i < n → p i = true → q i = true) → x < n → zc_cnt p n < zc_cnt q n := by
  intro n
  induction n with
  | zero => intro _ h; omega
  | succ n ih =>
    intro h hx
    rw [zc_s, zc_s]
    by_cases e : x = n
    · have h1 := zc_le (p := p) (q := q) (n := n) (fun i hi => h i (by omega))
      rw [← e, if_pos hq, if_neg (by rw [hp]; exact Bool.false_ne_true)]
      rw [← e] at h1
      omega
    · have h1 := ih (fun i hi => h i (by omega)) (by omega)
      have h2 := h n (by omega)
      by_cases e2 : p n = true
      · rw [if_pos e2, if_pos (h2 e2)]; omega
      · rw [if_neg e2]; exact Nat.lt_of_lt_of_le h1 (Nat.le_add_right _ _)
theorem zc_rm {p q : Nat → Bool} {x : Nat} (hp : p x = true) (hq : q x = false) : ∀ {n : Nat}, (∀ i, i < n → i ≠ x → q i = p i) → x < n → zc_cnt q n + 1 = zc_cnt p n := by
  intro n
  induction n with
  | zero => intro _ h; omega
  | succ n ih =>
    intro h hx
    rw [zc_s, zc_s]
    by_cases e : x = n
    · have h1 : zc_cnt q n = zc_cnt p n := zc_congr (fun i hi => h i (by omega) (by omega))
      rw [← e, if_pos hp, if_neg (by rw [hq]; exact Bool.false_ne_true)]
      rw [← e] at h1
      omega
    · have h1 := ih (fun i hi => h i (by omega)) (by omega)
      rw [h n (by omega) (by omega)]
      omega
theorem zc_sel {p : Nat → Bool} {j : Nat} : ∀ {n : Nat}, j < zc_cnt p n → ∃ i, i < n ∧ p i = true ∧ zc_cnt p i = j := by
  intro n
  induction n with
  | zero => intro h; exact absurd h (Nat.not_lt_zero _)
  | succ n ih =>
    intro h
    rw [zc_s] at h
    by_cases e : p n = true
    · rw [if_pos e] at h
      by_cases e2 : zc_cnt p n = j
      · exact ⟨n, by omega, e, e2⟩
      · obtain ⟨i, h1, h2⟩ := ih (by omega)
        exact ⟨i, by omega, h2⟩
    · rw [if_neg e] at h
      obtain ⟨i, h1, h2⟩ := ih (by omega)
      exact ⟨i, by omega, h2⟩
theorem zc_ltI {p : Nat → Bool} {i j : Nat} (hi : p i = true) (h : i < j) : zc_cnt p i < zc_cnt p j := by
  have h1 : zc_cnt p (i + 1) ≤ zc_cnt p j := zc_mono h
  rw [zc_s, if_pos hi] at h1
  omega
theorem zc_inj {p : Nat → Bool} {i j : Nat} (hi : p i = true) (hj : p j = true) (h : zc_cnt p i = zc_cnt p j) : i = j := by
  rcases Nat.lt_trichotomy i j with e | e | e
  · have := zc_ltI hi e; omega
  · exact e
  · have := zc_ltI hj e; omega
/-- the last held place below i -/
theorem zc_last {h : Nat → Bool} {r : Nat} : ∀ {i : Nat}, zc_cnt h i = r + 1 → ∃ k, k < i ∧ h k = true ∧ zc_cnt h k = r ∧ ∀ q : Nat → Bool, (∀ j, q j = true → h j = true) → zc_cnt q i = zc_cnt q k + (if q k = true then 1 else 0) := by
  intro i
  induction i with
  | zero => intro e; have e2 : 0 = r + 1 := e
            omega
  | succ i ih =>
    intro e
    rw [zc_s] at e
    by_cases c : h i = true
    · rw [if_pos c] at e
      exact ⟨i, by omega, c, by omega, fun q _ => zc_s q i⟩
    · rw [if_neg c] at e
      obtain ⟨k, h1, h2, h3, h4⟩ := ih (by omega)
      refine ⟨k, by omega, h2, h3, fun q hq => ?_⟩
      rw [zc_s, if_neg (fun z => c (hq i z)), h4 q hq]
      omega
theorem zc_seq {h h' : Nat → Bool} {f f' : Nat → Nat} {top : Nat → Prop} (hM : ∀ i i', i < 32 → i' < 32 → h i = true → h' i' = true → zc_cnt h i = zc_cnt h' i' → top i → f i = f' i') :
    ∀ (r i i' : Nat), i ≤ 32 → i' ≤ 32 → zc_cnt h i = r → zc_cnt h' i' = r → (∀ k, k < i → h k = true → top k) → ∀ o, zc_cnt (fun j => h j && decide (f j = o)) i = zc_cnt (fun j => h' j && decide (f' j = o)) i' := by
  intro r
  induction r with
  | zero =>
    intro i i' _ _ e e' _ o
    have h1 : zc_cnt (fun j => h j && decide (f j = o)) i ≤ zc_cnt h i := zc_le (fun j _ z => (Bool.and_eq_true _ _ ▸ z : _ ∧ _).1)
    have h2 : zc_cnt (fun j => h' j && decide (f' j = o)) i' ≤ zc_cnt h' i' := zc_le (fun j _ z => (Bool.and_eq_true _ _ ▸ z : _ ∧ _).1)
    omega
  | succ r ih =>
    intro i i' hi hi' e e' ht o
    obtain ⟨k, k1, k2, k3, k4⟩ := zc_last e
    obtain ⟨l, l1, l2, l3, l4⟩ := zc_last e'
    have hf := hM k l (by omega) (by omega) k2 l2 (by omega) (ht k k1 k2)
    have h0 := ih k l (by omega) (by omega) k3 l3 (fun q hq hh => ht q (by omega) hh) o
    rw [k4 (fun j => h j && decide (f j = o)) (fun j z => (Bool.and_eq_true _ _ ▸ z : _ ∧ _).1), l4 (fun j => h' j && decide (f' j = o)) (fun j z => (Bool.and_eq_true _ _ ▸ z : _ ∧ _).1), h0]
    have e3 : (h k && decide (f k = o)) = (h' l && decide (f' l = o)) := by rw [k2, l2, hf]
    show _ + (if (h k && decide (f k = o)) = true then 1 else 0) = _ + (if (h' l && decide (f' l = o)) = true then 1 else 0)
    rw [e3]
theorem zc_four {h : Nat → Bool} {f : Nat → Nat} : ∀ {n : Nat}, (∀ i, i < n → h i = true → f i < 4) → zc_cnt h n = zc_cnt (fun j => h j && decide (f j = 0)) n + zc_cnt (fun j => h j && decide (f j = 1)) n + zc_cnt (fun j => h j && decide (f j = 2)) n + zc_cnt (fun j => h j && decide (f j = 3)) n := by
  intro n
  induction n with
  | zero => intro _; rfl
  | succ n ih =>
    intro hf
    have h1 := ih (fun i hi => hf i (by omega))
    have h2 := hf n (by omega)
    rw [zc_s, zc_s, zc_s, zc_s, zc_s, h1]
    by_cases c : h n = true
    · have h3 := h2 c
      have h4 : f n = 0 ∨ f n = 1 ∨ f n = 2 ∨ f n = 3 := by omega
      rcases h4 with e | e | e | e <;> simp [c, e] <;> omega
    · simp [c]
/-! cards: place i is card 31 - i -/
def zc_fl (p : Nat → Bool) : Nat → Bool := fun i => p (31 - i)
def zc_ab (p : Nat → Bool) (m : Nat) : Nat := zc_cnt (zc_fl p) (32 - m)
def zc_tot (p : Nat → Bool) : Nat := zc_ab p 0
theorem zc_ab_32 (p : Nat → Bool) : zc_ab p 32 = 0 := rfl
theorem zc_ab_s (p : Nat → Bool) {q : Nat} (h : q < 32) : zc_ab p q = zc_ab p (q + 1) + (if p q = true then 1 else 0) := by
  unfold zc_ab
  have e : 32 - q = (32 - (q + 1)) + 1 := by omega
  rw [e, zc_s]
  have e2 : zc_fl p (32 - (q + 1)) = p q := by
    show p (31 - (32 - (q + 1))) = p q
    have : 31 - (32 - (q + 1)) = q := by omega
    rw [this]
  rw [e2]
theorem zc_ab_congr {p q : Nat → Bool} {m : Nat} (h : ∀ x, m ≤ x → x < 32 → p x = q x) : zc_ab p m = zc_ab q m :=
  zc_congr (fun i hi => h (31 - i) (by omega) (by omega))
theorem zc_ab_le {p q : Nat → Bool} {m : Nat} (h : ∀ x, m ≤ x → x < 32 → p x = true → q x = true) : zc_ab p m ≤ zc_ab q m :=
  zc_le (fun i hi => h (31 - i) (by omega) (by omega))
theorem zc_ab_mono {p : Nat → Bool} {m m' : Nat} (h : m' ≤ m) : zc_ab p m ≤ zc_ab p m' := zc_mono (by omega)
theorem zc_tot_congr {p q : Nat → Bool} (h : ∀ x, x < 32 → p x = q x) : zc_tot p = zc_tot q := zc_ab_congr (fun x _ hx => h x hx)
theorem zc_tot_le {p q : Nat → Bool} (h : ∀ x, x < 32 → p x = true → q x = true) : zc_tot p ≤ zc_tot q := zc_ab_le (fun x _ hx => h x hx)
theorem zc_flx (p : Nat → Bool) {x : Nat} (h : x < 32) : zc_fl p (31 - x) = p x := by
  show p (31 - (31 - x)) = p x
  have : 31 - (31 - x) = x := by omega
  rw [this]
theorem zc_tot_lt {p q : Nat → Bool} {x : Nat} (hx : x < 32) (hq : q x = true) (hp : p x = false) (h : ∀ y, y < 32 → p y = true → q y = true) : zc_tot p < zc_tot q :=
  zc_lt (x := 31 - x) ((zc_flx q hx).trans hq) ((zc_flx p hx).trans hp) (fun i hi => h (31 - i) (by omega)) (by omega)
theorem zc_tot_rm {p q : Nat → Bool} {x : Nat} (hx : x < 32) (hp : p x = true) (hq : q x = false) (h : ∀ y, y < 32 → y ≠ x → q y = p y) : zc_tot q + 1 = zc_tot p :=
  zc_rm (x := 31 - x) ((zc_flx p hx).trans hp) ((zc_flx q hx).trans hq) (fun i hi hne => h (31 - i) (by omega) (by omega)) (by omega)
theorem zc_ab_sel {p : Nat → Bool} {j : Nat} (h : j < zc_tot p) : ∃ x, x < 32 ∧ p x = true ∧ zc_ab p (x + 1) = j := by
  obtain ⟨i, h1, h2, h3⟩ := zc_sel h
  refine ⟨31 - i, by omega, h2, ?_⟩
  unfold zc_ab
  have e : 32 - (31 - i + 1) = i := by omega
  rw [e]; exact h3
theorem zc_ab_inj {p : Nat → Bool} {x y : Nat} (hx : x < 32) (hy : y < 32) (px : p x = true) (py : p y = true) (h : zc_ab p (x + 1) = zc_ab p (y + 1)) : x = y := by
  have e1 : 32 - (x + 1) = 31 - x := by omega
  have e2 : 32 - (y + 1) = 31 - y := by omega
  unfold zc_ab at h
  rw [e1, e2] at h
  have := zc_inj ((zc_flx p hx).trans px) ((zc_flx p hy).trans py) h
  omega
theorem zc_ab_lt {p : Nat → Bool} {x y : Nat} (hx : x < 32) (px : p x = true) (h : y < x) : zc_ab p (x + 1) < zc_ab p (y + 1) := by
  have e1 : 32 - (x + 1) = 31 - x := by omega
  unfold zc_ab
  rw [e1]
  exact zc_ltI ((zc_flx p hx).trans px) (by omega)
theorem zc_ab_tot {p : Nat → Bool} {x : Nat} (hx : x < 32) (px : p x = true) : zc_ab p (x + 1) < zc_tot p := by
  have e1 : 32 - (x + 1) = 31 - x := by omega
  unfold zc_tot zc_ab
  rw [e1]
  exact zc_ltI ((zc_flx p hx).trans px) (by omega)
theorem zc_ab_ltI {p : Nat → Bool} {x y : Nat} (hx : x < 32) (hy : y < 32) (px : p x = true) (py : p y = true) : zc_ab p (x + 1) < zc_ab p (y + 1) ↔ y < x := by
  constructor
  · intro h
    rcases Nat.lt_trichotomy x y with e | e | e
    · have := zc_ab_lt hy py e; omega
    · rw [e] at h; omega
    · exact e
  · exact zc_ab_lt hx px
/-! digits: e d at weight b^d -/
def zt_val (b : Nat) (e : Nat → Nat) : Nat → Nat
  | 0 => 0
  | n + 1 => zt_val b e n + e n * b ^ n
theorem zt_val_congr {b : Nat} {e e' : Nat → Nat} : ∀ {n : Nat}, (∀ d, d < n → e d = e' d) → zt_val b e n = zt_val b e' n := by
  intro n
  induction n with
  | zero => intro _; rfl
  | succ n ih => intro h; show _ + _ = _ + _; rw [ih (fun d hd => h d (by omega)), h n (by omega)]
theorem zt_val_0 {b : Nat} {e : Nat → Nat} : ∀ {n : Nat}, (∀ d, d < n → e d = 0) → zt_val b e n = 0 := by
  intro n
  induction n with
  | zero => intro _; rfl
  | succ n ih => intro h; show _ + _ = _; rw [ih (fun d hd => h d (by omega)), h n (by omega)]; simp
theorem zt_val_add {b : Nat} {e e' : Nat → Nat} {d0 : Nat} : ∀ {n : Nat}, (∀ d, d < n → e' d = e d + (if d = d0 then 1 else 0)) → d0 < n → zt_val b e' n = zt_val b e n + b ^ d0 := by
  intro n
  induction n with
  | zero => intro _ h; omega
  | succ n ih =>
    intro h hd
    show zt_val b e' n + e' n * b ^ n = zt_val b e n + e n * b ^ n + b ^ d0
    by_cases c : d0 = n
    · have h1 : zt_val b e' n = zt_val b e n := zt_val_congr (fun d hd => by rw [h d (by omega), if_neg (by omega)]; rfl)
      rw [h1, h n (by omega), if_pos c.symm, c, Nat.add_mul, Nat.one_mul]
      omega
    · have h1 := ih (fun d hd => h d (by omega)) (by omega)
      rw [h1, h n (by omega), if_neg (fun z => c z.symm), Nat.add_zero]
      omega
theorem zt_val_lt {e : Nat → Nat} : ∀ {n : Nat}, (∀ d, d < n → e d ≤ 3) → zt_val 4 e n < 4 ^ n := by
  intro n
  induction n with
  | zero => intro _; exact Nat.one_pos
  | succ n ih =>
    intro h
    have h1 := ih (fun d hd => h d (by omega))
    have h2 : e n * 4 ^ n ≤ 3 * 4 ^ n := Nat.mul_le_mul_right _ (h n (by omega))
    show zt_val 4 e n + e n * 4 ^ n < 4 ^ (n + 1)
    rw [Nat.pow_succ]
    omega
theorem zt_split {P A B a b : Nat} (hA : A < P) (hB : B < P) (h : A + a * P = B + b * P) : A = B ∧ a = b := by
  have h0 : 0 < P := by omega
  have h1 : (A + a * P) / P = (B + b * P) / P := by rw [h]
  rw [Nat.add_mul_div_right _ _ h0, Nat.add_mul_div_right _ _ h0, Nat.div_eq_of_lt hA, Nat.div_eq_of_lt hB] at h1
  have h2 : a = b := by omega
  subst h2
  exact ⟨by omega, rfl⟩
theorem zt_val_inj {e e' : Nat → Nat} : ∀ {n : Nat}, (∀ d, d < n → e d ≤ 3) → (∀ d, d < n → e' d ≤ 3) → zt_val 4 e n = zt_val 4 e' n → ∀ d, d < n → e d = e' d := by
  intro n
  induction n with
  | zero => intro _ _ _ d hd; omega
  | succ n ih =>
    intro h h' hv d hd
    have h1 := zt_split (zt_val_lt (fun d hd => h d (by omega))) (zt_val_lt (fun d hd => h' d (by omega))) hv
    by_cases c : d = n
    · rw [c]; exact h1.2
    · exact ih (fun d hd => h d (by omega)) (fun d hd => h' d (by omega)) h1.1 d (by omega)
theorem zt_val_cnt {b : Nat} {p : Nat → Bool} {f : Nat → Nat} {n i : Nat} (hf : p i = true → f i < n) :
    zt_val b (fun d => zc_cnt (fun j => p j && decide (f j = d)) (i + 1)) n = zt_val b (fun d => zc_cnt (fun j => p j && decide (f j = d)) i) n + (if p i = true then b ^ f i else 0) := by
  by_cases c : p i = true
  · rw [if_pos c]
    refine zt_val_add (fun d _ => ?_) (hf c)
    show zc_cnt (fun j => p j && decide (f j = d)) (i + 1) = zc_cnt (fun j => p j && decide (f j = d)) i + _
    rw [zc_s]
    congr 1
    by_cases e : d = f i
    · rw [if_pos e, if_pos]; rw [c, e]; simp
    · rw [if_neg e, if_neg]; rw [c]; simp; exact fun z => e z.symm
  · rw [if_neg c, Nat.add_zero]
    refine zt_val_congr (fun d _ => ?_)
    show zc_cnt (fun j => p j && decide (f j = d)) (i + 1) = _
    rw [zc_s, if_neg]
    · rfl
    · simp [c]
theorem zt_val_tot {p : Nat → Bool} {f : Nat → Nat} {n : Nat} : ∀ {i : Nat}, (∀ j, j < i → p j = true → f j < n) → zt_val 1 (fun d => zc_cnt (fun j => p j && decide (f j = d)) i) n = zc_cnt p i := by
  intro i
  induction i with
  | zero => intro _; exact zt_val_0 (fun d _ => rfl)
  | succ i ih =>
    intro h
    rw [zt_val_cnt (h i (by omega)), ih (fun j hj => h j (by omega)), zc_s]
    simp
end
section
/-! ===== the game, in plain numbers ===== -/
def zg_beats (T c b : Nat) : Bool := if c / 8 = b / 8 then decide (b < c) else decide (c / 8 = T)
/-- the place of the winning card among tau 0 .. tau m -/
def zg_wi (T : Nat) (tau : Nat → Nat) : Nat → Nat
  | 0 => 0
  | m + 1 => if zg_beats T (tau (m + 1)) (tau (zg_wi T tau m)) = true then m + 1 else zg_wi T tau m
def zg_win (T : Nat) (tau : Nat → Nat) : Nat := tau (zg_wi T tau 3)
def zg_str (T led c : Nat) : Nat := if c / 8 = T then 200 + c else if c / 8 = led then 100 + c else 0
theorem zg_wi_le (T : Nat) (tau : Nat → Nat) : ∀ m, zg_wi T tau m ≤ m := by
  intro m
  induction m with
  | zero => exact Nat.le_refl _
  | succ m ih =>
    show (if zg_beats T (tau (m + 1)) (tau (zg_wi T tau m)) = true then m + 1 else zg_wi T tau m) ≤ m + 1
    split <;> omega
theorem zg_wi_congr {T : Nat} {tau tau' : Nat → Nat} : ∀ {m : Nat}, (∀ i, i ≤ m → tau i = tau' i) → zg_wi T tau m = zg_wi T tau' m := by
  intro m
  induction m with
  | zero => intro _; rfl
  | succ m ih =>
    intro h
    have h1 := ih (fun i hi => h i (by omega))
    show (if zg_beats T (tau (m + 1)) (tau (zg_wi T tau m)) = true then m + 1 else zg_wi T tau m) = (if zg_beats T (tau' (m + 1)) (tau' (zg_wi T tau' m)) = true then m + 1 else zg_wi T tau' m)
    rw [h1, h (m + 1) (by omega), h (zg_wi T tau' m) (Nat.le_trans (zg_wi_le T tau' m) (by omega))]
theorem zg_win_congr {T : Nat} {tau tau' : Nat → Nat} (h : ∀ i, i < 4 → tau i = tau' i) : zg_win T tau = zg_win T tau' := by
  unfold zg_win
  rw [zg_wi_congr (fun i hi => h i (by omega))]
  exact h _ (Nat.lt_succ_of_le (zg_wi_le T tau' 3))
/-- one step of the fold, by strength -/
theorem zg_bs {T led c b : Nat} (hc : c < 32) (hb : b < 32) (h0 : 0 < zg_str T led b) (hne : c ≠ b) : (zg_beats T c b = true ↔ zg_str T led b < zg_str T led c) ∧ (zg_beats T c b = false → zg_str T led c < zg_str T led b) := by
  unfold zg_str at h0 ⊢
  unfold zg_beats
  by_cases e1 : c / 8 = b / 8
  · rw [if_pos e1, e1]
    rw [e1] at *
    by_cases e2 : b / 8 = T
    · rw [if_pos e2, if_pos e2]; simp; omega
    · rw [if_neg e2] at h0 ⊢
      rw [if_neg e2]
      by_cases e3 : b / 8 = led
      · rw [if_pos e3, if_pos e3]; simp; omega
      · rw [if_neg e3] at h0; omega
  · rw [if_neg e1]
    by_cases e2 : c / 8 = T
    · rw [if_pos e2, if_neg (by omega)]
      rw [if_neg (by omega)] at h0
      by_cases e3 : b / 8 = led
      · rw [if_pos e3]; simp [e2]; omega
      · rw [if_neg e3] at h0; omega
    · rw [if_neg e2]
      by_cases e3 : b / 8 = T
      · rw [if_pos e3]; simp [e2]
        by_cases e4 : c / 8 = led
        · rw [if_pos e4]; omega
        · rw [if_neg e4]; omega
      · rw [if_neg e3] at h0 ⊢
        by_cases e4 : b / 8 = led
        · rw [if_pos e4, if_neg (by omega)]; simp [e2]; omega
        · rw [if_neg e4] at h0; omega
theorem zg_wi_spec {T : Nat} {tau : Nat → Nat} : ∀ {m : Nat}, (∀ i, i ≤ m → tau i < 32) → (∀ i j, i ≤ m → j ≤ m → i ≠ j → tau i ≠ tau j) →
    0 < zg_str T (tau 0 / 8) (tau (zg_wi T tau m)) ∧ ∀ j, j ≤ m → j ≠ zg_wi T tau m → zg_str T (tau 0 / 8) (tau j) < zg_str T (tau 0 / 8) (tau (zg_wi T tau m)) := by
  intro m
  induction m with
  | zero =>
    intro _ _
    refine ⟨?_, fun j hj hne => absurd (Nat.le_zero.mp hj) hne⟩
    show 0 < zg_str T (tau 0 / 8) (tau 0)
    unfold zg_str
    split
    · omega
    · rw [if_pos rfl]; omega
  | succ m ih =>
    intro h32 hne
    obtain ⟨h0, h1⟩ := ih (fun i hi => h32 i (by omega)) (fun i j hi hj => hne i j (by omega) (by omega))
    have hl := zg_wi_le T tau m
    have hb := zg_bs (T := T) (led := tau 0 / 8) (h32 (m + 1) (by omega)) (h32 (zg_wi T tau m) (by omega)) h0 (hne (m + 1) (zg_wi T tau m) (by omega) (by omega) (by omega))
    have e : zg_wi T tau (m + 1) = if zg_beats T (tau (m + 1)) (tau (zg_wi T tau m)) = true then m + 1 else zg_wi T tau m := rfl
    by_cases c : zg_beats T (tau (m + 1)) (tau (zg_wi T tau m)) = true
    · rw [if_pos c] at e
      rw [e]
      have h2 := hb.1.mp c
      refine ⟨by omega, fun j hj hjn => ?_⟩
      by_cases e3 : j = zg_wi T tau m
      · rw [e3]; exact h2
      · have := h1 j (by omega) e3
        omega
    · rw [if_neg c] at e
      rw [e]
      refine ⟨h0, fun j hj hjn => ?_⟩
      by_cases e3 : j = m + 1
      · rw [e3]; exact hb.2 (by simpa using c)
      · exact h1 j (by omega) hjn
theorem zg_wi_uniq {T : Nat} {tau : Nat → Nat} {m i0 : Nat} (h32 : ∀ i, i ≤ m → tau i < 32) (hne : ∀ i j, i ≤ m → j ≤ m → i ≠ j → tau i ≠ tau j) (hi : i0 ≤ m)
    (h : ∀ j, j ≤ m → j ≠ i0 → zg_str T (tau 0 / 8) (tau j) < zg_str T (tau 0 / 8) (tau i0)) : zg_wi T tau m = i0 := by
  by_cases e : zg_wi T tau m = i0
  · exact e
  · have h1 := h _ (zg_wi_le T tau m) e
    have h2 := (zg_wi_spec h32 hne).2 i0 hi (fun z => e z.symm)
    omega
/-! moves -/
def zg_rm (H : Nat → Bool) (c : Nat) : Nat → Bool := fun x => if x = c then false else H x
def zg_ad (tau : Nat → Nat) (r c : Nat) : Nat → Nat := fun i => if i = r then c else tau i
def zg_nr (r : Nat) : Nat := if r = 3 then 0 else r + 1
def zg_nt (r : Nat) (tau : Nat → Nat) (c : Nat) : Nat → Nat := if r = 3 then fun _ => 0 else zg_ad tau r c
def zg_na (ow : Nat → Nat) (T r : Nat) (tau : Nat → Nat) (a c : Nat) : Nat := if r = 3 then ow (zg_win T (zg_ad tau 3 c)) else (a + 1) % 4
def zg_gain (ow : Nat → Nat) (T r : Nat) (tau : Nat → Nat) (c : Nat) : Nat := if r = 3 then (if ow (zg_win T (zg_ad tau 3 c)) % 2 = 0 then 1 else 0) else 0
def zg_has (ow : Nat → Nat) (H : Nat → Bool) (a s : Nat) : Prop := ∃ c, c < 32 ∧ H c = true ∧ ow c = a ∧ c / 8 = s
def zg_lg (ow : Nat → Nat) (H : Nat → Bool) (r : Nat) (tau : Nat → Nat) (a c : Nat) : Prop :=
  c < 32 ∧ H c = true ∧ ow c = a ∧ (r = 0 ∨ c / 8 = tau 0 / 8 ∨ ¬ zg_has ow H a (tau 0 / 8))
/-- side 0 gets at least g of the open tricks; k cards are held -/
def zg_W (ow : Nat → Nat) (T : Nat) : Nat → (Nat → Bool) → Nat → (Nat → Nat) → Nat → Int → Prop
  | 0, _, _, _, _, g => g ≤ 0
  | k + 1, H, r, tau, a, g => g ≤ 0 ∨ (g ≤ (((k + 1 + 3) / 4 : Nat) : Int) ∧
      ((a % 2 = 0 ∧ ∃ c, zg_lg ow H r tau a c ∧ zg_W ow T k (zg_rm H c) (zg_nr r) (zg_nt r tau c) (zg_na ow T r tau a c) (g - (zg_gain ow T r tau c : Int))) ∨
       (¬ a % 2 = 0 ∧ ∀ c, zg_lg ow H r tau a c → zg_W ow T k (zg_rm H c) (zg_nr r) (zg_nt r tau c) (zg_na ow T r tau a c) (g - (zg_gain ow T r tau c : Int)))))
/-- the value of the child by card c -/
def zg_ch (ow : Nat → Nat) (T k : Nat) (H : Nat → Bool) (r : Nat) (tau : Nat → Nat) (a : Nat) (g : Int) (c : Nat) : Prop :=
  zg_W ow T k (zg_rm H c) (zg_nr r) (zg_nt r tau c) (zg_na ow T r tau a c) (g - (zg_gain ow T r tau c : Int))
theorem zg_W_s {ow : Nat → Nat} {T k : Nat} {H : Nat → Bool} {r : Nat} {tau : Nat → Nat} {a : Nat} {g : Int} : zg_W ow T (k + 1) H r tau a g ↔ (g ≤ 0 ∨ (g ≤ (((k + 1 + 3) / 4 : Nat) : Int) ∧
      ((a % 2 = 0 ∧ ∃ c, zg_lg ow H r tau a c ∧ zg_ch ow T k H r tau a g c) ∨ (¬ a % 2 = 0 ∧ ∀ c, zg_lg ow H r tau a c → zg_ch ow T k H r tau a g c)))) := Iff.rfl
theorem zg_W_le {ow : Nat → Nat} {T k : Nat} {H : Nat → Bool} {r : Nat} {tau : Nat → Nat} {a : Nat} {g : Int} (h : g ≤ 0) : zg_W ow T k H r tau a g := by
  cases k with
  | zero => exact h
  | succ k => exact Or.inl h
theorem zg_W_gt {ow : Nat → Nat} {T k : Nat} {H : Nat → Bool} {r : Nat} {tau : Nat → Nat} {a : Nat} {g : Int} (h0 : 0 < g) (h : (((k + 3) / 4 : Nat) : Int) < g) : ¬ zg_W ow T k H r tau a g := by
  cases k with
  | zero => intro z; have : g ≤ 0 := z; omega
  | succ k => rintro (z | z); · omega
              · have := z.1; omega
theorem zg_W_mono {ow : Nat → Nat} {T : Nat} : ∀ {k : Nat} {H : Nat → Bool} {r : Nat} {tau : Nat → Nat} {a : Nat} {g g' : Int}, g' ≤ g → zg_W ow T k H r tau a g → zg_W ow T k H r tau a g' := by
  intro k
  induction k with
  | zero => intro H r tau a g g' h w; have w2 : g ≤ 0 := w; exact show g' ≤ 0 by omega
  | succ k ih =>
    intro H r tau a g g' h w
    by_cases h0 : g' ≤ 0
    · exact Or.inl h0
    · rcases w with w | ⟨w1, w2⟩
      · omega
      · refine Or.inr ⟨by omega, ?_⟩
        rcases w2 with ⟨e, c, hc, w3⟩ | ⟨e, w3⟩
        · exact Or.inl ⟨e, c, hc, ih (by omega) w3⟩
        · exact Or.inr ⟨e, fun c hc => ih (by omega) (w3 c hc)⟩
/-! ===== classes: isomorphisms that keep what R decides ===== -/
def zi_tp (R : Nat → Bool) (x : Nat) : Prop := ∃ q, q < 32 ∧ R q = true ∧ q / 8 = x / 8 ∧ q ≤ x
def zi_ip (H : Nat → Bool) (r : Nat) (tau : Nat → Nat) (x : Nat) : Prop := (x < 32 ∧ H x = true) ∨ ∃ i, i < r ∧ tau i = x
def zi_iso (R : Nat → Bool) (ow : Nat → Nat) (H : Nat → Bool) (r : Nat) (tau : Nat → Nat) (ow' : Nat → Nat) (H' : Nat → Bool) (tau' : Nat → Nat) (phi : Nat → Nat) : Prop :=
  (∀ x, zi_ip H r tau x → phi x < 32 ∧ phi x / 8 = x / 8 ∧ ow' (phi x) = ow x) ∧
  (∀ x, x < 32 → H x = true → H' (phi x) = true) ∧
  (∀ x y, x < 32 → y < 32 → H x = true → H y = true → phi x = phi y → x = y) ∧
  (∀ y, y < 32 → H' y = true → ∃ x, x < 32 ∧ H x = true ∧ phi x = y) ∧
  (∀ i, i < r → tau' i = phi (tau i)) ∧
  (∀ x y, zi_ip H r tau x → zi_ip H r tau y → x / 8 = y / 8 → ow x ≠ ow y → zi_tp R x → (x < y ↔ phi x < phi y))
def zi_NI (T k : Nat) (ow : Nat → Nat) (H : Nat → Bool) (r : Nat) (tau : Nat → Nat) (a : Nat) (g : Int) (v : Prop) (R : Nat → Bool) : Prop :=
  ∀ ow' H' tau' phi, zi_iso R ow H r tau ow' H' tau' phi → (zg_W ow' T k H' r tau' a g ↔ v)
/-- a position of the game: a trick of cards of other seats -/
def zi_wf (ow : Nat → Nat) (r : Nat) (tau : Nat → Nat) (a : Nat) : Prop :=
  r < 4 ∧ (∀ i, i < r → tau i < 32 ∧ ow (tau i) ≠ a) ∧ (∀ i j, i < r → j < r → i ≠ j → ow (tau i) ≠ ow (tau j))
theorem zi_tp_up {R : Nat → Bool} {x y : Nat} (h : zi_tp R x) (hs : x / 8 = y / 8) (hl : x ≤ y) : zi_tp R y := by
  obtain ⟨q, h1, h2, h3, h4⟩ := h
  exact ⟨q, h1, h2, by omega, by omega⟩
theorem zi_tp_sub {R S : Nat → Bool} {x : Nat} (hs : ∀ q, q < 32 → R q = true → S q = true) (h : zi_tp R x) : zi_tp S x := by
  obtain ⟨q, h1, h2, h3⟩ := h
  exact ⟨q, h1, hs q h1 h2, h3⟩
theorem zi_self {R : Nat → Bool} {ow : Nat → Nat} {H : Nat → Bool} {r : Nat} {tau : Nat → Nat} (h : ∀ i, i < r → tau i < 32) : zi_iso R ow H r tau ow H tau (fun x => x) := by
  refine ⟨fun x hx => ⟨?_, rfl, rfl⟩, fun x _ h => h, fun x y _ _ _ _ e => e, fun y h1 h2 => ⟨y, h1, h2, rfl⟩, fun i _ => rfl, fun x y _ _ _ _ _ => Iff.rfl⟩
  rcases hx with hx | ⟨i, hi, e⟩
  · exact hx.1
  · rw [← e]; exact h i hi
theorem zi_legal {R : Nat → Bool} {ow ow' : Nat → Nat} {H H' : Nat → Bool} {r : Nat} {tau tau' phi : Nat → Nat} {a c : Nat} (I : zi_iso R ow H r tau ow' H' tau' phi) (h : zg_lg ow H r tau a c) : zg_lg ow' H' r tau' a (phi c) := by
  obtain ⟨i1, i2, i3, i4, i5, i6⟩ := I
  obtain ⟨h1, h2, h3, h4⟩ := h
  have hc := i1 c (Or.inl ⟨h1, h2⟩)
  refine ⟨hc.1, i2 c h1 h2, hc.2.2.trans h3, ?_⟩
  by_cases h0 : r = 0
  · exact Or.inl h0
  · have e0 := i5 0 (by omega)
    have s0 := (i1 (tau 0) (Or.inr ⟨0, by omega, rfl⟩)).2.1
    rcases h4 with h4 | h4 | h4
    · exact absurd h4 h0
    · exact Or.inr (Or.inl (by rw [e0, s0, hc.2.1]; exact h4))
    · refine Or.inr (Or.inr ?_)
      rintro ⟨y, y1, y2, y3, y4⟩
      obtain ⟨x, x1, x2, x3⟩ := i4 y y1 y2
      have hx := i1 x (Or.inl ⟨x1, x2⟩)
      apply h4
      refine ⟨x, x1, x2, ?_, ?_⟩
      · rw [← hx.2.2, x3]; exact y3
      · rw [← hx.2.1, x3, y4, e0, s0]
theorem zi_legal' {R : Nat → Bool} {ow ow' : Nat → Nat} {H H' : Nat → Bool} {r : Nat} {tau tau' phi : Nat → Nat} {a c' : Nat} (I : zi_iso R ow H r tau ow' H' tau' phi) (h : zg_lg ow' H' r tau' a c') : ∃ c, zg_lg ow H r tau a c ∧ phi c = c' := by
  obtain ⟨i1, i2, i3, i4, i5, i6⟩ := I
  obtain ⟨h1, h2, h3, h4⟩ := h
  obtain ⟨x, x1, x2, x3⟩ := i4 c' h1 h2
  have hx := i1 x (Or.inl ⟨x1, x2⟩)
  refine ⟨x, ⟨x1, x2, by rw [← hx.2.2, x3]; exact h3, ?_⟩, x3⟩
  by_cases h0 : r = 0
  · exact Or.inl h0
  · have e0 := i5 0 (by omega)
    have s0 := (i1 (tau 0) (Or.inr ⟨0, by omega, rfl⟩)).2.1
    rcases h4 with h4 | h4 | h4
    · exact absurd h4 h0
    · refine Or.inr (Or.inl ?_)
      rw [← hx.2.1, x3, h4, e0, s0]
    · refine Or.inr (Or.inr ?_)
      rintro ⟨y, y1, y2, y3, y4⟩
      have hy := i1 y (Or.inl ⟨y1, y2⟩)
      apply h4
      refine ⟨phi y, hy.1, i2 y y1 y2, hy.2.2.trans y3, ?_⟩
      rw [hy.2.1, y4, e0, s0]
end
section
/-! ===== a child, a swap, and what a node's search shows ===== -/
theorem zi_iso_sub {R S : Nat → Bool} {ow ow' : Nat → Nat} {H H' : Nat → Bool} {r : Nat} {tau tau' phi : Nat → Nat} (hs : ∀ q, q < 32 → R q = true → S q = true) (I : zi_iso S ow H r tau ow' H' tau' phi) : zi_iso R ow H r tau ow' H' tau' phi := by
  obtain ⟨i1, i2, i3, i4, i5, i6⟩ := I
  exact ⟨i1, i2, i3, i4, i5, fun x y hx hy e ne t => i6 x y hx hy e ne (zi_tp_sub hs t)⟩
theorem zi_ad_lt {tau : Nat → Nat} {r c i : Nat} (h : i ≠ r) : zg_ad tau r c i = tau i := if_neg h
theorem zi_ad_eq {tau : Nat → Nat} {r c : Nat} : zg_ad tau r c r = c := if_pos rfl
/-- the marked winner of the trick that c would close -/
def zi_mark (T r : Nat) (tau : Nat → Nat) (d : Nat) (R : Nat → Bool) : Prop :=
  r = 3 → (∃ i, i < 4 ∧ zg_ad tau 3 d i ≠ zg_win T (zg_ad tau 3 d) ∧ zg_ad tau 3 d i / 8 = zg_win T (zg_ad tau 3 d) / 8) → R (zg_win T (zg_ad tau 3 d)) = true
theorem zi_str_lt {T led y w y' w' : Nat} (hy : y' / 8 = y / 8) (hw : w' / 8 = w / 8) (by32 : y' < 32) (bw : y < 32) (bw32 : w' < 32) (h : zg_str T led y < zg_str T led w) (ho : y / 8 = w / 8 → y < w → y' < w') : zg_str T led y' < zg_str T led w' := by
  unfold zg_str at h ⊢
  rw [hy, hw]
  by_cases e1 : w / 8 = T
  · rw [if_pos e1] at h ⊢
    by_cases e2 : y / 8 = T
    · rw [if_pos e2] at h ⊢
      have := ho (by omega) (by omega)
      omega
    · rw [if_neg e2]
      split <;> omega
  · rw [if_neg e1] at h ⊢
    by_cases e3 : w / 8 = led
    · rw [if_pos e3] at h ⊢
      by_cases e2 : y / 8 = T
      · rw [if_pos e2] at h; omega
      · rw [if_neg e2] at h ⊢
        by_cases e4 : y / 8 = led
        · rw [if_pos e4] at h ⊢
          have := ho (by omega) (by omega)
          omega
        · rw [if_neg e4]; omega
    · rw [if_neg e3] at h; omega
theorem zi_winner {T : Nat} {R : Nat → Bool} {ow ow' : Nat → Nat} {H H' : Nat → Bool} {tau tau' phi : Nat → Nat} {a d : Nat} (I : zi_iso R ow H 3 tau ow' H' tau' phi) (wf : zi_wf ow 3 tau a) (hd : d < 32) (Hd : H d = true) (od : ow d = a) (hm : zi_mark T 3 tau d R) :
    zg_win T (zg_ad tau' 3 (phi d)) = phi (zg_win T (zg_ad tau 3 d)) ∧ zi_ip H 3 tau (zg_win T (zg_ad tau 3 d)) := by
  obtain ⟨i1, i2, i3, i4, i5, i6⟩ := I
  obtain ⟨_, w1, w2⟩ := wf
  have e4 : ∀ i, i ≤ 3 → zg_ad tau' 3 (phi d) i = phi (zg_ad tau 3 d i) := by
    intro i hi
    by_cases c : i = 3
    · rw [c, zi_ad_eq, zi_ad_eq]
    · rw [zi_ad_lt c, zi_ad_lt c]; exact i5 i (by omega)
  have ip : ∀ i, i ≤ 3 → zi_ip H 3 tau (zg_ad tau 3 d i) := by
    intro i hi
    by_cases c : i = 3
    · rw [c, zi_ad_eq]; exact Or.inl ⟨hd, Hd⟩
    · rw [zi_ad_lt c]; exact Or.inr ⟨i, by omega, rfl⟩
  have l32 : ∀ i, i ≤ 3 → zg_ad tau 3 d i < 32 := by
    intro i hi
    by_cases c : i = 3
    · rw [c, zi_ad_eq]; exact hd
    · rw [zi_ad_lt c]; exact (w1 i (by omega)).1
  have on : ∀ i j, i ≤ 3 → j ≤ 3 → i ≠ j → ow (zg_ad tau 3 d i) ≠ ow (zg_ad tau 3 d j) := by
    intro i j hi hj hne
    by_cases c : i = 3
    · rw [c, zi_ad_eq, zi_ad_lt (by omega : j ≠ 3), od]
      exact fun z => (w1 j (by omega)).2 z.symm
    · rw [zi_ad_lt c]
      by_cases c2 : j = 3
      · rw [c2, zi_ad_eq, od]; exact (w1 i (by omega)).2
      · rw [zi_ad_lt c2]; exact w2 i j (by omega) (by omega) hne
  have ne : ∀ i j, i ≤ 3 → j ≤ 3 → i ≠ j → zg_ad tau 3 d i ≠ zg_ad tau 3 d j := fun i j hi hj hne z => on i j hi hj hne (by rw [z])
  have l32' : ∀ i, i ≤ 3 → zg_ad tau' 3 (phi d) i < 32 := fun i hi => by rw [e4 i hi]; exact (i1 _ (ip i hi)).1
  have on' : ∀ i j, i ≤ 3 → j ≤ 3 → i ≠ j → zg_ad tau' 3 (phi d) i ≠ zg_ad tau' 3 (phi d) j := by
    intro i j hi hj hne z
    have := on i j hi hj hne
    rw [← (i1 _ (ip i hi)).2.2, ← (i1 _ (ip j hj)).2.2, ← e4 i hi, ← e4 j hj, z] at this
    exact this rfl
  have sp := (zg_wi_spec (T := T) l32 ne).2
  have hl := zg_wi_le T (zg_ad tau 3 d) 3
  have ew : zg_wi T (zg_ad tau' 3 (phi d)) 3 = zg_wi T (zg_ad tau 3 d) 3 := by
    refine zg_wi_uniq l32' on' hl (fun j hj hjn => ?_)
    have h0 := sp j hj hjn
    have s0 : zg_ad tau' 3 (phi d) 0 / 8 = zg_ad tau 3 d 0 / 8 := by rw [e4 0 (by omega)]; exact (i1 _ (ip 0 (by omega))).2.1
    rw [s0, e4 j hj, e4 _ hl]
    refine zi_str_lt (i1 _ (ip j hj)).2.1 (i1 _ (ip _ hl)).2.1 (i1 _ (ip j hj)).1 (l32 j hj) (i1 _ (ip _ hl)).1 h0 (fun es hlt => ?_)
    have hR := hm rfl ⟨j, by omega, ne j _ hj hl hjn, es⟩
    have ho := i6 _ _ (ip _ hl) (ip j hj) es.symm (on _ j hl hj (fun z => hjn z.symm)) ⟨_, l32 _ hl, hR, rfl, Nat.le_refl _⟩
    have hn := on' _ j hl hj (fun z => hjn z.symm)
    rw [e4 _ hl, e4 j hj] at hn
    have h9 : ¬ zg_ad tau 3 d (zg_wi T (zg_ad tau 3 d) 3) < zg_ad tau 3 d j := by omega
    have h10 := mt ho.mpr h9
    omega
  unfold zg_win
  rw [ew]
  exact ⟨e4 _ hl, ip _ hl⟩
theorem zi_rm_t {H : Nat → Bool} {c x : Nat} (h : zg_rm H c x = true) : x ≠ c ∧ H x = true := by
  unfold zg_rm at h
  by_cases e : x = c
  · rw [if_pos e] at h; exact absurd h Bool.false_ne_true
  · rw [if_neg e] at h; exact ⟨e, h⟩
theorem zi_rm_m {H : Nat → Bool} {c x : Nat} (h : x ≠ c) (hx : H x = true) : zg_rm H c x = true := by
  unfold zg_rm; rw [if_neg h]; exact hx
theorem zi_child {T : Nat} {R Rd : Nat → Bool} {ow ow' : Nat → Nat} {H H' : Nat → Bool} {r : Nat} {tau tau' phi : Nat → Nat} {a d : Nat} (I : zi_iso R ow H r tau ow' H' tau' phi) (wf : zi_wf ow r tau a) (hd : zg_lg ow H r tau a d) (hs : ∀ q, q < 32 → Rd q = true → R q = true) (hm : zi_mark T r tau d R) :
    zi_iso Rd ow (zg_rm H d) (zg_nr r) (zg_nt r tau d) ow' (zg_rm H' (phi d)) (zg_nt r tau' (phi d)) phi ∧ zg_na ow' T r tau' a (phi d) = zg_na ow T r tau a d ∧ zg_gain ow' T r tau' (phi d) = zg_gain ow T r tau d := by
  obtain ⟨d1, d2, d3, _⟩ := hd
  have hw := fun (e : r = 3) => by
    subst e
    exact zi_winner (T := T) I wf d1 d2 d3 hm
  obtain ⟨i1, i2, i3, i4, i5, i6⟩ := I
  have ipp : ∀ x, zi_ip (zg_rm H d) (zg_nr r) (zg_nt r tau d) x → zi_ip H r tau x := by
    intro x hx
    rcases hx with ⟨h1, h2⟩ | ⟨i, hi, e⟩
    · exact Or.inl ⟨h1, (zi_rm_t h2).2⟩
    · unfold zg_nr at hi
      unfold zg_nt at e
      by_cases c : r = 3
      · rw [if_pos c] at hi; omega
      · rw [if_neg c] at hi e
        by_cases c2 : i = r
        · rw [c2, zi_ad_eq] at e; rw [← e]; exact Or.inl ⟨d1, d2⟩
        · rw [zi_ad_lt c2] at e; exact Or.inr ⟨i, by omega, e⟩
  refine ⟨⟨fun x hx => i1 x (ipp x hx), fun x h1 h2 => ?_, fun x y h1 h2 h3 h4 => i3 x y h1 h2 (zi_rm_t h3).2 (zi_rm_t h4).2, fun y h1 h2 => ?_, fun i hi => ?_, fun x y hx hy e ne t => i6 x y (ipp x hx) (ipp y hy) e ne (zi_tp_sub hs t)⟩, ?_, ?_⟩
  · have h3 := zi_rm_t h2
    exact zi_rm_m (fun z => h3.1 (i3 x d h1 d1 h3.2 d2 z)) (i2 x h1 h3.2)
  · have h3 := zi_rm_t h2
    obtain ⟨x, x1, x2, x3⟩ := i4 y h1 h3.2
    exact ⟨x, x1, zi_rm_m (fun z => h3.1 (by rw [← x3, z])) x2, x3⟩
  · unfold zg_nr at hi
    unfold zg_nt
    by_cases c : r = 3
    · rw [if_pos c] at hi; omega
    · rw [if_neg c] at hi
      rw [if_neg c, if_neg c]
      by_cases c2 : i = r
      · rw [c2, zi_ad_eq, zi_ad_eq]
      · rw [zi_ad_lt c2, zi_ad_lt c2]; exact i5 i (by omega)
  · unfold zg_na
    by_cases c : r = 3
    · rw [if_pos c, if_pos c, (hw c).1]
      have h9 : zi_ip H r tau (zg_win T (zg_ad tau 3 d)) := by rw [c]; exact (hw c).2
      exact (i1 _ h9).2.2
    · rw [if_neg c, if_neg c]
  · unfold zg_gain
    by_cases c : r = 3
    · rw [if_pos c, if_pos c, (hw c).1]
      have h9 : zi_ip H r tau (zg_win T (zg_ad tau 3 d)) := by rw [c]; exact (hw c).2
      rw [(i1 _ h9).2.2]
    · rw [if_neg c, if_neg c]
def zi_sw (c d x : Nat) : Nat := if x = d then c else if x = c then d else x
theorem zi_sw_d (c d : Nat) : zi_sw c d d = c := if_pos rfl
theorem zi_sw_n {c d x : Nat} (h1 : x ≠ c) (h2 : x ≠ d) : zi_sw c d x = x := by unfold zi_sw; rw [if_neg h2, if_neg h1]
theorem zi_sw_c (c d : Nat) : zi_sw c d c = d := by
  unfold zi_sw
  by_cases e : c = d
  · rw [if_pos e]; exact e
  · rw [if_neg e, if_pos rfl]
theorem zi_sw_sw (c d x : Nat) : zi_sw c d (zi_sw c d x) = x := by
  by_cases e1 : x = d
  · rw [e1, zi_sw_d, zi_sw_c]
  · by_cases e2 : x = c
    · rw [e2, zi_sw_c, zi_sw_d]
    · rw [zi_sw_n e2 e1, zi_sw_n e2 e1]
theorem zi_sw_in {c d x : Nat} {P : Nat → Prop} (hc : P c) (hd : P d) (hx : P x) : P (zi_sw c d x) := by
  by_cases e1 : x = d
  · rw [e1, zi_sw_d]; exact hc
  · by_cases e2 : x = c
    · rw [e2, zi_sw_c]; exact hd
    · rw [zi_sw_n e2 e1]; exact hx
/-- two own cards of one suit that R and S can't tell apart -/
def zi_alike (R S : Nat → Bool) (ow : Nat → Nat) (H : Nat → Bool) (r : Nat) (tau : Nat → Nat) (a c d : Nat) : Prop :=
  (¬ zi_tp R c ∧ ¬ zi_tp R d) ∨ (zi_tp S c ∧ zi_tp S d ∧ ∀ y, zi_ip H r tau y → ow y ≠ a → y / 8 = d / 8 → (c < y ↔ d < y))
theorem zi_swap {R S : Nat → Bool} {ow ow' : Nat → Nat} {H H' : Nat → Bool} {r : Nat} {tau tau' phi : Nat → Nat} {a c d : Nat} (I : zi_iso S ow H r tau ow' H' tau' phi) (wf : zi_wf ow r tau a) (hs : ∀ q, q < 32 → R q = true → S q = true)
    (hc : c < 32 ∧ H c = true ∧ ow c = a) (hd : d < 32 ∧ H d = true ∧ ow d = a) (hcd : c / 8 = d / 8) (al : zi_alike R S ow H r tau a c d) : zi_iso R ow H r tau ow' H' tau' (fun x => phi (zi_sw c d x)) := by
  obtain ⟨i1, i2, i3, i4, i5, i6⟩ := I
  have ipc : zi_ip H r tau c := Or.inl ⟨hc.1, hc.2.1⟩
  have ipd : zi_ip H r tau d := Or.inl ⟨hd.1, hd.2.1⟩
  have hb : ∀ x, x < 32 ∧ H x = true → zi_sw c d x < 32 ∧ H (zi_sw c d x) = true := fun x hx => zi_sw_in (P := fun x => x < 32 ∧ H x = true) ⟨hc.1, hc.2.1⟩ ⟨hd.1, hd.2.1⟩ hx
  have hsu : ∀ x, zi_sw c d x / 8 = x / 8 ∧ ow (zi_sw c d x) = ow x := by
    intro x
    by_cases e1 : x = d
    · rw [e1, zi_sw_d]; exact ⟨hcd, hc.2.2.trans hd.2.2.symm⟩
    · by_cases e2 : x = c
      · rw [e2, zi_sw_c]; exact ⟨hcd.symm, hd.2.2.trans hc.2.2.symm⟩
      · rw [zi_sw_n e2 e1]; exact ⟨rfl, rfl⟩
  refine ⟨fun x hx => ?_, fun x h1 h2 => i2 _ (hb x ⟨h1, h2⟩).1 (hb x ⟨h1, h2⟩).2, fun x y h1 h2 h3 h4 e => ?_, fun y h1 h2 => ?_, fun i hi => ?_, fun x y hx hy e ne t => ?_⟩
  · have h1 := i1 _ (zi_sw_in (P := zi_ip H r tau) ipc ipd hx)
    exact ⟨h1.1, h1.2.1.trans (hsu x).1, h1.2.2.trans (hsu x).2⟩
  · have h5 := i3 _ _ (hb x ⟨h1, h3⟩).1 (hb y ⟨h2, h4⟩).1 (hb x ⟨h1, h3⟩).2 (hb y ⟨h2, h4⟩).2 e
    rw [← zi_sw_sw c d x, h5, zi_sw_sw]
  · obtain ⟨x, x1, x2, x3⟩ := i4 y h1 h2
    exact ⟨zi_sw c d x, (hb x ⟨x1, x2⟩).1, (hb x ⟨x1, x2⟩).2, by show phi (zi_sw c d (zi_sw c d x)) = y; rw [zi_sw_sw]; exact x3⟩
  · have h9 := (wf.2.1 i hi).2
    show tau' i = phi (zi_sw c d (tau i))
    rw [zi_sw_n (fun z => h9 (by rw [z]; exact hc.2.2)) (fun z => h9 (by rw [z]; exact hd.2.2))]
    exact i5 i hi
  · show x < y ↔ phi (zi_sw c d x) < phi (zi_sw c d y)
    by_cases ex : x = c ∨ x = d
    · have ox : ow x = a := by rcases ex with z | z <;> rw [z]; exact hc.2.2; exact hd.2.2
      have oy : ow y ≠ a := fun z => ne (ox.trans z.symm)
      have ny1 : y ≠ c := fun z => oy (by rw [z]; exact hc.2.2)
      have ny2 : y ≠ d := fun z => oy (by rw [z]; exact hd.2.2)
      rw [zi_sw_n ny1 ny2]
      rcases al with ⟨a1, a2⟩ | ⟨a1, a2, a3⟩
      · rcases ex with z | z
        · rw [z] at t; exact absurd t a1
        · rw [z] at t; exact absurd t a2
      · have hcy := i6 c y ipc hy
        have hdy := i6 d y ipd hy
        rcases ex with z | z
        · rw [z] at e
          have h3 := a3 y hy oy (by omega)
          rw [z, zi_sw_c, h3]
          exact hdy (by omega) (by rw [hd.2.2]; exact fun q => oy q.symm) a2
        · rw [z] at e
          have h3 := a3 y hy oy (by omega)
          rw [z, zi_sw_d, ← h3]
          exact hcy (by omega) (by rw [hc.2.2]; exact fun q => oy q.symm) a1
    · have nx1 : x ≠ c := fun z => ex (Or.inl z)
      have nx2 : x ≠ d := fun z => ex (Or.inr z)
      rw [zi_sw_n nx1 nx2]
      have tS := zi_tp_sub hs t
      by_cases ey : y = c ∨ y = d
      · have oy : ow y = a := by rcases ey with z | z <;> rw [z]; exact hc.2.2; exact hd.2.2
        have ox : ow x ≠ a := fun z => ne (z.trans oy.symm)
        have hxc := i6 x c hx ipc
        have hxd := i6 x d hx ipd
        rcases al with ⟨a1, a2⟩ | ⟨a1, a2, a3⟩
        · have q1 : x / 8 = d / 8 := by rcases ey with z | z <;> rw [z] at e <;> omega
          have n1 : ¬ x < c := fun z => a1 (zi_tp_up t (by omega) (by omega))
          have n2 : ¬ x < d := fun z => a2 (zi_tp_up t (by omega) (by omega))
          rcases ey with z | z
          · rw [z, zi_sw_c, ← hxd q1 (by rw [hd.2.2]; exact ox) tS]
            exact ⟨fun q => absurd q n1, fun q => absurd q n2⟩
          · rw [z, zi_sw_d, ← hxc (by omega) (by rw [hc.2.2]; exact ox) tS]
            exact ⟨fun q => absurd q n2, fun q => absurd q n1⟩
        · have q1 : x / 8 = d / 8 := by rcases ey with z | z <;> rw [z] at e <;> omega
          have h3 := a3 x hx ox q1
          have h4 : x < c ↔ x < d := by omega
          rcases ey with z | z
          · rw [z, zi_sw_c, ← hxd q1 (by rw [hd.2.2]; exact ox) tS]; exact h4
          · rw [z, zi_sw_d, ← hxc (by omega) (by rw [hc.2.2]; exact ox) tS]; exact h4.symm
      · rw [zi_sw_n (fun z => ey (Or.inl z)) (fun z => ey (Or.inr z))]
        exact i6 x y hx hy e ne tS
/-! nodes -/
def zi_DM (T k : Nat) (ow : Nat → Nat) (H : Nat → Bool) (r : Nat) (tau : Nat → Nat) (a : Nat) (g : Int) (c : Nat) (S : Nat → Bool) : Prop :=
  ∀ ow' H' tau' phi, zi_iso S ow H r tau ow' H' tau' phi → (zg_ch ow' T k H' r tau' a g (phi c) ↔ ¬ a % 2 = 0)
theorem zi_DM_sub {T k : Nat} {ow : Nat → Nat} {H : Nat → Bool} {r : Nat} {tau : Nat → Nat} {a : Nat} {g : Int} {c : Nat} {S S' : Nat → Bool} (hs : ∀ q, q < 32 → S q = true → S' q = true) (h : zi_DM T k ow H r tau a g c S) : zi_DM T k ow H r tau a g c S' :=
  fun ow' H' tau' phi I => h ow' H' tau' phi (zi_iso_sub hs I)
theorem zi_chW {T k : Nat} {R Rd : Nat → Bool} {ow ow' : Nat → Nat} {H H' : Nat → Bool} {r : Nat} {tau tau' phi : Nat → Nat} {a d : Nat} {g : Int} {v : Prop} (I : zi_iso R ow H r tau ow' H' tau' phi) (wf : zi_wf ow r tau a) (hd : zg_lg ow H r tau a d) (hs : ∀ q, q < 32 → Rd q = true → R q = true) (hm : zi_mark T r tau d R)
    (N : zi_NI T k ow (zg_rm H d) (zg_nr r) (zg_nt r tau d) (zg_na ow T r tau a d) (g - (zg_gain ow T r tau d : Int)) v Rd) : zg_ch ow' T k H' r tau' a g (phi d) ↔ v := by
  obtain ⟨J, e1, e2⟩ := zi_child I wf hd hs hm
  have h := N _ _ _ _ J
  unfold zg_ch
  rw [e1, e2]
  exact h
theorem zi_wins {T k : Nat} {R Rd : Nat → Bool} {ow : Nat → Nat} {H : Nat → Bool} {r : Nat} {tau : Nat → Nat} {a d : Nat} {g : Int} {v : Prop} (g1 : 0 < g) (g2 : g ≤ (((k + 1 + 3) / 4 : Nat) : Int)) (wf : zi_wf ow r tau a) (hd : zg_lg ow H r tau a d) (hs : ∀ q, q < 32 → Rd q = true → R q = true) (hm : zi_mark T r tau d R) (hv : v ↔ a % 2 = 0)
    (N : zi_NI T k ow (zg_rm H d) (zg_nr r) (zg_nt r tau d) (zg_na ow T r tau a d) (g - (zg_gain ow T r tau d : Int)) v Rd) : zi_NI T (k + 1) ow H r tau a g v R := by
  intro ow' H' tau' phi I
  have h := zi_chW I wf hd hs hm N
  rw [zg_W_s]
  by_cases e : a % 2 = 0
  · exact ⟨fun _ => hv.mpr e, fun z => Or.inr ⟨g2, Or.inl ⟨e, phi d, zi_legal I hd, h.mpr z⟩⟩⟩
  · refine ⟨fun z => ?_, fun z => absurd (hv.mp z) e⟩
    rcases z with z | ⟨_, ⟨z, _⟩ | ⟨_, z⟩⟩
    · omega
    · exact absurd z e
    · exact h.mp (z _ (zi_legal I hd))
theorem zi_dism {T k : Nat} {R Rd S : Nat → Bool} {ow : Nat → Nat} {H : Nat → Bool} {r : Nat} {tau : Nat → Nat} {a d c : Nat} {g : Int} {v : Prop} (wf : zi_wf ow r tau a) (hd : zg_lg ow H r tau a d) (hs : ∀ q, q < 32 → Rd q = true → R q = true) (hm : zi_mark T r tau d R) (hv : v ↔ ¬ a % 2 = 0)
    (N : zi_NI T k ow (zg_rm H d) (zg_nr r) (zg_nt r tau d) (zg_na ow T r tau a d) (g - (zg_gain ow T r tau d : Int)) v Rd)
    (hRS : ∀ q, q < 32 → R q = true → S q = true) (hc : c < 32 ∧ H c = true ∧ ow c = a) (hcd : c / 8 = d / 8) (al : zi_alike R S ow H r tau a c d) : zi_DM T k ow H r tau a g c S := by
  intro ow' H' tau' phi I
  have J := zi_swap I wf hRS hc ⟨hd.1, hd.2.1, hd.2.2.1⟩ hcd al
  have h := zi_chW J wf hd hs hm N
  rw [zi_sw_d] at h
  exact h.trans hv
theorem zi_all {T k : Nat} {S : Nat → Bool} {ow : Nat → Nat} {H : Nat → Bool} {r : Nat} {tau : Nat → Nat} {a : Nat} {g : Int} {v : Prop} (g1 : 0 < g) (g2 : g ≤ (((k + 1 + 3) / 4 : Nat) : Int)) (hv : v ↔ ¬ a % 2 = 0)
    (h : ∀ c, zg_lg ow H r tau a c → zi_DM T k ow H r tau a g c S) : zi_NI T (k + 1) ow H r tau a g v S := by
  intro ow' H' tau' phi I
  rw [zg_W_s, hv]
  by_cases e : a % 2 = 0
  · refine ⟨fun z => ?_, fun z => absurd e z⟩
    rcases z with z | ⟨_, ⟨_, c', z1, z2⟩ | ⟨z, _⟩⟩
    · omega
    · obtain ⟨c, hc, ec⟩ := zi_legal' I z1
      rw [← ec] at z2
      exact (h c hc _ _ _ _ I).mp z2
    · exact absurd e z
  · refine ⟨fun _ => e, fun _ => Or.inr ⟨g2, Or.inr ⟨e, fun c' z1 => ?_⟩⟩⟩
    obtain ⟨c, hc, ec⟩ := zi_legal' I z1
    rw [← ec]
    exact (h c hc _ _ _ _ I).mpr e
end
section
/-! ===== the table's classes, in plain terms ===== -/
def zt_h (H : Nat → Bool) (s : Nat) : Nat → Bool := fun y => H y && decide (y / 8 = s)
def zt_q (H : Nat → Bool) (ow : Nat → Nat) (s o : Nat) : Nat → Bool := fun y => zt_h H s y && decide (ow y = o)
/-- how many held cards of its suit lie above x -/
def zt_rk (H : Nat → Bool) (x : Nat) : Nat := zc_ab (zt_h H (x / 8)) (x + 1)
theorem zt_h_t {H : Nat → Bool} {s y : Nat} (h : zt_h H s y = true) : H y = true ∧ y / 8 = s := by
  unfold zt_h at h
  rw [Bool.and_eq_true] at h
  exact ⟨h.1, of_decide_eq_true h.2⟩
theorem zt_h_m {H : Nat → Bool} {s y : Nat} (h : H y = true) (e : y / 8 = s) : zt_h H s y = true := by
  unfold zt_h
  rw [Bool.and_eq_true]
  exact ⟨h, decide_eq_true e⟩
theorem zt_q_t {H : Nat → Bool} {ow : Nat → Nat} {s o y : Nat} (h : zt_q H ow s o y = true) : H y = true ∧ y / 8 = s ∧ ow y = o := by
  unfold zt_q at h
  rw [Bool.and_eq_true] at h
  exact ⟨(zt_h_t h.1).1, (zt_h_t h.1).2, of_decide_eq_true h.2⟩
theorem zt_q_m {H : Nat → Bool} {ow : Nat → Nat} {s o y : Nat} (h : H y = true) (e : y / 8 = s) (eo : ow y = o) : zt_q H ow s o y = true := by
  unfold zt_q
  rw [Bool.and_eq_true]
  exact ⟨zt_h_m h e, decide_eq_true eo⟩
theorem zt_tot4 {H : Nat → Bool} {ow : Nat → Nat} (ho : ∀ x, x < 32 → H x = true → ow x < 4) (s : Nat) : zc_tot (zt_h H s) = zc_tot (zt_q H ow s 0) + zc_tot (zt_q H ow s 1) + zc_tot (zt_q H ow s 2) + zc_tot (zt_q H ow s 3) :=
  zc_four (h := zc_fl (zt_h H s)) (f := fun j => ow (31 - j)) (n := 32) (fun i hi h => ho (31 - i) (by omega) (zt_h_t h).1)
/-- ranks above x by owner: equal where the owners of the ranks above are -/
theorem zt_pre {H H' : Nat → Bool} {ow ow' : Nat → Nat} {R : Nat → Bool} (hM : ∀ x x', x < 32 → x' < 32 → H x = true → H' x' = true → x / 8 = x' / 8 → zt_rk H x = zt_rk H' x' → zi_tp R x → ow x = ow' x')
    {s x x' : Nat} (hx : x < 32) (hx' : x' < 32) (es : x / 8 = s) (es' : x' / 8 = s) (t : zi_tp R x) (hr : zt_rk H x = zt_rk H' x') (o : Nat) : zc_ab (zt_q H ow s o) (x + 1) = zc_ab (zt_q H' ow' s o) (x' + 1) := by
  have e1 : ∀ i, i < 32 → 32 - (31 - i + 1) = i := fun i hi => by omega
  refine zc_seq (h := zc_fl (zt_h H s)) (h' := zc_fl (zt_h H' s)) (f := fun j => ow (31 - j)) (f' := fun j => ow' (31 - j)) (top := fun i => zi_tp R (31 - i)) ?_ (zt_rk H x) (32 - (x + 1)) (32 - (x' + 1)) (by omega) (by omega) ?_ ?_ ?_ o
  · intro i i' hi hi' h1 h2 hc ht
    have a1 := zt_h_t h1
    have a2 := zt_h_t h2
    refine hM (31 - i) (31 - i') (by omega) (by omega) a1.1 a2.1 (a1.2.trans a2.2.symm) ?_ ht
    unfold zt_rk zc_ab
    rw [a1.2, a2.2, e1 i hi, e1 i' hi']
    exact hc
  · unfold zt_rk zc_ab; rw [es]
  · rw [hr]; unfold zt_rk zc_ab; rw [es']
  · intro k hk h1
    have a1 := zt_h_t h1
    exact zi_tp_up t (by rw [a1.2]; exact es) (by omega)
theorem zt_K1 {H H' : Nat → Bool} {ow ow' : Nat → Nat} {R : Nat → Bool} (ho : ∀ x, x < 32 → H x = true → ow x < 4) (ho' : ∀ x, x < 32 → H' x = true → ow' x < 4) (hl : ∀ s o, s < 4 → o < 4 → zc_tot (zt_q H ow s o) = zc_tot (zt_q H' ow' s o))
    (hM : ∀ x x', x < 32 → x' < 32 → H x = true → H' x' = true → x / 8 = x' / 8 → zt_rk H x = zt_rk H' x' → zi_tp R x → ow x = ow' x') (tau tau' : Nat → Nat) :
    ∃ phi, zi_iso R ow H 0 tau ow' H' tau' phi ∧ ∀ x, x < 32 → H x = true → zi_tp R x → zt_rk H' (phi x) = zt_rk H x := by
  have h0 : ∀ x, ∃ y, x < 32 → H x = true → y < 32 ∧ zt_q H' ow' (x / 8) (ow x) y = true ∧ zc_ab (zt_q H' ow' (x / 8) (ow x)) (y + 1) = zc_ab (zt_q H ow (x / 8) (ow x)) (x + 1) := by
    intro x
    by_cases hx : x < 32 ∧ H x = true
    · have h1 : zc_ab (zt_q H ow (x / 8) (ow x)) (x + 1) < zc_tot (zt_q H ow (x / 8) (ow x)) := zc_ab_tot hx.1 (zt_q_m hx.2 rfl rfl)
      rw [hl (x / 8) (ow x) (by omega) (ho x hx.1 hx.2)] at h1
      obtain ⟨y, y1, y2, y3⟩ := zc_ab_sel h1
      exact ⟨y, fun _ _ => ⟨y1, y2, y3⟩⟩
    · exact ⟨0, fun a b => absurd ⟨a, b⟩ hx⟩
  obtain ⟨phi, hp⟩ := Classical.axiomOfChoice h0
  have ht : ∀ s, s < 4 → zc_tot (zt_h H s) = zc_tot (zt_h H' s) := by
    intro s hs
    rw [zt_tot4 ho, zt_tot4 ho', hl s 0 hs (by omega), hl s 1 hs (by omega), hl s 2 hs (by omega), hl s 3 hs (by omega)]
  have inj : ∀ x y, x < 32 → y < 32 → H x = true → H y = true → phi x = phi y → x = y := by
    intro x y hx hy Hx Hy e
    obtain ⟨a1, a2, a3⟩ := hp x hx Hx
    obtain ⟨b1, b2, b3⟩ := hp y hy Hy
    rw [e] at a2 a3
    have c1 := zt_q_t a2
    have c2 := zt_q_t b2
    have e1 : x / 8 = y / 8 := c1.2.1.symm.trans c2.2.1
    have e2 : ow x = ow y := c1.2.2.symm.trans c2.2.2
    rw [e1, e2] at a3
    exact zc_ab_inj hx hy (zt_q_m (s := y / 8) (o := ow y) Hx e1 e2) (zt_q_m Hy rfl rfl) (a3.symm.trans b3)
  -- a top card keeps its rank
  have rk : ∀ x, x < 32 → H x = true → zi_tp R x → zt_rk H' (phi x) = zt_rk H x := by
    intro x hx Hx t
    have h1 : zt_rk H x < zc_tot (zt_h H (x / 8)) := zc_ab_tot hx (zt_h_m Hx rfl)
    rw [ht (x / 8) (by omega)] at h1
    obtain ⟨z, z1, z2, z3⟩ := zc_ab_sel h1
    have a1 := zt_h_t z2
    have z4 : zt_rk H' z = zt_rk H x := by
      have : zt_rk H' z = zc_ab (zt_h H' (x / 8)) (z + 1) := by unfold zt_rk; rw [a1.2]
      rw [this]; exact z3
    have eo := hM x z hx z1 Hx a1.1 a1.2.symm z4.symm t
    have ep := zt_pre hM (s := x / 8) hx z1 rfl a1.2 t z4.symm (ow x)
    obtain ⟨b1, b2, b3⟩ := hp x hx Hx
    have : phi x = z := zc_ab_inj b1 z1 b2 (zt_q_m a1.1 a1.2 eo.symm) (b3.trans ep)
    rw [this]; exact z4
  have hsu : ∀ x, x < 32 → H x = true → phi x < 32 ∧ phi x / 8 = x / 8 ∧ ow' (phi x) = ow x ∧ H' (phi x) = true := by
    intro x hx Hx
    obtain ⟨b1, b2, b3⟩ := hp x hx Hx
    have c1 := zt_q_t b2
    exact ⟨b1, c1.2.1, c1.2.2, c1.1⟩
  have ip : ∀ x, zi_ip H 0 tau x → x < 32 ∧ H x = true := by
    intro x hx
    rcases hx with h | ⟨i, hi, _⟩
    · exact h
    · omega
  refine ⟨phi, ⟨fun x hx => ?_, fun x hx Hx => (hsu x hx Hx).2.2.2, inj, fun y hy Hy => ?_, fun i hi => absurd hi (Nat.not_lt_zero _), fun x y hx hy e ne t => ?_⟩, rk⟩
  · have h := hsu x (ip x hx).1 (ip x hx).2
    exact ⟨h.1, h.2.1, h.2.2.1⟩
  · have h1 : zc_ab (zt_q H' ow' (y / 8) (ow' y)) (y + 1) < zc_tot (zt_q H' ow' (y / 8) (ow' y)) := zc_ab_tot hy (zt_q_m Hy rfl rfl)
    rw [← hl (y / 8) (ow' y) (by omega) (ho' y hy Hy)] at h1
    obtain ⟨x, x1, x2, x3⟩ := zc_ab_sel h1
    have c1 := zt_q_t x2
    refine ⟨x, x1, c1.1, ?_⟩
    obtain ⟨b1, b2, b3⟩ := hp x x1 c1.1
    rw [c1.2.1, c1.2.2] at b2 b3
    exact zc_ab_inj b1 hy b2 (zt_q_m Hy rfl rfl) (b3.trans x3)
  · have hx := ip x hx
    have hy := ip y hy
    have sx := hsu x hx.1 hx.2
    have sy := hsu y hy.1 hy.2
    -- order by ranks
    have o1 : zt_rk H y < zt_rk H x ↔ x < y := by
      unfold zt_rk
      rw [← e]
      exact zc_ab_ltI hy.1 hx.1 (zt_h_m hy.2 e.symm) (zt_h_m hx.2 rfl)
    have o2 : zt_rk H' (phi y) < zt_rk H' (phi x) ↔ phi x < phi y := by
      unfold zt_rk
      rw [sx.2.1, sy.2.1, ← e]
      exact zc_ab_ltI sy.1 sx.1 (zt_h_m sy.2.2.2 (sy.2.1.trans e.symm)) (zt_h_m sx.2.2.2 sx.2.1)
    rw [← o1, ← o2, rk x hx.1 hx.2 t]
    constructor
    · intro h
      have hlt := o1.mp h
      rw [rk y hy.1 hy.2 (zi_tp_up t e (by omega))]
      exact h
    · intro h
      -- the card of P of that rank
      have h1 : zt_rk H x < zc_tot (zt_h H (x / 8)) := zc_ab_tot hx.1 (zt_h_m hx.2 rfl)
      obtain ⟨z, z1, z2, z3⟩ := zc_ab_sel (p := zt_h H (x / 8)) (j := zt_rk H' (phi y)) (by omega)
      have a1 := zt_h_t z2
      have z4 : zt_rk H z = zt_rk H' (phi y) := by
        have : zt_rk H z = zc_ab (zt_h H (x / 8)) (z + 1) := by unfold zt_rk; rw [a1.2]
        rw [this]; exact z3
      have hxz : x < z := by
        have : zt_rk H z < zt_rk H x := by omega
        unfold zt_rk at this
        rw [a1.2] at this
        exact (zc_ab_ltI z1 hx.1 z2 (zt_h_m hx.2 rfl)).mp this
      have rz := rk z z1 a1.1 (zi_tp_up t a1.2.symm (by omega))
      have sz := hsu z z1 a1.1
      have ez : phi z = phi y := by
        have h5 : zt_rk H' (phi z) = zt_rk H' (phi y) := rz.trans z4
        unfold zt_rk at h5
        have e8 : phi z / 8 = x / 8 := sz.2.1.trans a1.2
        have e9 : phi y / 8 = x / 8 := sy.2.1.trans e.symm
        rw [e8, e9] at h5
        exact zc_ab_inj sz.1 sy.1 (zt_h_m sz.2.2.2 e8) (zt_h_m sy.2.2.2 e9) h5
      have := inj z y z1 hy.1 a1.1 hy.2 ez
      rw [← this, z4]
      exact h
theorem zi_comp {R R' : Nat → Bool} {ow ow' ow'' : Nat → Nat} {H H' H'' : Nat → Bool} {tau tau' tau'' f g : Nat → Nat} (I : zi_iso R ow H 0 tau ow' H' tau' f) (J : zi_iso R' ow' H' 0 tau' ow'' H'' tau'' g) (ht : ∀ x, x < 32 → H x = true → zi_tp R x → zi_tp R' (f x)) :
    zi_iso R ow H 0 tau ow'' H'' tau'' (fun x => g (f x)) := by
  obtain ⟨i1, i2, i3, i4, i5, i6⟩ := I
  obtain ⟨j1, j2, j3, j4, j5, j6⟩ := J
  have ip : ∀ x, zi_ip H 0 tau x → x < 32 ∧ H x = true := by
    intro x hx
    rcases hx with h | ⟨i, hi, _⟩
    · exact h
    · omega
  have ij : ∀ x, zi_ip H 0 tau x → zi_ip H' 0 tau' (f x) := fun x hx => Or.inl ⟨(i1 x hx).1, i2 x (ip x hx).1 (ip x hx).2⟩
  refine ⟨fun x hx => ?_, fun x h1 h2 => j2 _ (i1 x (Or.inl ⟨h1, h2⟩)).1 (i2 x h1 h2), fun x y h1 h2 h3 h4 e => ?_, fun y h1 h2 => ?_, fun i hi => absurd hi (Nat.not_lt_zero _), fun x y hx hy e ne t => ?_⟩
  · have h1 := i1 x hx
    have h2 := j1 _ (ij x hx)
    exact ⟨h2.1, h2.2.1.trans h1.2.1, h2.2.2.trans h1.2.2⟩
  · exact i3 x y h1 h2 h3 h4 (j3 _ _ (i1 x (Or.inl ⟨h1, h3⟩)).1 (i1 y (Or.inl ⟨h2, h4⟩)).1 (i2 x h1 h3) (i2 y h2 h4) e)
  · obtain ⟨z, z1, z2, z3⟩ := j4 y h1 h2
    obtain ⟨x, x1, x2, x3⟩ := i4 z z1 z2
    exact ⟨x, x1, x2, by show g (f x) = y; rw [x3]; exact z3⟩
  · have h1 := i1 x hx
    have h2 := i1 y hy
    refine (i6 x y hx hy e ne t).trans (j6 _ _ (ij x hx) (ij y hy) ?_ ?_ (ht x (ip x hx).1 (ip x hx).2 t))
    · rw [h1.2.1, h2.2.1]; exact e
    · rw [h1.2.2, h2.2.2]; exact ne
/-! the keys -/
def zt_dg (H : Nat → Bool) (ow : Nat → Nat) (d : Nat) : Nat → Bool := fun y => H y && decide (4 * (y / 8) + ow y = d)
def zt_isL (L : Int32) (ow : Nat → Nat) (H : Nat → Bool) : Prop := L = nI (zt_val 4 (fun d => zc_tot (zt_dg H ow d)) 16)
def zt_isO (O : Int64) (ow : Nat → Nat) (H : Nat → Bool) : Prop := ∀ x, x < 32 → H x = true → ∀ b, b < 2 → O.toBitVec.getLsbD (16 * (x / 8) + 2 * zt_rk H x + b) = (ow x).testBit b
def zt_isT (S : Int32) (m : Int64) (H : Nat → Bool) : Prop := ∀ x, x < 32 → bt S x = (H x && m.toBitVec.getLsbD (16 * (x / 8) + 2 * zt_rk H x))
def zt_isM (M : Int64) (H R : Nat → Bool) : Prop := ∀ x, x < 32 → H x = true → zi_tp R x → ∀ b, b < 2 → M.toBitVec.getLsbD (16 * (x / 8) + 2 * zt_rk H x + b) = true
def zt_ok (ow : Nat → Nat) (H : Nat → Bool) : Prop := (∀ x, x < 32 → H x = true → ow x < 4) ∧ (∀ d, d < 16 → zc_tot (zt_dg H ow d) ≤ 3)
def zt_CT (T a : Nat) (v : Bool) (g0 : Nat) (len : Int32) (m o : Int64) : Prop :=
  ∀ ow H L O S, zt_ok ow H → zt_isL L ow H → zt_isO O ow H → zt_isT S m H → L = len → O &&& m = o →
    ∀ g : Int, (v = true → g ≤ (g0 : Int)) → (v = false → (g0 : Int) ≤ g) → zi_NI T (zc_tot H) ow H 0 (fun _ => 0) a g (v = true) (bt S)
theorem zt_dgq {H : Nat → Bool} {ow : Nat → Nat} (ho : ∀ x, x < 32 → H x = true → ow x < 4) {s o : Nat} (h : o < 4) : zc_tot (zt_dg H ow (4 * s + o)) = zc_tot (zt_q H ow s o) := by
  refine zc_tot_congr (fun x hx => ?_)
  unfold zt_dg zt_q zt_h
  cases e : H x with
  | false => rfl
  | true =>
    have := ho x hx e
    rw [Bool.true_and, Bool.true_and, ← Bool.decide_and]
    exact decide_eq_decide.mpr ⟨fun z => ⟨by omega, by omega⟩, fun z => by omega⟩
theorem zt_sum {H : Nat → Bool} {ow : Nat → Nat} (ho : ∀ x, x < 32 → H x = true → ow x < 4) : zt_val 1 (fun d => zc_tot (zt_dg H ow d)) 16 = zc_tot H :=
  zt_val_tot (p := zc_fl H) (f := fun j => 4 * ((31 - j) / 8) + ow (31 - j)) (n := 16) (i := 32) (fun j hj h => by have := ho (31 - j) (by omega) h; omega)
theorem zt_nI_inj {a b : Nat} (ha : a < 2 ^ 32) (hb : b < 2 ^ 32) (h : nI a = nI b) : a = b := by
  have := pk_tn ha
  rw [h, pk_tn hb] at this
  exact this.symm
theorem zt_bits4 {a b : Nat} (ha : a < 4) (hb : b < 4) (h : ∀ i, i < 2 → a.testBit i = b.testBit i) : a = b := by
  have h0 := h 0 (by omega)
  have h1 := h 1 (by omega)
  have : ∀ x y : Fin 4, x.val.testBit 0 = y.val.testBit 0 → x.val.testBit 1 = y.val.testBit 1 → x.val = y.val := by decide
  exact this ⟨a, ha⟩ ⟨b, hb⟩ h0 h1
theorem zt_mk {T a : Nat} {v : Bool} {g0 : Nat} {ow : Nat → Nat} {H R : Nat → Bool} {L : Int32} {O M : Int64} (N : zi_NI T (zc_tot H) ow H 0 (fun _ => 0) a (g0 : Int) (v = true) R) (ok : zt_ok ow H) (iL : zt_isL L ow H) (iO : zt_isO O ow H) (iM : zt_isM M H R) : zt_CT T a v g0 L M (O &&& M) := by
  intro ow' H' L' O' S' ok' iL' iO' iT' eL eO g hv hv' ow'' H'' tau'' phi2 I2
  unfold zt_isL at iL iL'
  have hd : ∀ d, d < 16 → zc_tot (zt_dg H ow d) = zc_tot (zt_dg H' ow' d) := by
    refine zt_val_inj ok.2 ok'.2 (zt_nI_inj ?_ ?_ ?_)
    · exact zt_val_lt ok.2
    · exact zt_val_lt ok'.2
    · rw [← iL, ← iL', eL]
  have hk : zc_tot H = zc_tot H' := by
    rw [← zt_sum ok.1, ← zt_sum ok'.1]
    exact zt_val_congr hd
  obtain ⟨phi1, I1, hr⟩ := zt_K1 (R := R) ok.1 ok'.1 (fun s o hs ho => by rw [← zt_dgq ok.1 ho, ← zt_dgq ok'.1 ho]; exact hd _ (by omega)) (fun x x' hx hx' Hx Hx' es er t => by
    refine zt_bits4 (ok.1 x hx Hx) (ok'.1 x' hx' Hx') (fun b hb => ?_)
    rw [← iO x hx Hx b hb, ← iO' x' hx' Hx' b hb, ← es, ← er]
    have h1 := congrArg (fun z : Int64 => z.toBitVec.getLsbD (16 * (x / 8) + 2 * zt_rk H x + b)) eO
    simp only [Int64.toBitVec_and, BitVec.getLsbD_and, iM x hx Hx t b hb, Bool.and_true] at h1
    exact h1.symm) (fun _ => 0) (fun _ => 0)
  have I := zi_comp I1 I2 (fun x hx Hx t => by
    have h1 := I1.1 x (Or.inl ⟨hx, Hx⟩)
    refine ⟨phi1 x, h1.1, ?_, rfl, Nat.le_refl _⟩
    rw [iT' _ h1.1, I1.2.1 x hx Hx, Bool.true_and, h1.2.1, hr x hx Hx t]
    exact iM x hx Hx t 0 (by omega))
  have h := N _ _ _ _ I
  rw [hk] at h
  cases v with
  | true => exact ⟨fun _ => rfl, fun _ => zg_W_mono (hv rfl) (h.mpr rfl)⟩
  | false => exact ⟨fun z => h.mp (zg_W_mono (hv' rfl) z), fun z => absurd z Bool.false_ne_true⟩
end
section
/-! ===== the game along a list of plays, the latest first ===== -/
def zp_H (dl : Nat → Bool) : List Nat → (Nat → Bool)
  | [] => dl
  | c :: pl => zg_rm (zp_H dl pl) c
def zp_t : List Nat → (Nat → Nat)
  | [] => fun _ => 0
  | c :: pl => zg_nt (pl.length % 4) (zp_t pl) c
def zp_a (ow : Nat → Nat) (T ld : Nat) : List Nat → Nat
  | [] => ld
  | c :: pl => zg_na ow T (pl.length % 4) (zp_t pl) (zp_a ow T ld pl) c
def zp_w0 (ow : Nat → Nat) (T : Nat) : List Nat → Nat
  | [] => 0
  | c :: pl => zp_w0 ow T pl + zg_gain ow T (pl.length % 4) (zp_t pl) c
def zp_w1 (ow : Nat → Nat) (T : Nat) : List Nat → Nat
  | [] => 0
  | c :: pl => zp_w1 ow T pl + (if pl.length % 4 = 3 then (if ow (zg_win T (zg_ad (zp_t pl) 3 c)) % 2 = 0 then 0 else 1) else 0)
def zp_ok (dl : Nat → Bool) (ow : Nat → Nat) (T ld : Nat) : List Nat → Prop
  | [] => True
  | c :: pl => zp_ok dl ow T ld pl ∧ c < 32 ∧ zp_H dl pl c = true ∧ ow c = zp_a ow T ld pl
def zp_at : List Nat → Nat → Nat
  | [], _ => 0
  | c :: pl, i => if i = pl.length then c else zp_at pl i
def zp_pc (ow : Nat → Nat) (s : Nat) : List Nat → Nat
  | [] => 0
  | c :: pl => zp_pc ow s pl + (if ow c = s then 1 else 0)
/-- the deal -/
def zp_st (dl : Nat → Bool) (ow : Nat → Nat) (T ld D : Nat) : Prop :=
  (∀ c, dl c = true → c < 32 ∧ ow c < 4) ∧ T ≤ 4 ∧ ld < 4 ∧ D ≤ 16 ∧ D % 4 = 0 ∧ zc_tot dl = D ∧ ∀ s, s < 4 → zc_tot (fun y => dl y && decide (ow y = s)) = D / 4
theorem zp_nr (n : Nat) : zg_nr (n % 4) = (n + 1) % 4 := by
  unfold zg_nr
  split <;> omega
theorem zp_at_c (c : Nat) (pl : List Nat) : zp_at (c :: pl) pl.length = c := if_pos rfl
theorem zp_at_n (c : Nat) (pl : List Nat) {i : Nat} (h : i ≠ pl.length) : zp_at (c :: pl) i = zp_at pl i := if_neg h
theorem zp_H_dl {dl : Nat → Bool} : ∀ {pl : List Nat} {c : Nat}, zp_H dl pl c = true → dl c = true := by
  intro pl
  induction pl with
  | nil => intro c h; exact h
  | cons d pl ih => intro c h; exact ih (zi_rm_t h).2
theorem zp_t_at : ∀ {pl : List Nat} {i : Nat}, i < pl.length % 4 → zp_t pl i = zp_at pl (pl.length - pl.length % 4 + i) := by
  intro pl
  induction pl with
  | nil => intro i h; exact absurd h (Nat.not_lt_zero _)
  | cons c pl ih =>
    intro i h
    rw [List.length_cons] at h ⊢
    show zg_nt (pl.length % 4) (zp_t pl) c i = _
    unfold zg_nt
    by_cases e : pl.length % 4 = 3
    · omega
    · rw [if_neg e]
      by_cases e2 : i = pl.length % 4
      · rw [e2, zi_ad_eq]
        have : pl.length + 1 - (pl.length + 1) % 4 + pl.length % 4 = pl.length := by omega
        rw [this, zp_at_c]
      · rw [zi_ad_lt e2, ih (by omega), zp_at_n c pl (by omega)]
        congr 1
        omega
theorem zp_ad_at {pl : List Nat} {c : Nat} (e : pl.length % 4 = 3) {i : Nat} (h : i < 4) : zg_ad (zp_t pl) 3 c i = zp_at (c :: pl) (pl.length - 3 + i) := by
  by_cases e2 : i = 3
  · rw [e2, zi_ad_eq]
    have : pl.length - 3 + 3 = pl.length := by omega
    rw [this, zp_at_c]
  · rw [zi_ad_lt e2, zp_at_n c pl (by omega), zp_t_at (by omega), e]
theorem zp_lead {dl : Nat → Bool} {ow : Nat → Nat} {T ld : Nat} (hld : ld < 4) : ∀ {pl : List Nat}, zp_ok dl ow T ld pl →
    ∃ q, q < 4 ∧ zp_a ow T ld pl = (q + pl.length % 4) % 4 ∧ (∀ i, i < pl.length % 4 → zp_t pl i < 32 ∧ ow (zp_t pl i) = (q + i) % 4) ∧ ∀ s, s < 4 → zp_pc ow s pl = pl.length / 4 + (if (s + 4 - q) % 4 < pl.length % 4 then 1 else 0) := by
  intro pl
  induction pl with
  | nil => intro _; exact ⟨ld, hld, (Nat.mod_eq_of_lt hld).symm, fun i h => absurd h (Nat.not_lt_zero _), fun s _ => rfl⟩
  | cons c pl ih =>
    intro ok
    obtain ⟨ok1, c1, c2, c3⟩ := ok
    obtain ⟨q, q1, q2, q3, q4⟩ := ih ok1
    have hpc : ∀ s, zp_pc ow s (c :: pl) = zp_pc ow s pl + (if ow c = s then 1 else 0) := fun s => rfl
    rw [List.length_cons]
    by_cases e : pl.length % 4 = 3
    · have hw : ow (zg_win T (zg_ad (zp_t pl) 3 c)) < 4 := by
        unfold zg_win
        have hl := zg_wi_le T (zg_ad (zp_t pl) 3 c) 3
        generalize zg_wi T (zg_ad (zp_t pl) 3 c) 3 = w at hl
        by_cases ew : w = 3
        · rw [ew, zi_ad_eq, c3, q2]; omega
        · rw [zi_ad_lt ew, (q3 w (by omega)).2]; omega
      have ea : zp_a ow T ld (c :: pl) = ow (zg_win T (zg_ad (zp_t pl) 3 c)) := by
        show zg_na ow T (pl.length % 4) (zp_t pl) (zp_a ow T ld pl) c = _
        unfold zg_na; rw [if_pos e]
      refine ⟨ow (zg_win T (zg_ad (zp_t pl) 3 c)), hw, by rw [ea]; omega, fun i h => by omega, fun s hs => ?_⟩
      rw [hpc, q4 s hs, c3, q2, e]
      have e9 : (pl.length + 1) % 4 = 0 := by omega
      rw [e9, if_neg (Nat.not_lt_zero _)]
      split <;> split <;> omega
    · have ea : zp_a ow T ld (c :: pl) = (zp_a ow T ld pl + 1) % 4 := by
        show zg_na ow T (pl.length % 4) (zp_t pl) (zp_a ow T ld pl) c = _
        unfold zg_na; rw [if_neg e]
      have et : zp_t (c :: pl) = zg_ad (zp_t pl) (pl.length % 4) c := by
        show zg_nt (pl.length % 4) (zp_t pl) c = _
        unfold zg_nt; rw [if_neg e]
      refine ⟨q, q1, by rw [ea, q2]; omega, fun i h => ?_, fun s hs => ?_⟩
      · rw [et]
        by_cases e2 : i = pl.length % 4
        · rw [e2, zi_ad_eq]; exact ⟨c1, by rw [c3, q2]⟩
        · rw [zi_ad_lt e2]; exact q3 i (by omega)
      · rw [hpc, q4 s hs, c3, q2]
        split <;> split <;> split <;> omega
theorem zp_wf {dl : Nat → Bool} {ow : Nat → Nat} {T ld : Nat} (hld : ld < 4) {pl : List Nat} (ok : zp_ok dl ow T ld pl) : zi_wf ow (pl.length % 4) (zp_t pl) (zp_a ow T ld pl) := by
  obtain ⟨q, q1, q2, q3, _⟩ := zp_lead hld ok
  refine ⟨by omega, fun i hi => ⟨(q3 i hi).1, ?_⟩, fun i j hi hj hne => ?_⟩
  · rw [(q3 i hi).2, q2]; omega
  · rw [(q3 i hi).2, (q3 j hj).2]; omega
theorem zp_a4 {dl : Nat → Bool} {ow : Nat → Nat} {T ld : Nat} (hld : ld < 4) {pl : List Nat} (ok : zp_ok dl ow T ld pl) : zp_a ow T ld pl < 4 := by
  obtain ⟨q, q1, q2, _⟩ := zp_lead hld ok
  omega
theorem zp_rm_f {H : Nat → Bool} {c : Nat} : zg_rm H c c = false := if_pos rfl
theorem zp_rm_n {H : Nat → Bool} {c x : Nat} (h : x ≠ c) : zg_rm H c x = H x := if_neg h
theorem zp_total {dl : Nat → Bool} {ow : Nat → Nat} {T ld : Nat} : ∀ {pl : List Nat}, zp_ok dl ow T ld pl → zc_tot (zp_H dl pl) + pl.length = zc_tot dl := by
  intro pl
  induction pl with
  | nil => intro _; rfl
  | cons c pl ih =>
    intro ok
    have h1 := ih ok.1
    have h2 := zc_tot_rm (p := zp_H dl pl) (q := zg_rm (zp_H dl pl) c) ok.2.1 ok.2.2.1 zp_rm_f (fun y _ h => zp_rm_n h)
    rw [List.length_cons]
    show zc_tot (zg_rm (zp_H dl pl) c) + (pl.length + 1) = _
    omega
theorem zp_seat {dl : Nat → Bool} {ow : Nat → Nat} {T ld : Nat} (s : Nat) : ∀ {pl : List Nat}, zp_ok dl ow T ld pl → zc_tot (fun y => zp_H dl pl y && decide (ow y = s)) + zp_pc ow s pl = zc_tot (fun y => dl y && decide (ow y = s)) := by
  intro pl
  induction pl with
  | nil => intro _; rfl
  | cons c pl ih =>
    intro ok
    have h1 := ih ok.1
    show zc_tot (fun y => zg_rm (zp_H dl pl) c y && decide (ow y = s)) + (zp_pc ow s pl + (if ow c = s then 1 else 0)) = _
    by_cases e : ow c = s
    · have h2 := zc_tot_rm (p := fun y => zp_H dl pl y && decide (ow y = s)) (q := fun y => zg_rm (zp_H dl pl) c y && decide (ow y = s)) ok.2.1 (by show (zp_H dl pl c && decide (ow c = s)) = true; rw [ok.2.2.1, decide_eq_true e]; rfl) (by show (zg_rm (zp_H dl pl) c c && decide (ow c = s)) = false; rw [zp_rm_f]; rfl) (fun y _ h => by show (zg_rm (zp_H dl pl) c y && _) = _; rw [zp_rm_n h])
      rw [if_pos e]
      omega
    · have h2 : zc_tot (fun y => zg_rm (zp_H dl pl) c y && decide (ow y = s)) = zc_tot (fun y => zp_H dl pl y && decide (ow y = s)) := by
        refine zc_tot_congr (fun y _ => ?_)
        by_cases ey : y = c
        · rw [ey, decide_eq_false e, Bool.and_false, Bool.and_false]
        · rw [zp_rm_n ey]
      rw [if_neg e, h2]
      omega
theorem zp_mover {dl : Nat → Bool} {ow : Nat → Nat} {T ld D : Nat} (st : zp_st dl ow T ld D) {pl : List Nat} (ok : zp_ok dl ow T ld pl) : zc_tot (fun y => zp_H dl pl y && decide (ow y = zp_a ow T ld pl)) + pl.length / 4 = D / 4 := by
  obtain ⟨q, q1, q2, _, q4⟩ := zp_lead st.2.2.1 ok
  have ha : zp_a ow T ld pl < 4 := by omega
  have h1 := zp_seat (zp_a ow T ld pl) ok
  rw [st.2.2.2.2.2.2 _ ha, q4 _ ha, if_neg (by omega)] at h1
  exact h1
theorem zp_seat0 {dl : Nat → Bool} {ow : Nat → Nat} {T ld D : Nat} (st : zp_st dl ow T ld D) {pl : List Nat} (ok : zp_ok dl ow T ld pl) (h0 : pl.length % 4 = 0) {s : Nat} (hs : s < 4) : zc_tot (fun y => zp_H dl pl y && decide (ow y = s)) + pl.length / 4 = D / 4 := by
  obtain ⟨q, q1, q2, _, q4⟩ := zp_lead st.2.2.1 ok
  have h1 := zp_seat s ok
  rw [st.2.2.2.2.2.2 _ hs, q4 _ hs, if_neg (by omega)] at h1
  exact h1
theorem zp_le {dl : Nat → Bool} {ow : Nat → Nat} {T ld D : Nat} (st : zp_st dl ow T ld D) {pl : List Nat} (ok : zp_ok dl ow T ld pl) : pl.length ≤ D := by
  have := zp_total ok
  rw [st.2.2.2.2.2.1] at this
  omega
theorem zp_tot {dl : Nat → Bool} {ow : Nat → Nat} {T ld D : Nat} (st : zp_st dl ow T ld D) {pl : List Nat} (ok : zp_ok dl ow T ld pl) : zc_tot (zp_H dl pl) = D - pl.length := by
  have := zp_total ok
  rw [st.2.2.2.2.2.1] at this
  omega
theorem zp_card {dl : Nat → Bool} {ow : Nat → Nat} {T ld D : Nat} (st : zp_st dl ow T ld D) {pl : List Nat} (ok : zp_ok dl ow T ld pl) (hl : pl.length < D) : ∃ c, c < 32 ∧ zp_H dl pl c = true ∧ ow c = zp_a ow T ld pl := by
  have h1 := zp_mover st ok
  have h2 := st.2.2.2.2.1
  obtain ⟨x, x1, x2, _⟩ := zc_ab_sel (p := fun y => zp_H dl pl y && decide (ow y = zp_a ow T ld pl)) (j := 0) (by omega)
  rw [Bool.and_eq_true] at x2
  exact ⟨x, x1, x2.1, of_decide_eq_true x2.2⟩
theorem zp_legal {dl : Nat → Bool} {ow : Nat → Nat} {T ld D : Nat} (st : zp_st dl ow T ld D) {pl : List Nat} (ok : zp_ok dl ow T ld pl) (hl : pl.length < D) : ∃ c, zg_lg ow (zp_H dl pl) (pl.length % 4) (zp_t pl) (zp_a ow T ld pl) c := by
  obtain ⟨c, c1, c2, c3⟩ := zp_card st ok hl
  by_cases h : zg_has ow (zp_H dl pl) (zp_a ow T ld pl) (zp_t pl 0 / 8)
  · obtain ⟨x, x1, x2, x3, x4⟩ := h
    exact ⟨x, x1, x2, x3, Or.inr (Or.inl x4)⟩
  · exact ⟨c, c1, c2, c3, Or.inr (Or.inr h)⟩
theorem zp_tok {dl : Nat → Bool} {ow : Nat → Nat} {T ld D : Nat} (st : zp_st dl ow T ld D) {pl : List Nat} (ok : zp_ok dl ow T ld pl) (h0 : pl.length % 4 = 0) (h12 : D - pl.length ≤ 12) : zt_ok ow (zp_H dl pl) := by
  refine ⟨fun x _ h => (st.1 x (zp_H_dl h)).2, fun d hd => ?_⟩
  have h1 := zp_seat0 st ok h0 (s := d % 4) (by omega)
  have h2 : zc_tot (zt_dg (zp_H dl pl) ow d) ≤ zc_tot (fun y => zp_H dl pl y && decide (ow y = d % 4)) := by
    refine zc_tot_le (fun x hx h => ?_)
    unfold zt_dg at h
    rw [Bool.and_eq_true] at h ⊢
    have h3 := (st.1 x (zp_H_dl h.1)).2
    have h4 := of_decide_eq_true h.2
    exact ⟨h.1, decide_eq_true (by omega)⟩
  have := zp_le st ok
  have := st.2.2.2.2.1
  omega
theorem zp_wins {ow : Nat → Nat} {T : Nat} : ∀ {pl : List Nat}, zp_w0 ow T pl + zp_w1 ow T pl = pl.length / 4 := by
  intro pl
  induction pl with
  | nil => rfl
  | cons c pl ih =>
    show zp_w0 ow T pl + zg_gain ow T (pl.length % 4) (zp_t pl) c + (zp_w1 ow T pl + _) = (pl.length + 1) / 4
    unfold zg_gain
    by_cases e : pl.length % 4 = 3
    · rw [if_pos e, if_pos e]
      split <;> omega
    · rw [if_neg e, if_neg e]
      omega
theorem zp_at_ok {dl : Nat → Bool} {ow : Nat → Nat} {T ld : Nat} : ∀ {pl : List Nat}, zp_ok dl ow T ld pl → ∀ {i : Nat}, i < pl.length → zp_at pl i < 32 ∧ dl (zp_at pl i) = true := by
  intro pl
  induction pl with
  | nil => intro _ i h; exact absurd h (Nat.not_lt_zero _)
  | cons c pl ih =>
    intro ok i h
    rw [List.length_cons] at h
    by_cases e : i = pl.length
    · rw [e, zp_at_c]; exact ⟨ok.2.1, zp_H_dl ok.2.2.1⟩
    · rw [zp_at_n c pl e]; exact ih ok.1 (by omega)
/-- held: dealt and not played -/
theorem zp_H_iff {dl : Nat → Bool} : ∀ {pl : List Nat} {c : Nat}, zp_H dl pl c = true ↔ dl c = true ∧ ∀ i, i < pl.length → zp_at pl i ≠ c := by
  intro pl
  induction pl with
  | nil => intro c; exact ⟨fun h => ⟨h, fun i hi => absurd hi (Nat.not_lt_zero _)⟩, fun h => h.1⟩
  | cons d pl ih =>
    intro c
    constructor
    · intro h
      have h1 := zi_rm_t h
      have h2 := ih.mp h1.2
      refine ⟨h2.1, fun i hi => ?_⟩
      rw [List.length_cons] at hi
      by_cases e : i = pl.length
      · rw [e, zp_at_c]; exact fun z => h1.1 z.symm
      · rw [zp_at_n d pl e]; exact h2.2 i (by omega)
    · intro h
      refine zi_rm_m (fun z => h.2 pl.length (by rw [List.length_cons]; omega) (by rw [zp_at_c, z])) (ih.mpr ⟨h.1, fun i hi => ?_⟩)
      have := h.2 i (by rw [List.length_cons]; omega)
      rw [zp_at_n d pl (by omega)] at this
      exact this
/-! the tricks, by their number -/
def zp_wc (T : Nat) (pl : List Nat) (t : Nat) : Nat := zg_win T (fun i => zp_at pl (4 * t + i))
theorem zp_wc_n {T c : Nat} {pl : List Nat} {t : Nat} (h : 4 * t + 4 ≤ pl.length) : zp_wc T (c :: pl) t = zp_wc T pl t :=
  zg_win_congr (fun i hi => zp_at_n c pl (by omega))
theorem zp_wc_e {T c : Nat} {pl : List Nat} (e : pl.length % 4 = 3) : zp_wc T (c :: pl) (pl.length / 4) = zg_win T (zg_ad (zp_t pl) 3 c) :=
  zg_win_congr (fun i hi => by rw [zp_ad_at e hi]; congr 1; omega)
theorem zp_a_eq {dl : Nat → Bool} {ow : Nat → Nat} {T ld : Nat} (hld : ld < 4) : ∀ {pl : List Nat}, zp_ok dl ow T ld pl → zp_a ow T ld pl = ((if pl.length < 4 then ld else ow (zp_wc T pl (pl.length / 4 - 1))) + pl.length % 4) % 4 := by
  intro pl
  induction pl with
  | nil => intro _; show ld = (ld + 0) % 4; omega
  | cons c pl ih =>
    intro ok
    have h0 := ih ok.1
    have h4 := zp_a4 hld ok
    have ea : zp_a ow T ld (c :: pl) = zg_na ow T (pl.length % 4) (zp_t pl) (zp_a ow T ld pl) c := rfl
    unfold zg_na at ea
    rw [List.length_cons]
    by_cases e : pl.length % 4 = 3
    · rw [if_pos e] at ea
      have e1 : (pl.length + 1) / 4 - 1 = pl.length / 4 := by omega
      rw [if_neg (by omega), e1, zp_wc_e e, ← ea]
      omega
    · rw [if_neg e] at ea
      rw [ea, h0]
      by_cases e2 : pl.length < 4
      · rw [if_pos e2, if_pos (by omega)]; omega
      · have e1 : (pl.length + 1) / 4 - 1 = pl.length / 4 - 1 := by omega
        rw [if_neg e2, if_neg (by omega), e1, zp_wc_n (by omega)]
        omega
theorem zp_w0_eq {ow : Nat → Nat} {T : Nat} : ∀ {pl : List Nat}, zp_w0 ow T pl = zc_cnt (fun t => decide (ow (zp_wc T pl t) % 2 = 0)) (pl.length / 4) := by
  intro pl
  induction pl with
  | nil => rfl
  | cons c pl ih =>
    show zp_w0 ow T pl + zg_gain ow T (pl.length % 4) (zp_t pl) c = _
    rw [ih, List.length_cons]
    unfold zg_gain
    have h1 : zc_cnt (fun t => decide (ow (zp_wc T (c :: pl) t) % 2 = 0)) (pl.length / 4) = zc_cnt (fun t => decide (ow (zp_wc T pl t) % 2 = 0)) (pl.length / 4) := zc_congr (fun t ht => by rw [zp_wc_n (by omega)])
    by_cases e : pl.length % 4 = 3
    · have e1 : (pl.length + 1) / 4 = pl.length / 4 + 1 := by omega
      rw [if_pos e, e1, zc_s, h1, zp_wc_e e]
      by_cases e5 : ow (zg_win T (zg_ad (zp_t pl) 3 c)) % 2 = 0
      · rw [if_pos e5, if_pos (decide_eq_true e5)]
      · rw [if_neg e5, if_neg (by rw [decide_eq_false e5]; exact Bool.false_ne_true)]
    · have e1 : (pl.length + 1) / 4 = pl.length / 4 := by omega
      rw [if_neg e, e1, h1]
      rfl
theorem zp_w1_eq {ow : Nat → Nat} {T : Nat} : ∀ {pl : List Nat}, zp_w1 ow T pl = zc_cnt (fun t => decide (ow (zp_wc T pl t) % 2 = 1)) (pl.length / 4) := by
  intro pl
  induction pl with
  | nil => rfl
  | cons c pl ih =>
    show zp_w1 ow T pl + (if pl.length % 4 = 3 then (if ow (zg_win T (zg_ad (zp_t pl) 3 c)) % 2 = 0 then 0 else 1) else 0) = _
    rw [ih, List.length_cons]
    have h1 : zc_cnt (fun t => decide (ow (zp_wc T (c :: pl) t) % 2 = 1)) (pl.length / 4) = zc_cnt (fun t => decide (ow (zp_wc T pl t) % 2 = 1)) (pl.length / 4) := zc_congr (fun t ht => by rw [zp_wc_n (by omega)])
    by_cases e : pl.length % 4 = 3
    · have e1 : (pl.length + 1) / 4 = pl.length / 4 + 1 := by omega
      rw [if_pos e, e1, zc_s, h1, zp_wc_e e]
      by_cases e5 : ow (zg_win T (zg_ad (zp_t pl) 3 c)) % 2 = 0
      · rw [if_pos e5, if_neg (by rw [decide_eq_false (by omega)]; exact Bool.false_ne_true)]
      · rw [if_neg e5, if_pos (decide_eq_true (by omega))]
    · have e1 : (pl.length + 1) / 4 = pl.length / 4 := by omega
      rw [if_neg e, e1, h1]
      rfl
/-! values -/
def zp_W (dl : Nat → Bool) (ow : Nat → Nat) (T ld D : Nat) (pl : List Nat) (g : Int) : Prop := zg_W ow T (D - pl.length) (zp_H dl pl) (pl.length % 4) (zp_t pl) (zp_a ow T ld pl) g
def zp_NI (dl : Nat → Bool) (ow : Nat → Nat) (T ld D : Nat) (pl : List Nat) (g : Int) (v : Prop) (R : Nat → Bool) : Prop := zi_NI T (D - pl.length) ow (zp_H dl pl) (pl.length % 4) (zp_t pl) (zp_a ow T ld pl) g v R
def zp_lg (dl : Nat → Bool) (ow : Nat → Nat) (T ld : Nat) (pl : List Nat) (c : Nat) : Prop := zg_lg ow (zp_H dl pl) (pl.length % 4) (zp_t pl) (zp_a ow T ld pl) c
def zp_gain (ow : Nat → Nat) (T : Nat) (pl : List Nat) (c : Nat) : Nat := zg_gain ow T (pl.length % 4) (zp_t pl) c
theorem zp_gain_w {ow : Nat → Nat} {T : Nat} {pl : List Nat} {c : Nat} : zp_w0 ow T (c :: pl) = zp_w0 ow T pl + zp_gain ow T pl c := rfl
theorem zp_gain1 {ow : Nat → Nat} {T : Nat} {pl : List Nat} {c : Nat} : zp_gain ow T pl c ≤ 1 ∧ (pl.length % 4 ≠ 3 → zp_gain ow T pl c = 0) := by
  unfold zp_gain zg_gain
  constructor
  · split
    · split <;> omega
    · omega
  · intro h; rw [if_neg h]
theorem zp_NI_W {dl : Nat → Bool} {ow : Nat → Nat} {T ld D : Nat} {pl : List Nat} {g : Int} {v : Prop} {R : Nat → Bool} (hld : ld < 4) (ok : zp_ok dl ow T ld pl) (N : zp_NI dl ow T ld D pl g v R) : zp_W dl ow T ld D pl g ↔ v :=
  N _ _ _ _ (zi_self (fun i hi => ((zp_wf hld ok).2.1 i hi).1))
theorem zp_lg_ok {dl : Nat → Bool} {ow : Nat → Nat} {T ld : Nat} {pl : List Nat} {c : Nat} (ok : zp_ok dl ow T ld pl) (h : zp_lg dl ow T ld pl c) : zp_ok dl ow T ld (c :: pl) := ⟨ok, h.1, h.2.1, h.2.2.1⟩
theorem zp_NI_c {dl : Nat → Bool} {ow : Nat → Nat} {T ld D : Nat} {pl : List Nat} {c k : Nat} {g : Int} {v : Prop} {R : Nat → Bool} (hk : D - pl.length = k + 1) (N : zp_NI dl ow T ld D (c :: pl) (g - (zp_gain ow T pl c : Int)) v R) :
    zi_NI T k ow (zg_rm (zp_H dl pl) c) (zg_nr (pl.length % 4)) (zg_nt (pl.length % 4) (zp_t pl) c) (zg_na ow T (pl.length % 4) (zp_t pl) (zp_a ow T ld pl) c) (g - (zg_gain ow T (pl.length % 4) (zp_t pl) c : Int)) v R := by
  unfold zp_NI at N
  rw [List.length_cons] at N
  have e : D - (pl.length + 1) = k := by omega
  rw [e] at N
  rw [zp_nr]
  exact N
theorem zp_ch {dl : Nat → Bool} {ow : Nat → Nat} {T ld D : Nat} {pl : List Nat} {c k : Nat} {g : Int} (hk : D - pl.length = k + 1) :
    zg_ch ow T k (zp_H dl pl) (pl.length % 4) (zp_t pl) (zp_a ow T ld pl) g c ↔ zp_W dl ow T ld D (c :: pl) (g - (zp_gain ow T pl c : Int)) := by
  unfold zp_W zg_ch
  rw [List.length_cons]
  have e : D - (pl.length + 1) = k := by omega
  rw [e, zp_nr]
  exact Iff.rfl
theorem zp_W_s {dl : Nat → Bool} {ow : Nat → Nat} {T ld D : Nat} {pl : List Nat} {g : Int} (hl : pl.length < D) : zp_W dl ow T ld D pl g ↔ (g ≤ 0 ∨ (g ≤ (((D - pl.length + 3) / 4 : Nat) : Int) ∧
      ((zp_a ow T ld pl % 2 = 0 ∧ ∃ c, zp_lg dl ow T ld pl c ∧ zp_W dl ow T ld D (c :: pl) (g - (zp_gain ow T pl c : Int))) ∨ (¬ zp_a ow T ld pl % 2 = 0 ∧ ∀ c, zp_lg dl ow T ld pl c → zp_W dl ow T ld D (c :: pl) (g - (zp_gain ow T pl c : Int)))))) := by
  have hk : D - pl.length = (D - pl.length - 1) + 1 := by omega
  have h0 : zp_W dl ow T ld D pl g ↔ zg_W ow T ((D - pl.length - 1) + 1) (zp_H dl pl) (pl.length % 4) (zp_t pl) (zp_a ow T ld pl) g := by
    unfold zp_W; rw [← hk]
  rw [h0, zg_W_s, ← hk]
  simp only [zp_ch hk]
  exact Iff.rfl
end
section
/-! ===== X: small methods ===== -/
def zx_b (b : Bool) : Int32 := if b = true then 1 else 0
theorem zx_b1 : ∀ i, i < 32 → bt 1 i = decide (i = 0) := by decide
theorem zx_and1 (x : Int32) : (x &&& 1) = 0 ↔ bt x 0 = false := by
  constructor
  · intro h
    have h1 := b_and x 1 0
    rw [h, b_0, zx_b1 0 (by omega)] at h1
    simpa using h1.symm
  · intro h
    refine b_ext (fun i hi => ?_)
    rw [b_and, b_0, zx_b1 i hi]
    by_cases e : i = 0
    · rw [e, h]; rfl
    · rw [decide_eq_false e, Bool.and_false]
theorem zx_bit (S : Int32) {c : Nat} (hc : c < 32) : (((S.toUInt32 >>> ((nI c).toUInt32 &&& Int32.toUInt32 31)).toInt32) &&& 1) = 0 ↔ bt S c = false := by
  rw [zx_and1, b_ushr c hc]
  rfl
theorem zx_has {post : Int32 → Prop} (u : SX) (S : Int32) {c : Nat} (hc : c < 32) (h : post (zx_b (bt S c))) : wpX_has post u S (nI c) := by
  obtain ⟨f_handSize, f_dealtSet, f_dealt, f_count, f_toAct, f_trumpSuit, f_started, f_verdict, f_relevant, a_hands, a_owner, a_line, a_won, a_goal, a_todo, a_seen, a_keyLengths, a_keyOwners, a_classWord, a_classLengths, a_classMask, a_classOwners, a_nextSlot⟩ := u
  unfold wpX_has
  by_cases e : bt S c = true
  · refine br_f (fun z => ?_) (by rw [e] at h; exact h)
    rw [zx_bit S hc, e] at z
    exact absurd z (by decide)
  · have e2 : bt S c = false := by simpa using e
    exact br_t ((zx_bit S hc).mpr e2) (by rw [e2] at h; exact h)
section
variable {f_handSize f_dealtSet f_dealt f_count f_toAct f_trumpSuit f_started f_verdict f_relevant : Int32} {a_hands a_owner a_line a_won a_goal a_todo a_seen a_keyLengths a_classWord a_classLengths a_nextSlot : Nat → Int32} {a_keyOwners a_classMask a_classOwners : Nat → Int64}
theorem zx_beats {post : Int32 → Prop} {T c b : Nat} (hT : T ≤ 4) (hc : c < 32) (hb : b < 32) (h : post (zx_b (zg_beats T c b))) : wpX_beats post (f_handSize, f_dealtSet, f_dealt, f_count, f_toAct, nI T, f_started, f_verdict, f_relevant, a_hands, a_owner, a_line, a_won, a_goal, a_todo, a_seen, a_keyLengths, a_keyOwners, a_classWord, a_classLengths, a_classMask, a_classOwners, a_nextSlot) (nI c) (nI b) := by
  unfold wpX_beats
  have e1 : nI c / 8 = nI (c / 8) := pk_div (d := 8) (by omega) (by omega) (by omega)
  have e2 : nI b / 8 = nI (b / 8) := pk_div (d := 8) (by omega) (by omega) (by omega)
  refine ⟨by decide, by decide, ?_⟩
  rw [e1, e2]
  unfold zg_beats at h
  refine pk_eq (c / 8) (b / 8) (fun e => ?_) (fun e => ?_)
  · rw [if_pos e] at h
    refine pk_le c b (fun q => ?_) (fun q => ?_)
    · rw [decide_eq_false (by omega)] at h; exact h
    · rw [decide_eq_true q] at h; exact h
  · rw [if_neg e] at h
    refine ⟨by decide, pk_eq (c / 8) T (fun q => ?_) (fun q => ?_)⟩
    · rw [decide_eq_true q] at h; exact h
    · rw [decide_eq_false q] at h; exact h
theorem zx_winLoop {post : Int32 → Prop} {T from' m : Nat} {tau : Nat → Nat} (hT : T ≤ 4) (h16 : from' + m < 16) (hl : ∀ i, i ≤ m → a_line (from' + i) = nI (tau i) ∧ tau i < 32) (h : post (nI (tau (zg_wi T tau m)))) :
    ∀ d j, j + d = m → wX_winningCard_11 post f_handSize f_dealtSet f_dealt (nI (from' + m + 1)) f_toAct (nI T) f_started f_verdict f_relevant a_hands a_owner a_line a_won a_goal a_todo a_seen a_keyLengths a_keyOwners a_classWord a_classLengths a_classMask a_classOwners a_nextSlot (d + 1) (nI (tau (zg_wi T tau j))) (nI (from' + j + 1)) := by
  intro d
  induction d with
  | zero =>
    intro j hj
    have ej : j = m := by omega
    subst ej
    exact br_t (Int32.le_refl _) h
  | succ d ih =>
    intro j hj
    have hi := hl (j + 1) (by omega)
    have hw := hl (zg_wi T tau j) (Nat.le_trans (zg_wi_le T tau j) (by omega))
    have ea : a_line (nI (from' + j + 1)).toNatClampNeg = nI (tau (j + 1)) := by
      rw [nI_clamp (by omega)]; exact hi.1
    refine br_f (nI_ge (by omega) (by omega)) ⟨vp_in_nI (by omega) (by omega), ?_⟩
    rw [ea]
    refine zx_beats hT hi.2 hw.2 ?_
    have e : zg_wi T tau (j + 1) = if zg_beats T (tau (j + 1)) (tau (zg_wi T tau j)) = true then j + 1 else zg_wi T tau j := rfl
    have h0 := ih (j + 1) (by omega)
    by_cases c : zg_beats T (tau (j + 1)) (tau (zg_wi T tau j)) = true
    · rw [c]
      rw [if_pos c] at e
      rw [e] at h0
      refine br_f (by decide) ⟨vp_in_nI (by omega) (by omega), nm_e (nm_r (nI_1 _) h0)⟩
    · rw [if_neg c] at e
      rw [e] at h0
      have c2 : zg_beats T (tau (j + 1)) (tau (zg_wi T tau j)) = false := by simpa using c
      rw [c2]
      exact br_t rfl (nm_r (nI_1 _) h0)
theorem zx_winning {post : Int32 → Prop} {T from' m : Nat} {tau : Nat → Nat} (hT : T ≤ 4) (h16 : from' + m < 16) (hl : ∀ i, i ≤ m → a_line (from' + i) = nI (tau i) ∧ tau i < 32) (h : post (nI (tau (zg_wi T tau m)))) :
    wpX_winningCard post (f_handSize, f_dealtSet, f_dealt, nI (from' + m + 1), f_toAct, nI T, f_started, f_verdict, f_relevant, a_hands, a_owner, a_line, a_won, a_goal, a_todo, a_seen, a_keyLengths, a_keyOwners, a_classWord, a_classLengths, a_classMask, a_classOwners, a_nextSlot) (nI from') := by
  unfold wpX_winningCard
  refine ⟨vp_in_nI (by omega) (by omega), nm_r (e' := nI (tau 0)) ?_ (nm_r (nI_1 _) ⟨m + 1, zx_winLoop hT h16 hl h m 0 (by omega)⟩)⟩
  rw [nI_clamp (by omega)]
  exact (hl 0 (by omega)).1
/-! the game as X keeps it -/
def zx_G (dl : Nat → Bool) (ow : Nat → Nat) (T : Nat) (pl : List Nat) (a_hands a_owner a_line a_won : Nat → Int32) : Prop :=
  (∀ s c, s < 4 → c < 32 → bt (a_hands s) c = (zp_H dl pl c && decide (ow c = s))) ∧ (∀ c, dl c = true → a_owner c = nI (ow c)) ∧ (∀ i, i < pl.length → a_line i = nI (zp_at pl i)) ∧ a_won 0 = nI (zp_w0 ow T pl) ∧ a_won 1 = nI (zp_w1 ow T pl)
theorem zx_rem4 {n : Nat} (h : n < 2 ^ 31) : nI n - nI n / 4 * 4 = nI (n % 4) := pk_rem (d := 4) h (by omega) (by omega)
theorem zx_rem8 {n : Nat} (h : n < 2 ^ 31) : nI n - nI n / 8 * 8 = nI (n % 8) := pk_rem (d := 8) h (by omega) (by omega)
theorem zx_rem2 {n : Nat} (h : n < 2 ^ 31) : nI n - nI n / 2 * 2 = nI (n % 2) := pk_rem (d := 2) h (by omega) (by omega)
theorem zx_255 {s : Nat} (hs : s < 4) : ∀ c, c < 32 → bt ((255 : Int32) <<< (nI (8 * s) &&& 31)) c = decide (c / 8 = s) := by
  intro c hc
  rw [b_shl (8 * s) (by omega) 255 hc, b_255]
  rw [← Bool.decide_and]
  exact decide_eq_decide.mpr (by omega)
theorem zx_legal {post : Int32 → Prop} {dl : Nat → Bool} {ow : Nat → Nat} {T ld D : Nat} {pl : List Nat} (st : zp_st dl ow T ld D) (ok : zp_ok dl ow T ld pl) (G : zx_G dl ow T pl a_hands a_owner a_line a_won)
    (h : ∀ L, (∀ c, c < 32 → (bt L c = true ↔ zp_lg dl ow T ld pl c)) → post L) : wpX_legalCards post (f_handSize, f_dealtSet, nI D, nI pl.length, nI (zp_a ow T ld pl), nI T, f_started, f_verdict, f_relevant, a_hands, a_owner, a_line, a_won, a_goal, a_todo, a_seen, a_keyLengths, a_keyOwners, a_classWord, a_classLengths, a_classMask, a_classOwners, a_nextSlot) := by
  have ha := zp_a4 st.2.2.1 ok
  have hn := zp_le st ok
  have hD := st.2.2.2.1
  have hh := fun c hc => G.1 (zp_a ow T ld pl) c ha hc
  have ec : (nI (zp_a ow T ld pl)).toNatClampNeg = zp_a ow T ld pl := nI_clamp (by omega)
  unfold wpX_legalCards
  refine ⟨vp_in_nI ha (by omega), nm_r (e' := a_hands (zp_a ow T ld pl)) (by rw [ec]) ⟨by decide, nm_r (zx_rem4 (by omega)) (pk_eq (pl.length % 4) 0 (fun e => ?_) (fun e => ?_))⟩⟩
  · refine h _ (fun c hc => ?_)
    rw [hh c hc, Bool.and_eq_true, decide_eq_true_iff]
    exact ⟨fun z => ⟨hc, z.1, z.2, Or.inl e⟩, fun z => ⟨z.2.1, z.2.2.1⟩⟩
  · have e1 : nI pl.length - nI (pl.length % 4) = nI (pl.length - pl.length % 4) := pk_sub (by omega)
    have ht := (zp_wf st.2.2.1 ok).2.1 0 (by omega)
    have e2 : a_line (pl.length - pl.length % 4) = nI (zp_t pl 0) := by
      rw [G.2.2.1 _ (by omega), zp_t_at (by omega)]; rfl
    have e3 : a_line (nI pl.length - nI (pl.length % 4)).toNatClampNeg = nI (zp_t pl 0) := by rw [e1, nI_clamp (by omega), e2]
    have e4 : nI (zp_t pl 0) - nI (zp_t pl 0 % 8) = nI (8 * (zp_t pl 0 / 8)) := by
      rw [pk_sub (by omega)]; congr 1; omega
    have e5 : nI (zp_t pl 0) - (nI (zp_t pl 0) - nI (zp_t pl 0) / 8 * 8) = nI (8 * (zp_t pl 0 / 8)) := by
      rw [zx_rem8 (by omega), e4]
    refine ⟨by rw [e1]; exact vp_in_nI (by omega) (by omega), nm_r e3 ⟨by decide, nm_r (e' := a_hands (zp_a ow T ld pl) &&& ((255 : Int32) <<< (nI (8 * (zp_t pl 0 / 8)) &&& 31))) (by rw [e5]) ?_⟩⟩
    have hf : ∀ c, c < 32 → (bt (a_hands (zp_a ow T ld pl) &&& ((255 : Int32) <<< (nI (8 * (zp_t pl 0 / 8)) &&& 31))) c = true ↔ (zp_H dl pl c = true ∧ ow c = zp_a ow T ld pl ∧ c / 8 = zp_t pl 0 / 8)) := by
      intro c hc
      rw [b_and, hh c hc, zx_255 (by omega) c hc, Bool.and_eq_true, Bool.and_eq_true, decide_eq_true_iff, decide_eq_true_iff]
      exact and_assoc
    refine br_c (fun z => ?_) (fun z => ?_)
    · refine h _ (fun c hc => ?_)
      rw [hh c hc, Bool.and_eq_true, decide_eq_true_iff]
      have hno : ¬ zg_has ow (zp_H dl pl) (zp_a ow T ld pl) (zp_t pl 0 / 8) := by
        rintro ⟨x, x1, x2, x3, x4⟩
        have := (hf x x1).mpr ⟨x2, x3, x4⟩
        rw [z, b_0] at this
        exact absurd this (by decide)
      exact ⟨fun z => ⟨hc, z.1, z.2, Or.inr (Or.inr hno)⟩, fun z => ⟨z.2.1, z.2.2.1⟩⟩
    · refine h _ (fun c hc => ?_)
      rw [hf c hc]
      constructor
      · exact fun q => ⟨hc, q.1, q.2.1, Or.inr (Or.inl q.2.2)⟩
      · rintro ⟨_, q1, q2, q3 | q3 | q3⟩
        · exact absurd q3 e
        · exact ⟨q1, q2, q3⟩
        · exfalso
          apply z
          refine b_ext (fun i hi => ?_)
          rw [b_0]
          by_cases w : bt (a_hands (zp_a ow T ld pl) &&& ((255 : Int32) <<< (nI (8 * (zp_t pl 0 / 8)) &&& 31))) i = true
          · have := (hf i hi).mp w
            exact absurd ⟨i, hi, this.1, this.2.1, this.2.2⟩ q3
          · simpa using w
end
end
section
/-! ===== X: put and takeBack ===== -/
theorem zx_one {c : Nat} (hc : c < 32) {i : Nat} (hi : i < 32) : bt ((1 : Int32) <<< (nI c &&& 31)) i = decide (i = c) := by
  rw [b_shl c hc 1 hi, zx_b1 _ (by omega), ← Bool.decide_and]
  exact decide_eq_decide.mpr (by omega)
theorem zx_not (x : Int32) {i : Nat} (hi : i < 32) : bt (x ^^^ (-1)) i = !bt x i := by
  rw [b_xor, b_m1 i hi]
  cases bt x i <;> rfl
section
variable {f_handSize f_dealtSet f_dealt f_count f_toAct f_trumpSuit f_started f_verdict f_relevant : Int32} {a_hands a_owner a_line a_won a_goal a_todo a_seen a_keyLengths a_classWord a_classLengths a_nextSlot : Nat → Int32} {a_keyOwners a_classMask a_classOwners : Nat → Int64}
variable {dl : Nat → Bool} {ow : Nat → Nat} {T ld D : Nat} {pl : List Nat}
theorem zx_wcard {c : Nat} (ok : zp_ok dl ow T ld (c :: pl)) (e : pl.length % 4 = 3) : zg_win T (zg_ad (zp_t pl) 3 c) < 32 ∧ dl (zg_win T (zg_ad (zp_t pl) 3 c)) = true := by
  unfold zg_win
  have hl := zg_wi_le T (zg_ad (zp_t pl) 3 c) 3
  rw [zp_ad_at e (by omega)]
  exact zp_at_ok ok (by rw [List.length_cons]; omega)
theorem zx_wcardX {post : Int32 → Prop} {c : Nat} (st : zp_st dl ow T ld D) (ok : zp_ok dl ow T ld (c :: pl)) (e : pl.length % 4 = 3) (hl : ∀ i, i < (c :: pl).length → a_line i = nI (zp_at (c :: pl) i)) (h : post (nI (zg_win T (zg_ad (zp_t pl) 3 c)))) :
    wpX_winningCard post (f_handSize, f_dealtSet, f_dealt, nI (pl.length + 1), f_toAct, nI T, f_started, f_verdict, f_relevant, a_hands, a_owner, a_line, a_won, a_goal, a_todo, a_seen, a_keyLengths, a_keyOwners, a_classWord, a_classLengths, a_classMask, a_classOwners, a_nextSlot) (nI (pl.length + 1) - 4) := by
  have hn := zp_le st ok
  rw [List.length_cons] at hn hl
  have hD := st.2.2.2.1
  have e1 : nI (pl.length + 1) - 4 = nI (pl.length - 3) := by
    have := pk_sub (a := pl.length + 1) (b := 4) (by omega)
    have e4 : pl.length + 1 - 4 = pl.length - 3 := by omega
    rw [e4] at this
    exact this
  have e2 : pl.length + 1 = pl.length - 3 + 3 + 1 := by omega
  rw [e1, e2]
  refine zx_winning (tau := zg_ad (zp_t pl) 3 c) st.2.1 (by omega) (fun i hi => ?_) h
  rw [hl _ (by omega), zp_ad_at e (by omega)]
  exact ⟨rfl, (zp_at_ok ok (by rw [List.length_cons]; omega)).1⟩
theorem zx_put {post : SX → Prop} {c : Nat} (st : zp_st dl ow T ld D) (ok : zp_ok dl ow T ld (c :: pl)) (G : zx_G dl ow T pl a_hands a_owner a_line a_won)
    (h : ∀ hands' line' won', zx_G dl ow T (c :: pl) hands' a_owner line' won' → post (f_handSize, f_dealtSet, nI D, nI ((c :: pl)).length, nI (zp_a ow T ld ((c :: pl))), nI T, f_started, f_verdict, f_relevant, hands', a_owner, line', won', a_goal, a_todo, a_seen, a_keyLengths, a_keyOwners, a_classWord, a_classLengths, a_classMask, a_classOwners, a_nextSlot)) : wpX_put post (f_handSize, f_dealtSet, nI D, nI pl.length, nI (zp_a ow T ld pl), nI T, f_started, f_verdict, f_relevant, a_hands, a_owner, a_line, a_won, a_goal, a_todo, a_seen, a_keyLengths, a_keyOwners, a_classWord, a_classLengths, a_classMask, a_classOwners, a_nextSlot) (nI c) := by
  have hn := zp_le st ok
  rw [List.length_cons] at hn
  have hD := st.2.2.2.1
  obtain ⟨ok1, c1, c2, c3⟩ := ok
  have ha := zp_a4 st.2.2.1 ok1
  obtain ⟨g1, g2, g3, g4, g5⟩ := G
  have ec : (nI (zp_a ow T ld pl)).toNatClampNeg = zp_a ow T ld pl := nI_clamp (by omega)
  have g1' : ∀ s i, s < 4 → i < 32 → bt (upd a_hands (zp_a ow T ld pl) ((a_hands (zp_a ow T ld pl)) &&& (((1 : Int32) <<< (nI c &&& 31)) ^^^ (-1))) s) i = (zp_H dl (c :: pl) i && decide (ow i = s)) := by
    intro s i hs hi
    show _ = (zg_rm (zp_H dl pl) c i && _)
    by_cases es : s = zp_a ow T ld pl
    · rw [es, pk_us, b_and, zx_not _ hi, zx_one c1 hi, g1 _ _ ha hi]
      by_cases ei : i = c
      · rw [ei, zp_rm_f]; simp
      · rw [zp_rm_n ei]; simp [ei]
    · rw [pk_un es, g1 s i hs hi]
      by_cases ei : i = c
      · rw [ei, decide_eq_false (by omega), Bool.and_false, Bool.and_false]
      · rw [zp_rm_n ei]
  have g3' : ∀ i, i < (c :: pl).length → upd a_line pl.length (nI c) i = nI (zp_at (c :: pl) i) := by
    intro i hi
    rw [List.length_cons] at hi
    by_cases e : i = pl.length
    · rw [e, pk_us, zp_at_c]
    · rw [pk_un e, zp_at_n c pl e]; exact g3 i (by omega)
  unfold wpX_put
  refine ⟨vp_in_nI ha (by omega), vp_in_nI ha (by omega), nm_r (e' := upd a_hands (zp_a ow T ld pl) ((a_hands (zp_a ow T ld pl)) &&& (((1 : Int32) <<< (nI c &&& 31)) ^^^ (-1)))) (by rw [ec]) ⟨vp_in_nI (by omega) (by omega), nm_r (e' := upd a_line pl.length (nI c)) (by rw [nI_clamp (by omega)]) (nm_r (nI_1 _) ⟨by decide, ?_⟩)⟩⟩
  rw [zx_rem4 (by omega)]
  refine pk_eq ((pl.length + 1) % 4) 0 (fun e => ?_) (fun e => ?_)
  · have e3 : pl.length % 4 = 3 := by omega
    have hw := zx_wcard (T := T) ⟨ok1, c1, c2, c3⟩ e3
    have how := (st.1 _ hw.2).2
    have ea : zp_a ow T ld (c :: pl) = ow (zg_win T (zg_ad (zp_t pl) 3 c)) := by
      show zg_na ow T (pl.length % 4) (zp_t pl) (zp_a ow T ld pl) c = _
      unfold zg_na; rw [if_pos e3]
    have e0 : zp_w0 ow T (c :: pl) = zp_w0 ow T pl + (if ow (zg_win T (zg_ad (zp_t pl) 3 c)) % 2 = 0 then 1 else 0) := by
      show _ + zg_gain ow T (pl.length % 4) (zp_t pl) c = _
      unfold zg_gain; rw [if_pos e3]
    have e1 : zp_w1 ow T (c :: pl) = zp_w1 ow T pl + (if ow (zg_win T (zg_ad (zp_t pl) 3 c)) % 2 = 0 then 0 else 1) := by
      show _ + (if pl.length % 4 = 3 then _ else _) = _
      rw [if_pos e3]
    refine zx_wcardX st ⟨ok1, c1, c2, c3⟩ e3 g3' ?_
    generalize zg_win T (zg_ad (zp_t pl) 3 c) = w at *
    have eo : a_owner (nI w).toNatClampNeg = nI (zp_a ow T ld (c :: pl)) := by rw [nI_clamp (by omega), g2 w hw.2, ea]
    have hr : nI (zp_a ow T ld (c :: pl)) - nI (zp_a ow T ld (c :: pl)) / 2 * 2 = nI (zp_a ow T ld (c :: pl) % 2) := zx_rem2 (by omega)
    refine ⟨vp_in_nI hw.1 (by omega), nm_r eo ⟨by decide, ?_⟩⟩
    rw [hr]
    refine ⟨vp_in_nI (by omega) (by omega), vp_in_nI (by omega) (by omega), nm_r (e' := upd a_won (zp_a ow T ld (c :: pl) % 2) (a_won (zp_a ow T ld (c :: pl) % 2) + 1)) (by rw [nI_clamp (by omega)]) ?_⟩
    refine h _ _ _ ⟨g1', g2, g3', ?_, ?_⟩
    · rw [ea, e0]
      by_cases q : ow w % 2 = 0
      · rw [q, pk_us, if_pos rfl, g4, nI_1]
      · rw [pk_un (by omega), if_neg q, g4]; rfl
    · rw [ea, e1]
      by_cases q : ow w % 2 = 0
      · rw [pk_un (by omega), if_pos q, g5]; rfl
      · have q1 : ow w % 2 = 1 := by omega
        rw [q1, pk_us, if_neg (by omega), g5, nI_1]
  · have e3 : ¬ pl.length % 4 = 3 := by omega
    have ea : zp_a ow T ld (c :: pl) = (zp_a ow T ld pl + 1) % 4 := by
      show zg_na ow T (pl.length % 4) (zp_t pl) (zp_a ow T ld pl) c = _
      unfold zg_na; rw [if_neg e3]
    have e0 : zp_w0 ow T (c :: pl) = zp_w0 ow T pl := by
      show _ + zg_gain ow T (pl.length % 4) (zp_t pl) c = _
      unfold zg_gain; rw [if_neg e3]; rfl
    have e1 : zp_w1 ow T (c :: pl) = zp_w1 ow T pl := by
      show _ + (if pl.length % 4 = 3 then _ else _) = _
      rw [if_neg e3]; rfl
    refine ⟨by decide, nm_r (e' := nI (zp_a ow T ld (c :: pl))) (by rw [nI_1, zx_rem4 (by omega), ea]) ?_⟩
    exact h _ _ _ ⟨g1', g2, g3', by rw [e0]; exact g4, by rw [e1]; exact g5⟩
theorem zx_take {post : Int32 → SX → Prop} {c : Nat} (st : zp_st dl ow T ld D) (ok : zp_ok dl ow T ld (c :: pl)) (G : zx_G dl ow T (c :: pl) a_hands a_owner a_line a_won)
    (h : ∀ hands' won', zx_G dl ow T pl hands' a_owner a_line won' → post (nI c) (f_handSize, f_dealtSet, nI D, nI pl.length, nI (zp_a ow T ld pl), nI T, f_started, f_verdict, f_relevant, hands', a_owner, a_line, won', a_goal, a_todo, a_seen, a_keyLengths, a_keyOwners, a_classWord, a_classLengths, a_classMask, a_classOwners, a_nextSlot)) : wpX_takeBack post (f_handSize, f_dealtSet, nI D, nI ((c :: pl)).length, nI (zp_a ow T ld ((c :: pl))), nI T, f_started, f_verdict, f_relevant, a_hands, a_owner, a_line, a_won, a_goal, a_todo, a_seen, a_keyLengths, a_keyOwners, a_classWord, a_classLengths, a_classMask, a_classOwners, a_nextSlot) := by
  have hn := zp_le st ok
  rw [List.length_cons] at hn
  have hD := st.2.2.2.1
  have ha' := zp_a4 st.2.2.1 ok
  have okk := ok
  obtain ⟨ok1, c1, c2, c3⟩ := ok
  have ha := zp_a4 st.2.2.1 ok1
  obtain ⟨g1, g2, g3, g4, g5⟩ := G
  have g1' : ∀ s i, s < 4 → i < 32 → bt (upd a_hands (zp_a ow T ld pl) ((a_hands (zp_a ow T ld pl)) ||| ((1 : Int32) <<< (nI c &&& 31))) s) i = (zp_H dl pl i && decide (ow i = s)) := by
    intro s i hs hi
    have gg := g1 s i hs hi
    have e9 : zp_H dl (c :: pl) i = zg_rm (zp_H dl pl) c i := rfl
    rw [e9] at gg
    by_cases es : s = zp_a ow T ld pl
    · rw [es] at gg
      rw [es, pk_us, b_or, zx_one c1 hi, gg]
      by_cases ei : i = c
      · rw [ei, c2, c3]; simp
      · rw [zp_rm_n ei]; simp [ei]
    · rw [pk_un es, gg]
      by_cases ei : i = c
      · rw [ei, decide_eq_false (by omega), Bool.and_false, Bool.and_false]
      · rw [zp_rm_n ei]
  have g3' : ∀ i, i < pl.length → a_line i = nI (zp_at pl i) := by
    intro i hi
    rw [g3 i (by rw [List.length_cons]; omega), zp_at_n c pl (by omega)]
  have key : ∀ won', won' 0 = nI (zp_w0 ow T pl) → won' 1 = nI (zp_w1 ow T pl) → wX_takeBack_24 post f_handSize f_dealtSet (nI D) (nI ((c :: pl)).length) (nI (zp_a ow T ld ((c :: pl)))) (nI T) f_started f_verdict f_relevant a_hands a_owner a_line won' a_goal a_todo a_seen a_keyLengths a_keyOwners a_classWord a_classLengths a_classMask a_classOwners a_nextSlot := by
    intro won' w0 w1
    unfold wX_takeBack_24
    have eo : a_owner (nI c).toNatClampNeg = nI (zp_a ow T ld pl) := by rw [nI_clamp (by omega), g2 c (zp_H_dl c2), c3]
    refine nm_r (e' := nI pl.length) (nI_pred _) ⟨vp_in_nI (by omega) (by omega), nm_r (e' := nI c) (by rw [nI_clamp (by omega), g3 _ (by rw [List.length_cons]; omega), zp_at_c]) ⟨vp_in_nI c1 (by omega), nm_r eo ⟨vp_in_nI ha (by omega), vp_in_nI ha (by omega), nm_r (e' := upd a_hands (zp_a ow T ld pl) ((a_hands (zp_a ow T ld pl)) ||| ((1 : Int32) <<< (nI c &&& 31)))) (by rw [nI_clamp (by omega)]) ?_⟩⟩⟩
    exact h _ _ ⟨g1', g2, g3', w0, w1⟩
  unfold wpX_takeBack
  refine ⟨by decide, ?_⟩
  have e0 : zp_w0 ow T (c :: pl) = zp_w0 ow T pl + zg_gain ow T (pl.length % 4) (zp_t pl) c := rfl
  have e1 : zp_w1 ow T (c :: pl) = zp_w1 ow T pl + (if pl.length % 4 = 3 then (if ow (zg_win T (zg_ad (zp_t pl) 3 c)) % 2 = 0 then 0 else 1) else 0) := rfl
  have ea : zp_a ow T ld (c :: pl) = zg_na ow T (pl.length % 4) (zp_t pl) (zp_a ow T ld pl) c := rfl
  unfold zg_gain at e0
  unfold zg_na at ea
  rw [List.length_cons, zx_rem4 (by omega)]
  refine pk_eq ((pl.length + 1) % 4) 0 (fun e => ?_) (fun e => ?_)
  · have e3 : pl.length % 4 = 3 := by omega
    rw [if_pos e3] at e0 e1 ea
    refine ⟨by decide, ?_⟩
    rw [zx_rem2 (by omega)]
    refine ⟨vp_in_nI (by omega) (by omega), vp_in_nI (by omega) (by omega), nm_r (e' := upd a_won (zp_a ow T ld (c :: pl) % 2) (a_won (zp_a ow T ld (c :: pl) % 2) - 1)) (by rw [nI_clamp (by omega)]) ?_⟩
    rw [← ea] at e0 e1
    refine key _ ?_ ?_
    · by_cases q : zp_a ow T ld (c :: pl) % 2 = 0
      · rw [if_pos q] at e0
        rw [q, pk_us, g4, e0, nI_pred]
      · rw [if_neg q] at e0
        rw [pk_un (by omega), g4, e0]; rfl
    · by_cases q : zp_a ow T ld (c :: pl) % 2 = 0
      · rw [if_pos q] at e1
        rw [pk_un (by omega), g5, e1]; rfl
      · rw [if_neg q] at e1
        have q1 : zp_a ow T ld (c :: pl) % 2 = 1 := by omega
        rw [q1, pk_us, g5, e1, nI_pred]
  · have e3 : ¬ pl.length % 4 = 3 := by omega
    rw [if_neg e3] at e0 e1
    exact key a_won (by rw [g4, e0]; rfl) (by rw [g5, e1]; rfl)
end
end
section
/-! ===== X: describe, maskOfRelevant, topCards ===== -/
theorem zk_ab_0 {p : Nat → Bool} : ∀ (d m : Nat), m + d = 32 → (∀ x, m ≤ x → x < 32 → p x = false) → zc_ab p m = 0 := by
  intro d
  induction d with
  | zero => intro m e _; have e2 : m = 32 := by omega
            rw [e2]; exact zc_ab_32 p
  | succ d ih =>
    intro m e h
    rw [zc_ab_s p (by omega), ih (m + 1) (by omega) (fun x h1 h2 => h x (by omega) h2), h m (Nat.le_refl _) (by omega)]
    rfl
theorem zk_rk_7 {H : Nat → Bool} {q : Nat} (hq : q < 32) (h : q % 8 = 7) : zt_rk H q = 0 := by
  refine zk_ab_0 (32 - (q + 1)) (q + 1) (by omega) (fun x h1 h2 => ?_)
  unfold zt_h
  rw [decide_eq_false (by omega), Bool.and_false]
theorem zk_rk_s {H : Nat → Bool} {q : Nat} (hq : q < 32) (h : q % 8 ≠ 7) : zt_rk H q = zt_rk H (q + 1) + (if H (q + 1) = true then 1 else 0) := by
  have e : (q + 1) / 8 = q / 8 := by omega
  unfold zt_rk
  rw [zc_ab_s _ (by omega : q + 1 < 32), e]
  congr 1
  unfold zt_h
  rw [decide_eq_true e, Bool.and_true]
theorem zk_rk_le {H : Nat → Bool} : ∀ (d q : Nat), q < 32 → d = 7 - q % 8 → zt_rk H q ≤ d := by
  intro d
  induction d with
  | zero => intro q hq h; rw [zk_rk_7 hq (by omega)]; exact Nat.le_refl _
  | succ d ih =>
    intro q hq h
    rw [zk_rk_s hq (by omega)]
    have h1 := ih (q + 1) (by omega) (by omega)
    split <;> omega
theorem zk_rk7 {H : Nat → Bool} {q : Nat} (hq : q < 32) : zt_rk H q ≤ 7 - q % 8 := zk_rk_le _ q hq rfl
theorem zk_rk_lt {H : Nat → Bool} {x q : Nat} (hx : x < 32) (Hx : H x = true) (h : q < x) (e : x / 8 = q / 8) : zt_rk H x < zt_rk H q := by
  unfold zt_rk
  rw [e]
  exact zc_ab_lt hx (zt_h_m Hx e) h
/-- bits of a small number, shifted -/
theorem zk_shl {o k p : Nat} (hk : k < 64) (hp : p < 64) : (lN o <<< ((nI k).toInt64 &&& 63)).toBitVec.getLsbD p = (decide (k ≤ p) && o.testBit (p - k)) := by
  rw [wb_shl o hk, wb_tb, BitVec.getLsbD_ofNat, decide_eq_true hp, Bool.true_and, ← Nat.shiftLeft_eq, Nat.testBit_shiftLeft]
theorem zk_or (a b : Int64) (p : Nat) : (a ||| b).toBitVec.getLsbD p = (a.toBitVec.getLsbD p || b.toBitVec.getLsbD p) := by
  rw [Int64.toBitVec_or, BitVec.getLsbD_or]
theorem zk_tb4 : ∀ o i, o < 4 → 2 ≤ i → Nat.testBit o i = false := by
  intro o i ho hi
  refine Nat.testBit_lt_two_pow (Nat.lt_of_lt_of_le ho ?_)
  show 2 ^ 2 ≤ 2 ^ i
  exact Nat.pow_le_pow_right (by omega) hi
theorem zk_4pow {d : Nat} (hd : d < 16) : (1 : Int32) <<< (nI (2 * d) &&& 31) = nI (4 ^ d) := by
  have h : ∀ d, d < 16 → (1 : Int32) <<< (nI (2 * d) &&& 31) = nI (4 ^ d) := by decide
  exact h d hd
theorem zk_ab_dg {H : Nat → Bool} {ow : Nat → Nat} {q : Nat} (hq : q < 32) (ho : H q = true → ow q < 4) : zt_val 4 (fun d => zc_ab (zt_dg H ow d) q) 16 = zt_val 4 (fun d => zc_ab (zt_dg H ow d) (q + 1)) 16 + (if H q = true then 4 ^ (4 * (q / 8) + ow q) else 0) := by
  by_cases c : H q = true
  · rw [if_pos c]
    have := ho c
    refine zt_val_add (fun d _ => ?_) (by omega)
    show zc_ab (zt_dg H ow d) q = _
    rw [zc_ab_s _ hq]
    congr 1
    unfold zt_dg
    by_cases e : d = 4 * (q / 8) + ow q
    · rw [if_pos e, if_pos]; rw [c, e]; simp
    · rw [if_neg e, if_neg]; rw [c]; simp; exact fun z => e z.symm
  · rw [if_neg c, Nat.add_zero]
    refine zt_val_congr (fun d _ => ?_)
    rw [zc_ab_s _ hq, if_neg]
    · rfl
    · unfold zt_dg; simp [c]
section
variable {f_handSize f_dealtSet f_dealt f_count f_toAct f_trumpSuit f_started f_verdict f_relevant : Int32} {a_hands a_owner a_line a_won a_goal a_todo a_seen a_keyLengths a_classWord a_classLengths a_nextSlot : Nat → Int32} {a_keyOwners a_classMask a_classOwners : Nat → Int64}
variable {dl : Nat → Bool} {ow : Nat → Nat} {T ld D : Nat} {pl : List Nat}
theorem zk_held (st : zp_st dl ow T ld D) (G : zx_G dl ow T pl a_hands a_owner a_line a_won) : ∀ c, c < 32 → bt ((((a_hands 0) ||| (a_hands 1)) ||| (a_hands 2)) ||| (a_hands 3)) c = zp_H dl pl c := by
  intro c hc
  rw [b_or, b_or, b_or, G.1 0 c (by omega) hc, G.1 1 c (by omega) hc, G.1 2 c (by omega) hc, G.1 3 c (by omega) hc]
  cases e : zp_H dl pl c with
  | false => rfl
  | true =>
    have h := (st.1 c (zp_H_dl e)).2
    have h4 : ow c = 0 ∨ ow c = 1 ∨ ow c = 2 ∨ ow c = 3 := by omega
    rcases h4 with e | e | e | e <;> rw [e] <;> rfl
def zk_OI (H : Nat → Bool) (ow : Nat → Nat) (m : Nat) (x2 : Int32) (x3 : Int64) (x5 : Int32) : Prop :=
  x2 = nI (zt_val 4 (fun d => zc_ab (zt_dg H ow d) m) 16) ∧
  (∀ x, m ≤ x → x < 32 → H x = true → ∀ b, b < 2 → x3.toBitVec.getLsbD (16 * (x / 8) + 2 * zt_rk H x + b) = (ow x).testBit b) ∧
  (∀ q, m = q + 1 → ∀ p, (p < 16 * (q / 8) ∨ (16 * (q / 8) + 2 * zt_rk H q ≤ p ∧ p < 16 * (q / 8) + 16)) → x3.toBitVec.getLsbD p = false) ∧
  (∀ q, m = q + 1 → q % 8 ≠ 7 → x5 = nI (16 * (q / 8) + 2 * zt_rk H q))
/-- what is free behind card q is free behind the next -/
theorem zk_free {H : Nat → Bool} {q q' p : Nat} (hq : q < 32) (e : q = q' + 1) (h : p < 16 * (q' / 8) ∨ (16 * (q' / 8) + 2 * zt_rk H q' ≤ p ∧ p < 16 * (q' / 8) + 16)) : p < 16 * (q / 8) ∨ (16 * (q / 8) + 2 * zt_rk H q + (if H q = true then 2 else 0) ≤ p ∧ p < 16 * (q / 8) + 16) := by
  by_cases c : q' % 8 = 7
  · exact Or.inl (by omega)
  · have h1 := zk_rk_s (H := H) (q := q') (by omega) c
    rw [← e] at h1
    have e8 : q / 8 = q' / 8 := by omega
    rw [e8]
    rcases h with h | h
    · exact Or.inl h
    · refine Or.inr ⟨?_, h.2⟩
      split at h1 <;> rename_i hh
      · rw [if_pos hh]; omega
      · rw [if_neg hh]; omega
theorem zk_place {H : Nat → Bool} {q q' : Nat} (hq : q < 32) (e : q = q' + 1) (c : q' % 8 ≠ 7) : 16 * (q' / 8) + 2 * zt_rk H q' = 16 * (q / 8) + 2 * zt_rk H q + (if H q = true then 2 else 0) := by
  have h1 := zk_rk_s (H := H) (q := q') (by omega) c
  rw [← e] at h1
  have e8 : q / 8 = q' / 8 := by omega
  rw [e8, h1]
  split <;> omega
theorem zk_desc {post : SX → Prop} {H : Nat → Bool} {ow : Nat → Nat} {n : Nat} {x1 : Int32} (hn : n ≤ 16) (hx1 : ∀ c, c < 32 → bt x1 c = H c) (hown : ∀ c, c < 32 → H c = true → a_owner c = nI (ow c) ∧ ow c < 4)
    (h : ∀ L O, zt_isL L ow H → zt_isO O ow H → post (f_handSize, f_dealtSet, f_dealt, nI n, f_toAct, f_trumpSuit, f_started, f_verdict, f_relevant, a_hands, a_owner, a_line, a_won, a_goal, a_todo, a_seen, upd a_keyLengths n L, vp_updL a_keyOwners n O, a_classWord, a_classLengths, a_classMask, a_classOwners, a_nextSlot)) :
    ∀ (m : Nat) (x2 : Int32) (x3 : Int64) (x5 : Int32), m ≤ 32 → zk_OI H ow m x2 x3 x5 → wX_describe_16 post x1 f_handSize f_dealtSet f_dealt (nI n) f_toAct f_trumpSuit f_started f_verdict f_relevant a_hands a_owner a_line a_won a_goal a_todo a_seen a_keyLengths a_keyOwners a_classWord a_classLengths a_classMask a_classOwners a_nextSlot (m + 1) x2 x3 x5 (nI m + (-1)) := by
  intro m
  induction m with
  | zero =>
    intro x2 x3 x5 _ I
    obtain ⟨i1, i2, _, _⟩ := I
    refine br_t (by decide) ⟨vp_in_nI (by omega) (by omega), nm_r (e' := upd a_keyLengths n x2) (by rw [nI_clamp (by omega)]) ⟨vp_in_nI (by omega) (by omega), nm_r (e' := vp_updL a_keyOwners n x3) (by rw [nI_clamp (by omega)]) ?_⟩⟩
    exact h x2 x3 i1 (fun x hx Hx b hb => i2 x (Nat.zero_le _) hx Hx b hb)
  | succ q ih =>
    intro x2 x3 x5 hm I
    obtain ⟨i1, i2, i3, i4⟩ := I
    rw [pk_m1]
    have hr7 := zk_rk7 (H := H) (q := q) (by omega)
    have e8 : nI q / 8 = nI (q / 8) := pk_div (d := 8) (by omega) (by omega) (by omega)
    have key : ∀ x5, x5 = nI (16 * (q / 8) + 2 * zt_rk H q) → wX_describe_41 post (wX_describe_16 post x1 f_handSize f_dealtSet f_dealt (nI n) f_toAct f_trumpSuit f_started f_verdict f_relevant a_hands a_owner a_line a_won a_goal a_todo a_seen a_keyLengths a_keyOwners a_classWord a_classLengths a_classMask a_classOwners a_nextSlot (q + 1)) x1 x2 x3 x5 (nI q) f_handSize f_dealtSet f_dealt (nI n) f_toAct f_trumpSuit f_started f_verdict f_relevant a_hands a_owner a_line a_won a_goal a_todo a_seen a_keyLengths a_keyOwners a_classWord a_classLengths a_classMask a_classOwners a_nextSlot := by
      intro x5 e5
      unfold wX_describe_41
      refine zx_has _ x1 (by omega) ?_
      rw [hx1 q (by omega)]
      by_cases c : H q = true
      · obtain ⟨ho1, ho2⟩ := hown q (by omega) c
        rw [c]
        have ed : (2 : Int32) * (nI (q / 8) * 4 + nI (ow q)) = nI (2 * (4 * (q / 8) + ow q)) := by
          have e1 : nI (q / 8) * 4 = nI (q / 8 * 4) := pk_mul _ 4
          rw [e1, nI_add]
          have e2 := pk_mul 2 (q / 8 * 4 + ow q)
          have e3 : q / 8 * 4 + ow q = 4 * (q / 8) + ow q := by omega
          rw [e3] at e2 ⊢
          exact e2
        have eo : a_owner (nI q).toNatClampNeg = nI (ow q) := by rw [nI_clamp (by omega)]; exact ho1
        refine br_f (by decide) ⟨vp_in_nI (by omega) (by omega), nm_r eo ⟨by decide, nm_r (e' := nI (zt_val 4 (fun d => zc_ab (zt_dg H ow d) q) 16)) ?_ (nm_e (nm_r (e' := nI (16 * (q / 8) + 2 * zt_rk H q + 2)) ?_ (nm_e ?_)))⟩⟩
        · rw [e8, ed, zk_4pow (by omega), i1, nI_add, zk_ab_dg (by omega) (fun _ => ho2), if_pos c]
        · rw [e5]; exact nI_add _ 2
        · refine ih _ _ _ (by omega) ⟨rfl, fun x hx1' hx2 Hx b hb => ?_, fun q' e p hp => ?_, fun q' e hq' => ?_⟩
          · have hxr := zk_rk7 (H := H) (q := x) hx2
            rw [zk_or, e5, nI_l (by omega), zk_shl (by omega) (by omega)]
            by_cases ex : x = q
            · rw [ex, i3 q rfl _ (Or.inr ⟨by omega, by omega⟩), Bool.false_or, decide_eq_true (by omega), Bool.true_and]
              congr 1
              omega
            · rw [i2 x (by omega) hx2 Hx b hb]
              have hz : (decide (16 * (q / 8) + 2 * zt_rk H q ≤ 16 * (x / 8) + 2 * zt_rk H x + b) && Nat.testBit (ow q) (16 * (x / 8) + 2 * zt_rk H x + b - (16 * (q / 8) + 2 * zt_rk H q))) = false := by
                by_cases es : x / 8 = q / 8
                · have := zk_rk_lt hx2 Hx (by omega : q < x) es
                  rw [decide_eq_false (by omega), Bool.false_and]
                · rw [zk_tb4 _ _ ho2 (by omega), Bool.and_false]
              rw [hz, Bool.or_false]
          · have hf := zk_free (H := H) (by omega) e hp
            rw [if_pos c] at hf
            have hp64 : p < 64 := by omega
            rw [zk_or, e5, nI_l (by omega), zk_shl (by omega) hp64]
            rw [i3 q rfl p (by omega), Bool.false_or]
            rcases hf with hf | hf
            · rw [decide_eq_false (by omega), Bool.false_and]
            · rw [zk_tb4 _ _ ho2 (by omega), Bool.and_false]
          · rw [zk_place (H := H) (by omega) e hq', if_pos c]
      · have c2 : H q = false := by simpa using c
        rw [c2]
        refine br_t rfl (nm_e ?_)
        refine ih _ _ _ (by omega) ⟨?_, fun x hx1' hx2 Hx b hb => ?_, fun q' e p hp => ?_, fun q' e hq' => ?_⟩
        · rw [i1, zk_ab_dg (by omega) (fun z => absurd z c), if_neg c]
          exact congrArg nI (Nat.add_zero _).symm
        · by_cases ex : x = q
          · rw [ex] at Hx; exact absurd Hx c
          · exact i2 x (by omega) hx2 Hx b hb
        · have hf := zk_free (H := H) (by omega) e hp
          rw [if_neg c] at hf
          exact i3 q rfl p hf
        · rw [zk_place (H := H) (by omega) e hq', if_neg c]; exact e5
    refine br_f (nI_pos (by omega)) ⟨by decide, ?_⟩
    rw [zx_rem8 (by omega)]
    refine pk_eq (q % 8) 7 (fun e => ?_) (fun e => ?_)
    · refine ⟨by decide, nm_e (key _ ?_)⟩
      rw [zk_rk_7 (by omega) e, e8]
      have := pk_mul (q / 8) 16
      rw [Nat.mul_comm] at this
      exact this
    · exact key _ (i4 q rfl e)
theorem zk_describe {post : SX → Prop} (st : zp_st dl ow T ld D) (ok : zp_ok dl ow T ld pl) (G : zx_G dl ow T pl a_hands a_owner a_line a_won)
    (h : ∀ L O, zt_isL L ow (zp_H dl pl) → zt_isO O ow (zp_H dl pl) → post (f_handSize, f_dealtSet, nI D, nI pl.length, nI (zp_a ow T ld pl), nI T, f_started, f_verdict, f_relevant, a_hands, a_owner, a_line, a_won, a_goal, a_todo, a_seen, upd a_keyLengths pl.length L, vp_updL a_keyOwners pl.length O, a_classWord, a_classLengths, a_classMask, a_classOwners, a_nextSlot)) : wpX_describe post (f_handSize, f_dealtSet, nI D, nI pl.length, nI (zp_a ow T ld pl), nI T, f_started, f_verdict, f_relevant, a_hands, a_owner, a_line, a_won, a_goal, a_todo, a_seen, a_keyLengths, a_keyOwners, a_classWord, a_classLengths, a_classMask, a_classOwners, a_nextSlot) := by
  have hn := zp_le st ok
  have hD := st.2.2.2.1
  unfold wpX_describe
  unfold wpX_held
  refine ⟨33, zk_desc (H := zp_H dl pl) (ow := ow) (by omega) (zk_held st G) (fun c _ Hc => ⟨G.2.1 c (zp_H_dl Hc), (st.1 c (zp_H_dl Hc)).2⟩) h 32 0 0 0 (Nat.le_refl _) ⟨?_, fun x h1 h2 => absurd h2 (by omega), fun q _ p _ => ?_, fun q e hq => absurd hq (by omega)⟩⟩
  · rw [zt_val_0 (fun d _ => zc_ab_32 _)]; rfl
  · show (0 : Int64).toBitVec.getLsbD p = false
    simp
/-! topCards -/
theorem zk_top {post : Int32 → Prop} {H : Nat → Bool} {x1 : Int64} {x3 : Int32} (hx3 : ∀ c, c < 32 → bt x3 c = H c) (h : ∀ S, zt_isT S x1 H → post S) :
    ∀ (m : Nat) (x4 : Int32) (x5 : Int32), m ≤ 32 → (∀ x, x < 32 → bt x4 x = (decide (m ≤ x) && (H x && x1.toBitVec.getLsbD (16 * (x / 8) + 2 * zt_rk H x)))) → (∀ q, m = q + 1 → q % 8 ≠ 7 → x5 = nI (16 * (q / 8) + 2 * zt_rk H q)) → wX_topCards_15 post x1 x3 f_handSize f_dealtSet f_dealt f_count f_toAct f_trumpSuit f_started f_verdict f_relevant a_hands a_owner a_line a_won a_goal a_todo a_seen a_keyLengths a_keyOwners a_classWord a_classLengths a_classMask a_classOwners a_nextSlot (m + 1) x4 x5 (nI m + (-1)) := by
  intro m
  induction m with
  | zero =>
    intro x4 x5 _ i1 _
    refine br_t (by decide) (h x4 (fun x hx => ?_))
    rw [i1 x hx, decide_eq_true (Nat.zero_le _), Bool.true_and]
  | succ q ih =>
    intro x4 x5 hm i1 i4
    rw [pk_m1]
    have hr7 := zk_rk7 (H := H) (q := q) (by omega)
    have e8 : nI q / 8 = nI (q / 8) := pk_div (d := 8) (by omega) (by omega) (by omega)
    have key : ∀ x5, x5 = nI (16 * (q / 8) + 2 * zt_rk H q) → wX_topCards_40 post (wX_topCards_15 post x1 x3 f_handSize f_dealtSet f_dealt f_count f_toAct f_trumpSuit f_started f_verdict f_relevant a_hands a_owner a_line a_won a_goal a_todo a_seen a_keyLengths a_keyOwners a_classWord a_classLengths a_classMask a_classOwners a_nextSlot (q + 1)) x1 x3 x4 x5 (nI q) f_handSize f_dealtSet f_dealt f_count f_toAct f_trumpSuit f_started f_verdict f_relevant a_hands a_owner a_line a_won a_goal a_todo a_seen a_keyLengths a_keyOwners a_classWord a_classLengths a_classMask a_classOwners a_nextSlot := by
      intro x5 e5
      unfold wX_topCards_40
      refine zx_has _ x3 (by omega) ?_
      rw [hx3 q (by omega)]
      by_cases c : H q = true
      · rw [c]
        refine br_f (by decide) ?_
        have hb : (((x1.toUInt64 >>> (x5.toInt64.toUInt64 &&& Int64.toUInt64 63)).toInt64) &&& 1) = 0 ↔ x1.toBitVec.getLsbD (16 * (q / 8) + 2 * zt_rk H q) = false := by
          refine ts_bit (by omega) ?_
          rw [e5, wb_cu _ (by omega)]
          exact u_tn (by omega)
        have e6 : nI (16 * (q / 8) + 2 * zt_rk H q) + 2 = nI (16 * (q / 8) + 2 * zt_rk H q + 2) := nI_add _ 2
        have hpl : ∀ q', q = q' + 1 → q' % 8 ≠ 7 → nI (16 * (q / 8) + 2 * zt_rk H q + 2) = nI (16 * (q' / 8) + 2 * zt_rk H q') := by
          intro q' e hq'
          rw [zk_place (H := H) (by omega) e hq', if_pos c]
        rw [e5, e6]
        rw [e5] at hb
        by_cases z : x1.toBitVec.getLsbD (16 * (q / 8) + 2 * zt_rk H q) = false
        · refine br_t (hb.mpr z) (nm_e (nm_e (nm_e (ih _ _ (by omega) (fun x hx => ?_) hpl))))
          rw [b_or, b_0, Bool.or_false, i1 x hx]
          by_cases ex : x = q
          · rw [ex, decide_eq_false (by omega), decide_eq_true (Nat.le_refl _), z]; simp
          · by_cases e9 : q + 1 ≤ x
            · rw [decide_eq_true e9, decide_eq_true (by omega)]
            · rw [decide_eq_false e9, decide_eq_false (by omega)]
        · refine br_f (fun w => z (hb.mp w)) (nm_e (nm_e (nm_e (ih _ _ (by omega) (fun x hx => ?_) hpl))))
          have z2 : x1.toBitVec.getLsbD (16 * (q / 8) + 2 * zt_rk H q) = true := by simpa using z
          rw [b_or, zx_one (by omega) hx, i1 x hx]
          by_cases ex : x = q
          · rw [ex, z2, c]; simp
          · by_cases e9 : q + 1 ≤ x
            · rw [decide_eq_true e9, decide_eq_true (by omega : q ≤ x), decide_eq_false ex, Bool.or_false]
            · rw [decide_eq_false e9, decide_eq_false (by omega : ¬ q ≤ x), decide_eq_false ex]; rfl
      · have c2 : H q = false := by simpa using c
        rw [c2]
        refine br_t rfl (nm_e (ih _ _ (by omega) (fun x hx => ?_) (fun q' e hq' => ?_)))
        · rw [i1 x hx]
          by_cases ex : x = q
          · rw [ex, c2]; simp
          · by_cases e9 : q + 1 ≤ x
            · rw [decide_eq_true e9, decide_eq_true (by omega)]
            · rw [decide_eq_false e9, decide_eq_false (by omega)]
        · rw [zk_place (H := H) (by omega) e hq', if_neg c]; exact e5
    refine br_f (nI_pos (by omega)) ⟨by decide, ?_⟩
    rw [zx_rem8 (by omega)]
    refine pk_eq (q % 8) 7 (fun e => ?_) (fun e => ?_)
    · refine ⟨by decide, nm_e (key _ ?_)⟩
      rw [zk_rk_7 (by omega) e, e8]
      have := pk_mul (q / 8) 16
      rw [Nat.mul_comm] at this
      exact this
    · exact key _ (i4 q rfl e)
theorem zk_topCards {post : Int32 → Prop} (st : zp_st dl ow T ld D) (G : zx_G dl ow T pl a_hands a_owner a_line a_won) (m : Int64) (h : ∀ S, zt_isT S m (zp_H dl pl) → post S) : wpX_topCards post (f_handSize, f_dealtSet, f_dealt, f_count, f_toAct, f_trumpSuit, f_started, f_verdict, f_relevant, a_hands, a_owner, a_line, a_won, a_goal, a_todo, a_seen, a_keyLengths, a_keyOwners, a_classWord, a_classLengths, a_classMask, a_classOwners, a_nextSlot) m := by
  unfold wpX_topCards
  unfold wpX_held
  refine ⟨33, zk_top (H := zp_H dl pl) (zk_held st G) h 32 0 0 (Nat.le_refl _) (fun x hx => ?_) (fun q e hq => absurd hq (by omega))⟩
  rw [b_0, decide_eq_false (by omega), Bool.false_and]
/-! maskOfRelevant -/
theorem zk_mask {post : Int64 → Prop} {HH : Nat → Bool} {x1 x2 : Int32} (hx : ∀ c, c < 32 → bt (x2 &&& x1) c = HH c) (h : ∀ M : Int64, (∀ x, x < 32 → HH x = true → ∀ b, b < 2 → M.toBitVec.getLsbD (16 * (x / 8) + 2 * zt_rk HH x + b) = true) → post M) :
    ∀ (m : Nat) (x3 : Int64) (x5 : Int32), m ≤ 32 → (∀ x, m ≤ x → x < 32 → HH x = true → ∀ b, b < 2 → x3.toBitVec.getLsbD (16 * (x / 8) + 2 * zt_rk HH x + b) = true) → (∀ q, m = q + 1 → q % 8 ≠ 7 → x5 = nI (16 * (q / 8) + 2 * zt_rk HH q)) → wX_maskOfRelevant_46 post x1 x2 f_handSize f_dealtSet f_dealt f_count f_toAct f_trumpSuit f_started f_verdict f_relevant a_hands a_owner a_line a_won a_goal a_todo a_seen a_keyLengths a_keyOwners a_classWord a_classLengths a_classMask a_classOwners a_nextSlot (m + 1) x3 x5 (nI m + (-1)) := by
  intro m
  induction m with
  | zero =>
    intro x3 x5 _ i1 _
    exact br_t (by decide) (h x3 (fun x hx => i1 x (Nat.zero_le _) hx))
  | succ q ih =>
    intro x3 x5 hm i1 i4
    rw [pk_m1]
    have hr7 := zk_rk7 (H := HH) (q := q) (by omega)
    have e8 : nI q / 8 = nI (q / 8) := pk_div (d := 8) (by omega) (by omega) (by omega)
    have key : ∀ x5, x5 = nI (16 * (q / 8) + 2 * zt_rk HH q) → wX_maskOfRelevant_71 post (wX_maskOfRelevant_46 post x1 x2 f_handSize f_dealtSet f_dealt f_count f_toAct f_trumpSuit f_started f_verdict f_relevant a_hands a_owner a_line a_won a_goal a_todo a_seen a_keyLengths a_keyOwners a_classWord a_classLengths a_classMask a_classOwners a_nextSlot (q + 1)) x1 x2 x3 x5 (nI q) f_handSize f_dealtSet f_dealt f_count f_toAct f_trumpSuit f_started f_verdict f_relevant a_hands a_owner a_line a_won a_goal a_todo a_seen a_keyLengths a_keyOwners a_classWord a_classLengths a_classMask a_classOwners a_nextSlot := by
      intro x5 e5
      unfold wX_maskOfRelevant_71
      refine zx_has _ (x2 &&& x1) (by omega) ?_
      rw [hx q (by omega)]
      by_cases c : HH q = true
      · rw [c]
        have e6 : nI (16 * (q / 8) + 2 * zt_rk HH q) + 2 = nI (16 * (q / 8) + 2 * zt_rk HH q + 2) := nI_add _ 2
        rw [e5, e6]
        refine br_f (by decide) (nm_e (nm_e (nm_e (ih _ _ (by omega) (fun x hx1 hx2 Hx b hb => ?_) (fun q' e hq' => ?_)))))
        · have hxr := zk_rk7 (H := HH) (q := x) hx2
          have e3 : (3 : Int64) = lN 3 := rfl
          rw [zk_or, e3, zk_shl (by omega) (by omega)]
          by_cases ex : x = q
          · rw [ex, decide_eq_true (by omega), Bool.true_and]
            have e9 : 16 * (q / 8) + 2 * zt_rk HH q + b - (16 * (q / 8) + 2 * zt_rk HH q) = b := by omega
            rw [e9]
            have hb2 : b = 0 ∨ b = 1 := by omega
            have e10 : Nat.testBit 3 b = true := by rcases hb2 with e | e <;> rw [e] <;> decide
            rw [e10, Bool.or_true]
          · rw [i1 x (by omega) hx2 Hx b hb, Bool.true_or]
        · rw [zk_place (H := HH) (by omega) e hq', if_pos c]
      · have c2 : HH q = false := by simpa using c
        rw [c2]
        refine br_t rfl (nm_e (ih _ _ (by omega) (fun x hx1 hx2 Hx b hb => ?_) (fun q' e hq' => ?_)))
        · by_cases ex : x = q
          · rw [ex] at Hx; exact absurd Hx c
          · exact i1 x (by omega) hx2 Hx b hb
        · rw [zk_place (H := HH) (by omega) e hq', if_neg c]; exact e5
    refine br_f (nI_pos (by omega)) ⟨by decide, ?_⟩
    rw [zx_rem8 (by omega)]
    refine pk_eq (q % 8) 7 (fun e => ?_) (fun e => ?_)
    · refine ⟨by decide, nm_e (key _ ?_)⟩
      rw [zk_rk_7 (by omega) e, e8]
      have := pk_mul (q / 8) 16
      rw [Nat.mul_comm] at this
      exact this
    · exact key _ (i4 q rfl e)
end
end
section
/-! ===== X: the table ===== -/
theorem zk_c1 : ∀ i, i < 32 → bt (-16843010) i = decide (1 ≤ i % 8) := by decide
theorem zk_c2 : ∀ i, i < 32 → bt (-50529028) i = decide (2 ≤ i % 8) := by decide
theorem zk_c4 : ∀ i, i < 32 → bt (-252645136) i = decide (4 ≤ i % 8) := by decide
theorem zk_fill {x M : Int32} {s : Nat} (hs : s < 8) (hM : ∀ i, i < 32 → bt M i = decide (s ≤ i % 8)) {i : Nat} (hi : i < 32) : bt (x ||| ((x <<< (nI s &&& 31)) &&& M)) i = true ↔ (bt x i = true ∨ (s ≤ i % 8 ∧ bt x (i - s) = true)) := by
  rw [b_or, b_and, b_shl s (by omega) x hi, hM i hi, Bool.or_eq_true, Bool.and_eq_true, Bool.and_eq_true, decide_eq_true_iff, decide_eq_true_iff]
  constructor
  · rintro (h | ⟨⟨_, h⟩, h2⟩)
    · exact Or.inl h
    · exact Or.inr ⟨h2, h⟩
  · rintro (h | ⟨h, h2⟩)
    · exact Or.inl h
    · exact Or.inr ⟨⟨by omega, h2⟩, h⟩
theorem zk_high {R x1 x2 x3 : Int32} (e1 : x1 = R ||| ((R <<< ((1 : Int32) &&& 31)) &&& (-16843010))) (e2 : x2 = x1 ||| ((x1 <<< ((2 : Int32) &&& 31)) &&& (-50529028))) (e3 : x3 = x2 ||| ((x2 <<< ((4 : Int32) &&& 31)) &&& (-252645136))) {i : Nat} (hi : i < 32) : bt x3 i = true ↔ zi_tp (bt R) i := by
  have f1 : ∀ i, i < 32 → (bt x1 i = true ↔ (bt R i = true ∨ (1 ≤ i % 8 ∧ bt R (i - 1) = true))) := fun i hi => by rw [e1]; exact zk_fill (s := 1) (by omega) zk_c1 hi
  have f2 : ∀ i, i < 32 → (bt x2 i = true ↔ (bt x1 i = true ∨ (2 ≤ i % 8 ∧ bt x1 (i - 2) = true))) := fun i hi => by rw [e2]; exact zk_fill (s := 2) (by omega) zk_c2 hi
  have f3 : ∀ i, i < 32 → (bt x3 i = true ↔ (bt x2 i = true ∨ (4 ≤ i % 8 ∧ bt x2 (i - 4) = true))) := fun i hi => by rw [e3]; exact zk_fill (s := 4) (by omega) zk_c4 hi
  constructor
  · have g1 : ∀ i, i < 32 → bt x1 i = true → zi_tp (bt R) i := by
      intro i hi h
      rcases (f1 i hi).mp h with h | ⟨h1, h2⟩
      · exact ⟨i, hi, h, rfl, Nat.le_refl _⟩
      · exact ⟨i - 1, by omega, h2, by omega, by omega⟩
    have g2 : ∀ i, i < 32 → bt x2 i = true → zi_tp (bt R) i := by
      intro i hi h
      rcases (f2 i hi).mp h with h | ⟨h1, h2⟩
      · exact g1 i hi h
      · exact zi_tp_up (g1 (i - 2) (by omega) h2) (by omega) (by omega)
    intro h
    rcases (f3 i hi).mp h with h | ⟨h1, h2⟩
    · exact g2 i hi h
    · exact zi_tp_up (g2 (i - 4) (by omega) h2) (by omega) (by omega)
  · rintro ⟨q, q1, q2, q3, q4⟩
    have s1 : bt x1 (q + (i - q) % 2) = true := by
      refine (f1 _ (by omega)).mpr ?_
      by_cases c : (i - q) % 2 = 0
      · rw [c]; exact Or.inl q2
      · have c2 : (i - q) % 2 = 1 := by omega
        rw [c2]
        exact Or.inr ⟨by omega, q2⟩
    have s2 : bt x2 (q + (i - q) % 2 + 2 * ((i - q) / 2 % 2)) = true := by
      refine (f2 _ (by omega)).mpr ?_
      by_cases c : (i - q) / 2 % 2 = 0
      · rw [c]; exact Or.inl s1
      · have c2 : (i - q) / 2 % 2 = 1 := by omega
        rw [c2]
        exact Or.inr ⟨by omega, s1⟩
    refine (f3 i hi).mpr ?_
    by_cases c : (i - q) / 4 = 0
    · have e : q + (i - q) % 2 + 2 * ((i - q) / 2 % 2) = i := by omega
      rw [e] at s2
      exact Or.inl s2
    · have e : q + (i - q) % 2 + 2 * ((i - q) / 2 % 2) = i - 4 := by omega
      rw [e] at s2
      exact Or.inr ⟨by omega, s2⟩
theorem zk_ctx : ∀ a, a < 4 → ∀ T, T < 5 → nI a ||| (nI T <<< ((2 : Int32) &&& 31)) = nI (a + 4 * T) := by decide
def zk_word (a T g0 : Nat) (v : Bool) : Int32 := ((1 ||| (if v = true then 2 else 0)) ||| (nI g0 <<< ((2 : Int32) &&& 31))) ||| (nI (a + 4 * T) <<< ((4 : Int32) &&& 31))
theorem zk_w1 : ∀ a, a < 4 → ∀ T, T < 5 → ∀ g, g < 4 → ∀ v : Bool, ¬ (zk_word a T g v &&& 1) = 0 := by decide +kernel
theorem zk_w4 : ∀ a, a < 4 → ∀ T, T < 5 → ∀ g, g < 4 → ∀ v : Bool, ((zk_word a T g v).toUInt32 >>> ((4 : Int32).toUInt32 &&& Int32.toUInt32 31)).toInt32 = nI (a + 4 * T) := by decide +kernel
theorem zk_w2 : ∀ a, a < 4 → ∀ T, T < 5 → ∀ g, g < 4 → ∀ v : Bool, ((zk_word a T g v).toUInt32 >>> ((2 : Int32).toUInt32 &&& Int32.toUInt32 31)).toInt32 &&& 3 = nI g := by decide +kernel
theorem zk_wv : ∀ a, a < 4 → ∀ T, T < 5 → ∀ g, g < 4 → ((zk_word a T g false &&& 2) = 0 ∧ ¬ (zk_word a T g true &&& 2) = 0) := by decide +kernel
/-- every class kept is true -/
def zk_TT (cw cl : Nat → Int32) (cm co : Nat → Int64) : Prop := ∀ j, j < 4096 → cw j = 0 ∨ ∃ a T v g0, a < 4 ∧ T ≤ 4 ∧ 1 ≤ g0 ∧ g0 ≤ 3 ∧ cw j = zk_word a T g0 v ∧ zt_CT T a v g0 (cl j) (cm j) (co j)
def zk_NS (ns : Nat → Int32) : Prop := ∀ b, b < 512 → ∃ j, j < 8 ∧ ns b = nI j
theorem zk_t0 : ∀ {pl : List Nat}, pl.length % 4 = 0 → zp_t pl = fun _ => 0 := by
  intro pl h
  cases pl with
  | nil => rfl
  | cons c pl =>
    rw [List.length_cons] at h
    show zg_nt (pl.length % 4) (zp_t pl) c = _
    unfold zg_nt
    rw [if_pos (by omega)]
section
variable {f_handSize f_dealtSet f_dealt f_count f_toAct f_trumpSuit f_started f_verdict f_relevant : Int32} {a_hands a_owner a_line a_won a_goal a_todo a_seen a_keyLengths a_classWord a_classLengths a_nextSlot : Nat → Int32} {a_keyOwners a_classMask a_classOwners : Nat → Int64}
variable {dl : Nat → Bool} {ow : Nat → Nat} {T ld D : Nat} {pl : List Nat}
theorem zk_context {post : Int32 → Prop} (h : post (f_toAct ||| (f_trumpSuit <<< ((2 : Int32) &&& 31)))) : wpX_context post (f_handSize, f_dealtSet, f_dealt, f_count, f_toAct, f_trumpSuit, f_started, f_verdict, f_relevant, a_hands, a_owner, a_line, a_won, a_goal, a_todo, a_seen, a_keyLengths, a_keyOwners, a_classWord, a_classLengths, a_classMask, a_classOwners, a_nextSlot) := h
theorem zk_contextN {post : Int32 → Prop} {a : Nat} (ha : a < 4) (hT : T ≤ 4) (h : post (nI (a + 4 * T))) : wpX_context post (f_handSize, f_dealtSet, f_dealt, f_count, nI a, nI T, f_started, f_verdict, f_relevant, a_hands, a_owner, a_line, a_won, a_goal, a_todo, a_seen, a_keyLengths, a_keyOwners, a_classWord, a_classLengths, a_classMask, a_classOwners, a_nextSlot) := by
  refine zk_context ?_
  rw [zk_ctx a ha T (by omega)]
  exact h
theorem zk_maskOf {post : Int64 → Prop} {R : Int32} (st : zp_st dl ow T ld D) (G : zx_G dl ow T pl a_hands a_owner a_line a_won) (h : ∀ M, zt_isM M (zp_H dl pl) (bt R) → post M) : wpX_maskOfRelevant post (f_handSize, f_dealtSet, f_dealt, f_count, f_toAct, f_trumpSuit, f_started, f_verdict, R, a_hands, a_owner, a_line, a_won, a_goal, a_todo, a_seen, a_keyLengths, a_keyOwners, a_classWord, a_classLengths, a_classMask, a_classOwners, a_nextSlot) := by
  unfold wpX_maskOfRelevant
  intro x1 e1 x2 e2 x3 e3
  unfold wpX_held
  have hh := fun i hi => zk_high e1 e2 e3 (i := i) hi
  refine ⟨33, zk_mask (HH := fun c => zp_H dl pl c && bt x3 c) (fun c hc => ?_) (fun M hM => ?_) 32 0 0 (Nat.le_refl _) (fun x h1 h2 => absurd h2 (by omega)) (fun q e hq => absurd hq (by omega))⟩
  · rw [b_and, zk_held st G c hc]
  · refine h M (fun x hx Hx t b hb => ?_)
    have e : zt_rk (fun c => zp_H dl pl c && bt x3 c) x = zt_rk (zp_H dl pl) x := by
      refine zc_ab_congr (fun y h1 h2 => ?_)
      show ((zp_H dl pl y && bt x3 y) && decide (y / 8 = x / 8)) = (zp_H dl pl y && decide (y / 8 = x / 8))
      by_cases es : y / 8 = x / 8
      · have := (hh y h2).mpr (zi_tp_up t es.symm (by omega))
        rw [this, Bool.and_true]
      · rw [decide_eq_false es, Bool.and_false, Bool.and_false]
    rw [← e]
    refine hM x hx ?_ b hb
    show (zp_H dl pl x && bt x3 x) = true
    rw [Hx, (hh x hx).mpr t]; rfl
theorem zk_bucket {post : Int32 → Prop} {n a : Nat} (hn : n ≤ 16) (h : ∀ b, b < 512 → post (nI b)) : wpX_bucket post (f_handSize, f_dealtSet, f_dealt, nI n, f_toAct, f_trumpSuit, f_started, f_verdict, f_relevant, a_hands, a_owner, a_line, a_won, a_goal, a_todo, a_seen, a_keyLengths, a_keyOwners, a_classWord, a_classLengths, a_classMask, a_classOwners, a_nextSlot) := by
  unfold wpX_bucket
  refine ⟨vp_in_nI (by omega) (by omega), ?_⟩
  refine zk_context ?_
  generalize (a_keyLengths (nI n).toNatClampNeg ^^^ (f_toAct ||| (f_trumpSuit <<< ((2 : Int32) &&& 31)))) * (-1640531527) = z
  have h1 := pk_ushr z 23 23 (by decide)
  have h2 : z.toBitVec.toNat < 2 ^ 32 := z.toBitVec.isLt
  have h3 : z.toBitVec.toNat / 2 ^ 23 < 512 := by omega
  have h4 : (z.toUInt32 >>> ((23 : Int32).toUInt32 &&& Int32.toUInt32 31)).toInt32 = nI (z.toBitVec.toNat / 2 ^ 23) := by
    apply Int32.toBitVec_inj.mp
    apply BitVec.eq_of_toNat_eq
    rw [h1, pk_tn (by omega)]
  rw [h4]
  exact h _ h3
theorem zk_fits {post : Int32 → Prop} {n a j g : Nat} (hn : n ≤ 16) (ha : a < 4) (hT : T ≤ 4) (hj : j < 4096) (hg : a_goal n = nI g) (g3 : g ≤ 3) (tt : zk_TT a_classWord a_classLengths a_classMask a_classOwners) (h0 : post 0)
    (h1 : ∀ v g0, ((a_classWord j &&& 2) = 0 ↔ v = false) → zt_CT T a v g0 (a_classLengths j) (a_classMask j) (a_classOwners j) → a_keyLengths n = a_classLengths j → (a_keyOwners n &&& a_classMask j) = a_classOwners j → (v = true → (g : Int) ≤ (g0 : Int)) → (v = false → (g0 : Int) ≤ (g : Int)) → post 1) :
    wpX_fits post (f_handSize, f_dealtSet, f_dealt, nI n, nI a, nI T, f_started, f_verdict, f_relevant, a_hands, a_owner, a_line, a_won, a_goal, a_todo, a_seen, a_keyLengths, a_keyOwners, a_classWord, a_classLengths, a_classMask, a_classOwners, a_nextSlot) (nI j) := by
  unfold wpX_fits
  have cj : (nI j).toNatClampNeg = j := nI_clamp (by omega)
  have cn : (nI n).toNatClampNeg = n := nI_clamp (by omega)
  have vj : vp_in (nI j) 4096 := vp_in_nI hj (by omega)
  have vn : vp_in (nI n) 17 := vp_in_nI (by omega) (by omega)
  refine ⟨vj, nm_r (e' := a_classWord j) (by rw [cj]) ?_⟩
  rcases tt j hj with z | ⟨a', T', v, g0, a1, a2, a3, a4, a5, a6⟩
  · rw [z]; exact br_t (by decide) h0
  · rw [a5]
    refine br_f (zk_w1 a' a1 T' (by omega) g0 (by omega) v) ?_
    refine zk_contextN ha hT ?_
    rw [zk_w4 a' a1 T' (by omega) g0 (by omega) v]
    refine pk_eq (a' + 4 * T') (a + 4 * T) (fun e => ?_) (fun _ => h0)
    have ea : a' = a := by omega
    have eT : T' = T := by omega
    subst ea eT
    rw [cj, cn]
    refine ⟨vj, vn, br_c (fun eL => ⟨vn, vj, vj, br_c (fun eO => ?_) (fun _ => h0)⟩) (fun _ => h0)⟩
    refine nm_r (zk_w2 a' ha T' (by omega) g0 (by omega) v) ?_
    rw [hg]
    have hv := zk_wv a' ha T' (by omega) g0 (by omega)
    cases v with
    | false =>
      refine br_t hv.1 ⟨vn, pk_lt g g0 (fun _ => h0) (fun q => ?_)⟩
      refine h1 false g0 ?_ a6 eL.symm eO (fun z => absurd z (by decide)) (fun _ => by omega)
      rw [a5]; exact ⟨fun _ => rfl, fun _ => hv.1⟩
    | true =>
      refine br_f hv.2 ⟨vn, pk_lt g0 g (fun _ => h0) (fun q => ?_)⟩
      refine h1 true g0 ?_ a6 eL.symm eO (fun _ => by omega) (fun z => absurd z (by decide))
      rw [a5]; exact ⟨fun z => absurd z hv.2, fun z => absurd z (by decide)⟩
theorem zk_nb (v : Bool) : narrow .boolean (.int (zx_b v)) = .int (zx_b v) ∧ fits .boolean (.int (zx_b v)) = true := by
  cases v <;> exact ⟨rfl, rfl⟩
theorem zk_recLoop {post : Int32 → SX → Prop} {b g : Nat} (st : zp_st dl ow T ld D) (ok : zp_ok dl ow T ld pl) (G : zx_G dl ow T pl a_hands a_owner a_line a_won) (r0 : pl.length % 4 = 0) (k12 : D - pl.length ≤ 12) (hL : zt_isL (a_keyLengths pl.length) ow (zp_H dl pl)) (hO : zt_isO (a_keyOwners pl.length) ow (zp_H dl pl)) (tt : zk_TT a_classWord a_classLengths a_classMask a_classOwners) (hg : a_goal pl.length = nI g) (g3 : g ≤ 3) (hb : b < 512)
    (h0 : post 0 (f_handSize, f_dealtSet, nI D, nI pl.length, nI (zp_a ow T ld pl), nI T, f_started, f_verdict, f_relevant, a_hands, a_owner, a_line, a_won, a_goal, a_todo, a_seen, a_keyLengths, a_keyOwners, a_classWord, a_classLengths, a_classMask, a_classOwners, a_nextSlot)) (h1 : ∀ v S, zp_NI dl ow T ld D pl (g : Int) (v = true) (bt S) → post 1 (f_handSize, f_dealtSet, nI D, nI pl.length, nI (zp_a ow T ld pl), nI T, f_started, zx_b v, S, a_hands, a_owner, a_line, a_won, a_goal, a_todo, a_seen, a_keyLengths, a_keyOwners, a_classWord, a_classLengths, a_classMask, a_classOwners, a_nextSlot)) :
    ∀ d i, i + d = 8 → wX_recall_10 post (nI (8 * b)) f_handSize f_dealtSet (nI D) (nI pl.length) (nI (zp_a ow T ld pl)) (nI T) f_started f_verdict f_relevant a_hands a_owner a_line a_won a_goal a_todo a_seen a_keyLengths a_keyOwners a_classWord a_classLengths a_classMask a_classOwners a_nextSlot (d + 1) (nI (8 * b + i)) := by
  have hn := zp_le st ok
  have hD := st.2.2.2.1
  have ha := zp_a4 st.2.2.1 ok
  intro d
  induction d with
  | zero =>
    intro i hi
    have ei : i = 8 := by omega
    subst ei
    refine br_t ?_ h0
    have : nI (8 * b) + 8 = nI (8 * b + 8) := nI_add _ 8
    rw [this]
    exact Int32.le_refl _
  | succ d ih =>
    intro i hi
    have e8 : nI (8 * b) + 8 = nI (8 * b + 8) := nI_add _ 8
    refine br_f (by rw [e8]; exact nI_ge (by omega) (by omega)) ?_
    refine zk_fits (by omega) ha st.2.1 (by omega) hg g3 tt (br_t rfl (nm_r (nI_1 _) (ih (i + 1) (by omega)))) (fun v g0 hv ct eL eO q1 q2 => ?_)
    have cj : (nI (8 * b + i)).toNatClampNeg = 8 * b + i := nI_clamp (by omega)
    have key : ∀ v', zx_b v = v' → wX_recall_43 post (nI (8 * b + i)) v' f_handSize f_dealtSet (nI D) (nI pl.length) (nI (zp_a ow T ld pl)) (nI T) f_started f_verdict f_relevant a_hands a_owner a_line a_won a_goal a_todo a_seen a_keyLengths a_keyOwners a_classWord a_classLengths a_classMask a_classOwners a_nextSlot := by
      intro v' ev
      subst ev
      unfold wX_recall_43
      refine ⟨(zk_nb v).1, (zk_nb v).2, vp_in_nI (by omega) (by omega), ?_⟩
      rw [cj]
      refine zk_topCards st G _ (fun S hS => h1 v S ?_)
      have := ct ow (zp_H dl pl) _ _ S (zp_tok st ok r0 k12) hL hO hS eL eO (g : Int) q1 q2
      unfold zp_NI
      rw [r0, zk_t0 r0, ← zp_tot st ok]
      exact this
    refine br_f (by decide) ⟨vp_in_nI (by omega) (by omega), ?_⟩
    rw [cj]
    cases v with
    | false => exact br_t (hv.mpr rfl) (key 0 rfl)
    | true => exact br_f (fun z => absurd (hv.mp z) (by decide)) (key 1 rfl)
theorem zk_recall {post : Int32 → SX → Prop} {g : Nat} (st : zp_st dl ow T ld D) (ok : zp_ok dl ow T ld pl) (G : zx_G dl ow T pl a_hands a_owner a_line a_won) (r0 : pl.length % 4 = 0) (k12 : D - pl.length ≤ 12) (hL : zt_isL (a_keyLengths pl.length) ow (zp_H dl pl)) (hO : zt_isO (a_keyOwners pl.length) ow (zp_H dl pl)) (tt : zk_TT a_classWord a_classLengths a_classMask a_classOwners) (hg : a_goal pl.length = nI g) (g3 : g ≤ 3)
    (h0 : post 0 (f_handSize, f_dealtSet, nI D, nI pl.length, nI (zp_a ow T ld pl), nI T, f_started, f_verdict, f_relevant, a_hands, a_owner, a_line, a_won, a_goal, a_todo, a_seen, a_keyLengths, a_keyOwners, a_classWord, a_classLengths, a_classMask, a_classOwners, a_nextSlot)) (h1 : ∀ v S, zp_NI dl ow T ld D pl (g : Int) (v = true) (bt S) → post 1 (f_handSize, f_dealtSet, nI D, nI pl.length, nI (zp_a ow T ld pl), nI T, f_started, zx_b v, S, a_hands, a_owner, a_line, a_won, a_goal, a_todo, a_seen, a_keyLengths, a_keyOwners, a_classWord, a_classLengths, a_classMask, a_classOwners, a_nextSlot)) : wpX_recall post (f_handSize, f_dealtSet, nI D, nI pl.length, nI (zp_a ow T ld pl), nI T, f_started, f_verdict, f_relevant, a_hands, a_owner, a_line, a_won, a_goal, a_todo, a_seen, a_keyLengths, a_keyOwners, a_classWord, a_classLengths, a_classMask, a_classOwners, a_nextSlot) := by
  have hn := zp_le st ok
  have hD := st.2.2.2.1
  unfold wpX_recall
  refine zk_bucket (a := 0) (by omega) (fun b hb => ?_)
  have e8 : nI b * 8 = nI (8 * b) := by rw [Nat.mul_comm]; exact pk_mul b 8
  exact nm_r e8 ⟨9, zk_recLoop st ok G r0 k12 hL hO tt hg g3 hb h0 h1 8 0 rfl⟩
theorem zk_remember {post : SX → Prop} {g : Nat} {v : Bool} {R : Int32} (st : zp_st dl ow T ld D) (ok : zp_ok dl ow T ld pl) (G : zx_G dl ow T pl a_hands a_owner a_line a_won) (r0 : pl.length % 4 = 0) (k12 : D - pl.length ≤ 12) (hL : zt_isL (a_keyLengths pl.length) ow (zp_H dl pl)) (hO : zt_isO (a_keyOwners pl.length) ow (zp_H dl pl)) (tt : zk_TT a_classWord a_classLengths a_classMask a_classOwners) (ns : zk_NS a_nextSlot) (hg : a_goal pl.length = nI g) (g1 : 1 ≤ g) (g3 : g ≤ 3)
    (N : zp_NI dl ow T ld D pl (g : Int) (v = true) (bt R))
    (h : ∀ cw cl cm co ns', zk_TT cw cl cm co → zk_NS ns' → post (f_handSize, f_dealtSet, nI D, nI pl.length, nI (zp_a ow T ld pl), nI T, f_started, zx_b v, R, a_hands, a_owner, a_line, a_won, a_goal, a_todo, a_seen, a_keyLengths, a_keyOwners, cw, cl, cm, co, ns')) : wpX_remember post (f_handSize, f_dealtSet, nI D, nI pl.length, nI (zp_a ow T ld pl), nI T, f_started, zx_b v, R, a_hands, a_owner, a_line, a_won, a_goal, a_todo, a_seen, a_keyLengths, a_keyOwners, a_classWord, a_classLengths, a_classMask, a_classOwners, a_nextSlot) := by
  have hn := zp_le st ok
  have hD := st.2.2.2.1
  have ha := zp_a4 st.2.2.1 ok
  have hT := st.2.1
  unfold wpX_remember
  refine zk_bucket (a := 0) (by omega) (fun b hb => ?_)
  obtain ⟨j, hj, ej⟩ := ns b hb
  have cb : (nI b).toNatClampNeg = b := nI_clamp (by omega)
  have cn : (nI pl.length).toNatClampNeg = pl.length := nI_clamp (by omega)
  have vb : vp_in (nI b) 512 := vp_in_nI hb (by omega)
  have vn : vp_in (nI pl.length) 17 := vp_in_nI (by omega) (by omega)
  have e8 : nI b * 8 = nI (8 * b) := by rw [Nat.mul_comm]; exact pk_mul b 8
  have es : nI b * 8 + a_nextSlot (nI b).toNatClampNeg = nI (8 * b + j) := by rw [cb, ej, e8, nI_add]
  have vs : vp_in (nI (8 * b + j)) 4096 := vp_in_nI (by omega) (by omega)
  have cs : (nI (8 * b + j)).toNatClampNeg = 8 * b + j := nI_clamp (by omega)
  refine ⟨vb, nm_r es ⟨vb, by decide, vb, nm_r (e' := upd a_nextSlot b (nI ((j + 1) % 8))) ?_ ?_⟩⟩
  · rw [cb, ej, nI_1, zx_rem8 (by omega)]
  · have ns' : zk_NS (upd a_nextSlot b (nI ((j + 1) % 8))) := by
      intro b' hb'
      by_cases e : b' = b
      · rw [e]; exact ⟨(j + 1) % 8, by omega, pk_us⟩
      · rw [pk_un e]; exact ns b' hb'
    refine zk_maskOf st G (fun M hM => ?_)
    have key : ∀ z0 : Int32, z0 = (if v = true then 2 else 0) → wX_remember_57 post (nI (8 * b + j)) M z0 1 (nI (8 * b + j)) f_handSize f_dealtSet (nI D) (nI pl.length) (nI (zp_a ow T ld pl)) (nI T) f_started (zx_b v) R a_hands a_owner a_line a_won a_goal a_todo a_seen a_keyLengths a_keyOwners a_classWord a_classLengths a_classMask a_classOwners (upd a_nextSlot b (nI ((j + 1) % 8))) := by
      intro z0 ez
      unfold wX_remember_57
      refine ⟨vn, ?_⟩
      refine zk_contextN ha hT ?_
      rw [cs, cn]
      refine ⟨vs, nm_r (e' := upd a_classWord (8 * b + j) (zk_word (zp_a ow T ld pl) T g v)) ?_ ⟨vn, vs, nm_e ⟨vs, nm_e ⟨vn, vs, nm_e ?_⟩⟩⟩⟩
      · rw [hg, ez]; rfl
      · refine h _ _ _ _ _ (fun s hs => ?_) ns'
        by_cases e : s = 8 * b + j
        · refine Or.inr ⟨zp_a ow T ld pl, T, v, g, ha, hT, g1, g3, ?_, ?_⟩
          · rw [e]; exact pk_us
          · rw [e, pk_us, pk_uLs, pk_uLs]
            refine zt_mk ?_ (zp_tok st ok r0 k12) hL hO hM
            unfold zp_NI at N
            rw [r0, zk_t0 r0, ← zp_tot st ok] at N
            exact N
        · rw [pk_un e, pk_un e, pk_uLn e, pk_uLn e]
          exact tt s hs
    cases v with
    | false => exact br_t rfl (key 0 rfl)
    | true => exact br_f (by decide) (key 2 rfl)
end
end
section
/-! ===== X: settle, markWinner, inPlay, runAround ===== -/
section
variable {f_handSize f_dealtSet f_dealt f_count f_toAct f_trumpSuit f_started f_verdict f_relevant : Int32} {a_hands a_owner a_line a_won a_goal a_todo a_seen a_keyLengths a_classWord a_classLengths a_nextSlot : Nat → Int32} {a_keyOwners a_classMask a_classOwners : Nat → Int64}
variable {dl : Nat → Bool} {ow : Nat → Nat} {T ld D : Nat} {pl : List Nat}
theorem zs_left {post : Int32 → Prop} {n : Nat} (hn : n ≤ D) (hD : D ≤ 16) (h : post (nI ((D - n + 3) / 4))) : wpX_tricksLeft post (f_handSize, f_dealtSet, nI D, nI n, f_toAct, f_trumpSuit, f_started, f_verdict, f_relevant, a_hands, a_owner, a_line, a_won, a_goal, a_todo, a_seen, a_keyLengths, a_keyOwners, a_classWord, a_classLengths, a_classMask, a_classOwners, a_nextSlot) := by
  unfold wpX_tricksLeft
  refine ⟨by decide, ?_⟩
  have e1 : nI D - nI n = nI (D - n) := pk_sub hn
  have e2 : nI (D - n) + 3 = nI (D - n + 3) := nI_add _ 3
  have e3 : nI (D - n + 3) / 4 = nI ((D - n + 3) / 4) := pk_div (d := 4) (by omega) (by omega) (by omega)
  rw [e1, e2, e3]
  exact h
theorem zs_67 {post : Int32 → SX → Prop} (st : zp_st dl ow T ld D) (ok : zp_ok dl ow T ld pl) (G : zx_G dl ow T pl a_hands a_owner a_line a_won)
    (h : ∀ L, (∀ c, c < 32 → (bt L c = true ↔ zp_lg dl ow T ld pl c)) → post 0 (f_handSize, f_dealtSet, nI D, nI pl.length, nI (zp_a ow T ld pl), nI T, f_started, f_verdict, f_relevant, a_hands, a_owner, a_line, a_won, a_goal, upd a_todo pl.length L, upd a_seen pl.length 0, a_keyLengths, a_keyOwners, a_classWord, a_classLengths, a_classMask, a_classOwners, a_nextSlot)) : wX_settle_67 post f_handSize f_dealtSet (nI D) (nI pl.length) (nI (zp_a ow T ld pl)) (nI T) f_started f_verdict f_relevant a_hands a_owner a_line a_won a_goal a_todo a_seen a_keyLengths a_keyOwners a_classWord a_classLengths a_classMask a_classOwners a_nextSlot := by
  have hn := zp_le st ok
  have hD := st.2.2.2.1
  unfold wX_settle_67
  refine zx_legal st ok G (fun L hL => ?_)
  have vn : vp_in (nI pl.length) 17 := vp_in_nI (by omega) (by omega)
  have cn : (nI pl.length).toNatClampNeg = pl.length := nI_clamp (by omega)
  exact ⟨vn, nm_r (e' := upd a_todo pl.length L) (by rw [cn]) ⟨vn, nm_r (e' := upd a_seen pl.length 0) (by rw [cn]) (h L hL)⟩⟩
theorem zs_settle {post : Int32 → SX → Prop} {g : Int} (st : zp_st dl ow T ld D) (ok : zp_ok dl ow T ld pl) (G : zx_G dl ow T pl a_hands a_owner a_line a_won) (k12 : D - pl.length ≤ 12) (tt : zk_TT a_classWord a_classLengths a_classMask a_classOwners) (hg : (a_goal pl.length).toInt = g)
    (h1 : ∀ v R kl ko, zp_NI dl ow T ld D pl g (v = true) (bt R) → (∀ j, j ≠ pl.length → kl j = a_keyLengths j) → (∀ j, j ≠ pl.length → ko j = a_keyOwners j) → post 1 (f_handSize, f_dealtSet, nI D, nI pl.length, nI (zp_a ow T ld pl), nI T, f_started, zx_b v, R, a_hands, a_owner, a_line, a_won, a_goal, a_todo, a_seen, kl, ko, a_classWord, a_classLengths, a_classMask, a_classOwners, a_nextSlot))
    (h0 : ∀ (gN : Nat) L kl ko, g = (gN : Int) → a_goal pl.length = nI gN → 1 ≤ gN → gN ≤ 3 → gN ≤ (D - pl.length + 3) / 4 → pl.length < D → (∀ c, c < 32 → (bt L c = true ↔ zp_lg dl ow T ld pl c)) → (pl.length % 4 = 0 → zt_isL (kl pl.length) ow (zp_H dl pl) ∧ zt_isO (ko pl.length) ow (zp_H dl pl)) → (∀ j, j ≠ pl.length → kl j = a_keyLengths j) → (∀ j, j ≠ pl.length → ko j = a_keyOwners j) →
      post 0 (f_handSize, f_dealtSet, nI D, nI pl.length, nI (zp_a ow T ld pl), nI T, f_started, 0, 0, a_hands, a_owner, a_line, a_won, a_goal, upd a_todo pl.length L, upd a_seen pl.length 0, kl, ko, a_classWord, a_classLengths, a_classMask, a_classOwners, a_nextSlot)) : wpX_settle post (f_handSize, f_dealtSet, nI D, nI pl.length, nI (zp_a ow T ld pl), nI T, f_started, f_verdict, f_relevant, a_hands, a_owner, a_line, a_won, a_goal, a_todo, a_seen, a_keyLengths, a_keyOwners, a_classWord, a_classLengths, a_classMask, a_classOwners, a_nextSlot) := by
  have hn := zp_le st ok
  have hD := st.2.2.2.1
  have vn : vp_in (nI pl.length) 17 := vp_in_nI (by omega) (by omega)
  have cn : (nI pl.length).toNatClampNeg = pl.length := nI_clamp (by omega)
  unfold wpX_settle
  refine ⟨vn, nm_r (e' := a_goal pl.length) (by rw [cn]) (br_c (fun z => ?_) (fun z => ?_))⟩
  · have z2 : 0 < g := by
      rw [← hg]
      exact Int32.lt_iff_toInt_lt.mp z
    obtain ⟨gN, b1, b2⟩ := nI_of (x := a_goal pl.length) (fun w => by
      have := Int32.lt_iff_toInt_lt.mp w
      rw [hg] at this
      have e0 : (0 : Int32).toInt = 0 := rfl
      omega)
    have eg : g = (gN : Int) := by rw [← hg, b2]; exact nI_toInt b1
    unfold wX_settle_25
    refine ⟨rfl, rfl, br_t rfl ?_⟩
    refine zs_left hn hD ?_
    rw [b2]
    refine pk_le gN ((D - pl.length + 3) / 4) (fun q => ⟨by decide, ?_⟩) (fun q => ?_)
    · rw [zx_rem4 (by omega)]
      refine pk_eq (pl.length % 4) 0 (fun e => ?_) (fun e => ?_)
      · refine zk_describe st ok G (fun L O hL hO => ?_)
        refine zk_recall (g := gN) st ok G e k12 (by rw [pk_us]; exact hL) (by rw [pk_uLs]; exact hO) tt b2 (by omega) ?_ (fun v S N => ?_)
        · refine br_t rfl (zs_67 st ok G (fun L' hL' => ?_))
          exact h0 gN L' _ _ eg b2 (by omega) (by omega) q (by omega) hL' (fun _ => ⟨by rw [pk_us]; exact hL, by rw [pk_uLs]; exact hO⟩) (fun j hj => pk_un hj) (fun j hj => pk_uLn hj)
        · rw [← eg] at N
          exact br_f (by decide) (h1 v S _ _ N (fun j hj => pk_un hj) (fun j hj => pk_uLn hj))
      · refine zs_67 st ok G (fun L' hL' => ?_)
        exact h0 gN L' _ _ eg b2 (by omega) (by omega) q (by omega) hL' (fun z => absurd z e) (fun _ _ => rfl) (fun _ _ => rfl)
    · refine h1 false 0 _ _ (fun ow' H' tau' phi _ => ⟨fun w => absurd w (zg_W_gt z2 (by omega)), fun w => absurd w (by decide)⟩) (fun _ _ => rfl) (fun _ _ => rfl)
  · have z2 : g ≤ 0 := by
      rw [← hg]
      have : ¬ (0 : Int32).toInt < (a_goal pl.length).toInt := fun w => z (Int32.lt_iff_toInt_lt.mpr w)
      have e0 : (0 : Int32).toInt = 0 := rfl
      omega
    unfold wX_settle_25
    exact ⟨rfl, rfl, br_f (by decide) (h1 true 0 _ _ (fun ow' H' tau' phi _ => ⟨fun _ => rfl, fun _ => zg_W_le z2⟩) (fun _ _ => rfl) (fun _ _ => rfl))⟩
/-! markWinner -/
theorem zs_markLoop {post : SX → Prop} {n from' w : Nat} {t4 : Nat → Nat} {R : Int32} (hn : n = from' + 4) (h16 : n ≤ 16) (hw : w < 32) (hl : ∀ i, i < 4 → a_line (from' + i) = nI (t4 i) ∧ t4 i < 32)
    (h : ∀ R', (∀ q, q < 32 → bt R q = true → bt R' q = true) → (∀ i, i < 4 → t4 i ≠ w → t4 i / 8 = w / 8 → bt R' w = true) → post (f_handSize, f_dealtSet, f_dealt, nI n, f_toAct, f_trumpSuit, f_started, f_verdict, R', a_hands, a_owner, a_line, a_won, a_goal, a_todo, a_seen, a_keyLengths, a_keyOwners, a_classWord, a_classLengths, a_classMask, a_classOwners, a_nextSlot)) :
    ∀ d i Ri, i + d = 4 → (∀ q, q < 32 → bt R q = true → bt Ri q = true) → (∀ i', i' < i → t4 i' ≠ w → t4 i' / 8 = w / 8 → bt Ri w = true) → wX_markWinner_18 post (nI w) f_handSize f_dealtSet f_dealt (nI n) f_toAct f_trumpSuit f_started f_verdict a_hands a_owner a_line a_won a_goal a_todo a_seen a_keyLengths a_keyOwners a_classWord a_classLengths a_classMask a_classOwners a_nextSlot (d + 1) (nI (from' + i)) Ri := by
  intro d
  induction d with
  | zero =>
    intro i Ri hi h1 h2
    have ei : i = 4 := by omega
    subst ei
    exact br_t (by rw [hn]; exact Int32.le_refl _) (h Ri h1 (fun i hi => h2 i hi))
  | succ d ih =>
    intro i Ri hi h1 h2
    obtain ⟨l1, l2⟩ := hl i (by omega)
    have ea : a_line (nI (from' + i)).toNatClampNeg = nI (t4 i) := by rw [nI_clamp (by omega)]; exact l1
    have vi : vp_in (nI (from' + i)) 16 := vp_in_nI (by omega) (by omega)
    have e1 : nI (t4 i) / 8 = nI (t4 i / 8) := pk_div (d := 8) (by omega) (by omega) (by omega)
    have e2 : nI w / 8 = nI (w / 8) := pk_div (d := 8) (by omega) (by omega) (by omega)
    refine br_f (nI_ge (by omega) (by omega)) ⟨vi, ?_⟩
    rw [ea, e1, e2]
    refine pk_eq (t4 i) w (fun e => ?_) (fun e => ⟨vi, by decide, by decide, pk_eq (t4 i / 8) (w / 8) (fun es => ?_) (fun es => ?_)⟩)
    · refine nm_r (nI_1 _) (ih (i + 1) Ri (by omega) h1 (fun i' hi' n1 n2 => ?_))
      by_cases c : i' = i
      · rw [c] at n1; exact absurd e n1
      · exact h2 i' (by omega) n1 n2
    · refine nm_e (nm_r (nI_1 _) (ih (i + 1) _ (by omega) (fun q hq hR => ?_) (fun i' hi' n1 n2 => ?_)))
      · rw [b_or, h1 q hq hR, Bool.true_or]
      · rw [b_or, zx_one hw hw, decide_eq_true rfl, Bool.or_true]
    · refine nm_r (nI_1 _) (ih (i + 1) Ri (by omega) h1 (fun i' hi' n1 n2 => ?_))
      by_cases c : i' = i
      · rw [c] at n2; exact absurd n2 es
      · exact h2 i' (by omega) n1 n2
theorem zs_mark {post : SX → Prop} {c : Nat} {R : Int32} (st : zp_st dl ow T ld D) (ok : zp_ok dl ow T ld (c :: pl)) (e : pl.length % 4 = 3) (G : zx_G dl ow T (c :: pl) a_hands a_owner a_line a_won)
    (h : ∀ R', (∀ q, q < 32 → bt R q = true → bt R' q = true) → zi_mark T (pl.length % 4) (zp_t pl) c (bt R') → post (f_handSize, f_dealtSet, nI D, nI ((c :: pl)).length, nI (zp_a ow T ld ((c :: pl))), nI T, f_started, f_verdict, R', a_hands, a_owner, a_line, a_won, a_goal, a_todo, a_seen, a_keyLengths, a_keyOwners, a_classWord, a_classLengths, a_classMask, a_classOwners, a_nextSlot)) : wpX_markWinner post (f_handSize, f_dealtSet, nI D, nI ((c :: pl)).length, nI (zp_a ow T ld ((c :: pl))), nI T, f_started, f_verdict, R, a_hands, a_owner, a_line, a_won, a_goal, a_todo, a_seen, a_keyLengths, a_keyOwners, a_classWord, a_classLengths, a_classMask, a_classOwners, a_nextSlot) := by
  have hn := zp_le st ok
  rw [List.length_cons] at hn
  have hD := st.2.2.2.1
  have hw := zx_wcard (T := T) ok e
  unfold wpX_markWinner
  refine zx_wcardX st ok e G.2.2.1 ?_
  have e4 : nI (pl.length + 1) - 4 = nI (pl.length - 3 + 0) := by
    have := pk_sub (a := pl.length + 1) (b := 4) (by omega)
    have e5 : pl.length + 1 - 4 = pl.length - 3 + 0 := by omega
    rw [e5] at this
    exact this
  refine nm_r e4 ⟨5, zs_markLoop (n := pl.length + 1) (from' := pl.length - 3) (t4 := zg_ad (zp_t pl) 3 c) (R := R) (by omega) (by omega) hw.1 (fun i hi => ?_) (fun R' h1 h2 => ?_) 4 0 R rfl (fun _ _ z => z) (fun i' hi' => absurd hi' (Nat.not_lt_zero _))⟩
  · have h3 := G.2.2.1 (pl.length - 3 + i) (by rw [List.length_cons]; omega)
    rw [h3, zp_ad_at e hi]
    exact ⟨rfl, (zp_at_ok ok (by rw [List.length_cons]; omega)).1⟩
  · refine h R' h1 (fun _ z => ?_)
    obtain ⟨i, hi, n1, n2⟩ := z
    exact h2 i hi n1 n2
/-! inPlay -/
theorem zs_inLoop {post : Int32 → Prop} {n from' m : Nat} {t : Nat → Nat} {H : Nat → Bool} (hn : n = from' + m) (h16 : n ≤ 16) (hl : ∀ i, i < m → a_line (from' + i) = nI (t i) ∧ t i < 32)
    (h : ∀ S, (∀ c, c < 32 → (bt S c = true ↔ zi_ip H m t c)) → post S) :
    ∀ d i S, i + d = m → (∀ c, c < 32 → (bt S c = true ↔ zi_ip H i t c)) → wX_inPlay_17 post f_handSize f_dealtSet f_dealt (nI n) f_toAct f_trumpSuit f_started f_verdict f_relevant a_hands a_owner a_line a_won a_goal a_todo a_seen a_keyLengths a_keyOwners a_classWord a_classLengths a_classMask a_classOwners a_nextSlot (d + 1) S (nI (from' + i)) := by
  intro d
  induction d with
  | zero =>
    intro i S hi hS
    have ei : i = m := by omega
    subst ei
    exact br_t (by rw [hn]; exact Int32.le_refl _) (h S hS)
  | succ d ih =>
    intro i S hi hS
    obtain ⟨l1, l2⟩ := hl i (by omega)
    have ea : a_line (nI (from' + i)).toNatClampNeg = nI (t i) := by rw [nI_clamp (by omega)]; exact l1
    refine br_f (nI_ge (by omega) (by omega)) ⟨vp_in_nI (by omega) (by omega), nm_r (e' := S ||| ((1 : Int32) <<< (nI (t i) &&& 31))) (by rw [ea]) (nm_r (nI_1 _) (ih (i + 1) _ (by omega) (fun c hc => ?_)))⟩
    rw [b_or, zx_one l2 hc, Bool.or_eq_true, hS c hc, decide_eq_true_iff]
    unfold zi_ip
    constructor
    · rintro ((z | ⟨j, j1, j2⟩) | z)
      · exact Or.inl z
      · exact Or.inr ⟨j, by omega, j2⟩
      · exact Or.inr ⟨i, by omega, z.symm⟩
    · rintro (z | ⟨j, j1, j2⟩)
      · exact Or.inl (Or.inl z)
      · by_cases e : j = i
        · rw [e] at j2; exact Or.inr j2.symm
        · exact Or.inl (Or.inr ⟨j, by omega, j2⟩)
theorem zs_inPlay {post : Int32 → Prop} (st : zp_st dl ow T ld D) (ok : zp_ok dl ow T ld pl) (G : zx_G dl ow T pl a_hands a_owner a_line a_won) (h : ∀ S, (∀ c, c < 32 → (bt S c = true ↔ zi_ip (zp_H dl pl) (pl.length % 4) (zp_t pl) c)) → post S) : wpX_inPlay post (f_handSize, f_dealtSet, nI D, nI pl.length, nI (zp_a ow T ld pl), nI T, f_started, f_verdict, f_relevant, a_hands, a_owner, a_line, a_won, a_goal, a_todo, a_seen, a_keyLengths, a_keyOwners, a_classWord, a_classLengths, a_classMask, a_classOwners, a_nextSlot) := by
  have hn := zp_le st ok
  have hD := st.2.2.2.1
  unfold wpX_inPlay
  unfold wpX_held
  refine ⟨by decide, nm_r (e' := nI (pl.length - pl.length % 4 + 0)) ?_ ⟨pl.length % 4 + 1, zs_inLoop (n := pl.length) (from' := pl.length - pl.length % 4) (m := pl.length % 4) (t := zp_t pl) (H := zp_H dl pl) (by omega) (by omega) (fun i hi => ?_) h (pl.length % 4) 0 _ (by omega) (fun c hc => ?_)⟩⟩
  · rw [zx_rem4 (by omega), pk_sub (by omega)]; rfl
  · rw [G.2.2.1 _ (by omega), zp_t_at hi]
    exact ⟨rfl, (zp_at_ok ok (by omega)).1⟩
  · rw [zk_held st G c hc]
    exact ⟨fun z => Or.inl ⟨hc, z⟩, fun z => by rcases z with z | ⟨i, hi, _⟩; exact z.2; omega⟩
/-! runAround -/
theorem zs_p2 : ∀ i, i < 9 → ∀ j, j < 32 → bt (nI (2 ^ i)) j = decide (j = i) := by decide
theorem zs_p2s : ∀ i, i < 8 → nI (2 ^ i) <<< ((1 : Int32) &&& 31) = nI (2 ^ (i + 1)) := by decide
theorem zs_p2c : ∀ i, i < 9 → ∀ b, b < 8 → (nI (2 ^ i) ≤ nI (2 ^ b) ↔ i ≤ b) := by decide
theorem zs_p2n : ∀ i, i < 8 → ¬ (256 : Int32) ≤ nI (2 ^ i) := by decide
theorem zs_and2 (x : Int32) {i : Nat} (hi : i < 9) : (x &&& nI (2 ^ i)) = 0 ↔ bt x i = false := by
  constructor
  · intro h
    have h1 := b_and x (nI (2 ^ i)) i
    rw [h, b_0, zs_p2 i hi i (by omega), decide_eq_true rfl, Bool.and_true] at h1
    exact h1.symm
  · intro h
    refine b_ext (fun j hj => ?_)
    rw [b_and, b_0, zs_p2 i hi j hj]
    by_cases e : j = i
    · rw [e, h]; rfl
    · rw [decide_eq_false e, Bool.and_false]
def zs_run (own others : Int32) (b : Nat) (run : Int32) : Prop :=
  bt run b = true ∧ ∀ q, q < 32 → bt run q = true → q < 8 ∧ bt own q = true ∧ ∀ y, y < 8 → bt others y = true → (q < y ↔ b < y)
theorem zs_runLoop {post : Int32 → Prop} {own others : Int32} {b : Nat} (hb : b < 8) (hob : bt own b = true) (htb : bt others b = false) (h : ∀ run, zs_run own others b run → post run) :
    ∀ d i x4, i + d = 8 → (∀ q, q < 32 → bt x4 q = true → q < i ∧ bt own q = true ∧ ∀ y, q ≤ y → y < i → bt others y = false) → (b < i → bt x4 b = true) → wX_runAround_6 post own others (nI (2 ^ b)) f_handSize f_dealtSet f_dealt f_count f_toAct f_trumpSuit f_started f_verdict f_relevant a_hands a_owner a_line a_won a_goal a_todo a_seen a_keyLengths a_keyOwners a_classWord a_classLengths a_classMask a_classOwners a_nextSlot (d + 1) x4 (nI (2 ^ i)) := by
  have fin : ∀ i x4, i ≤ 8 → b < i → (∀ q, q < 32 → bt x4 q = true → q < i ∧ bt own q = true ∧ ∀ y, q ≤ y → y < i → bt others y = false) → (b < i → bt x4 b = true) → zs_run own others b x4 := by
    intro i x4 h8 hbi h1 h2
    refine ⟨h2 hbi, fun q hq hx => ?_⟩
    obtain ⟨a1, a2, a3⟩ := h1 q hq hx
    obtain ⟨b1, b2, b3⟩ := h1 b (by omega) (h2 hbi)
    refine ⟨by omega, a2, fun y hy ho => ?_⟩
    by_cases e : y < i
    · have n1 : ¬ q ≤ y := fun z => by rw [a3 y z e] at ho; exact absurd ho (by decide)
      have n2 : ¬ b ≤ y := fun z => by rw [b3 y z e] at ho; exact absurd ho (by decide)
      omega
    · omega
  intro d
  induction d with
  | zero =>
    intro i x4 hi h1 h2
    have ei : i = 8 := by omega
    subst ei
    exact br_t (by decide) (h x4 (fin 8 x4 (Nat.le_refl _) hb h1 h2))
  | succ d ih =>
    intro i x4 hi h1 h2
    refine br_f (zs_p2n i (by omega)) (br_c (fun z => ?_) (fun z => ?_))
    · have z2 := (zs_and2 others (by omega)).mp z
      refine nm_e (nm_r (zs_p2s i (by omega)) (ih (i + 1) _ (by omega) (fun q hq hx => ?_) (fun hbi => ?_)))
      · rw [b_or, b_and, zs_p2 i (by omega) q hq, Bool.or_eq_true, Bool.and_eq_true, decide_eq_true_iff] at hx
        rcases hx with hx | hx
        · obtain ⟨a1, a2, a3⟩ := h1 q hq hx
          refine ⟨by omega, a2, fun y y1 y2 => ?_⟩
          by_cases e : y = i
          · rw [e]; exact z2
          · exact a3 y y1 (by omega)
        · refine ⟨by omega, hx.1, fun y y1 y2 => ?_⟩
          have e : y = i := by omega
          rw [e]; exact z2
      · rw [b_or, b_and, zs_p2 i (by omega) b (by omega)]
        by_cases e : b = i
        · rw [decide_eq_true e, hob]; simp
        · rw [h2 (by omega), Bool.true_or]
    · have z2 : bt others i = true := by
        have := mt (zs_and2 others (by omega : i < 9)).mpr z
        simpa using this
      refine br_c (fun q => ?_) (fun q => ?_)
      · have q2 := (zs_p2c i (by omega) b hb).mp q
        refine nm_r (zs_p2s i (by omega)) (ih (i + 1) 0 (by omega) (fun q hq hx => by rw [b_0] at hx; exact absurd hx (by decide)) (fun hbi => ?_))
        have e : i = b := by omega
        rw [e, htb] at z2
        exact absurd z2 (by decide)
      · have q2 := mt (zs_p2c i (by omega) b hb).mpr q
        exact h x4 (fin i x4 (by omega) (by omega) h1 h2)
theorem zs_runAround {post : Int32 → Prop} {own others : Int32} {b : Nat} (hb : b < 8) (hob : bt own b = true) (htb : bt others b = false) (h : ∀ run, zs_run own others b run → post run) : wpX_runAround post (f_handSize, f_dealtSet, f_dealt, f_count, f_toAct, f_trumpSuit, f_started, f_verdict, f_relevant, a_hands, a_owner, a_line, a_won, a_goal, a_todo, a_seen, a_keyLengths, a_keyOwners, a_classWord, a_classLengths, a_classMask, a_classOwners, a_nextSlot) own others (nI (2 ^ b)) := by
  unfold wpX_runAround
  exact ⟨9, zs_runLoop hb hob htb h 8 0 0 rfl (fun q hq hx => by rw [b_0] at hx; exact absurd hx (by decide)) (fun z => absurd z (Nat.not_lt_zero _))⟩
end
end
section
/-! ===== X: dismiss, pick, advance, retreat ===== -/
theorem zd_low : ∀ d, d < 256 → (((nI d &&& (-nI d)) = 0 ∧ ∀ i, i < 8 → bt (nI d) i = false) ∨ ∃ j, j < 8 ∧ (nI d &&& (-nI d)) = nI (2 ^ j) ∧ bt (nI d) j = true ∧ ∀ i, i < j → bt (nI d) i = false) := by decide +kernel
theorem zd_p2m : ∀ j, j < 8 → ∀ i, i < 32 → bt (nI (2 ^ j) - 1) i = decide (i < j) := by decide +kernel
theorem zd_p2z : ∀ j, j < 8 → ¬ nI (2 ^ j) = 0 := by decide
/-- eight bits of x from 8 * s on -/
def zd_8 (x : Int32) (s : Nat) : Int32 := ((x.toUInt32 >>> ((nI (8 * s)).toUInt32 &&& Int32.toUInt32 31)).toInt32) &&& 255
theorem zd_8b (x : Int32) {s : Nat} (hs : s < 4) (i : Nat) : bt (zd_8 x s) i = (decide (i < 8) && bt x (8 * s + i)) := by
  unfold zd_8
  rw [b_and, b_ushr (8 * s) (by omega), b_255, Bool.and_comm]
theorem zd_8n (x : Int32) (s : Nat) : ∃ d, d < 256 ∧ zd_8 x s = nI d := pk_andE _ 8 (by decide)
theorem zd_255 {x : Int32} (h : ∀ q, q < 32 → bt x q = true → q < 8) : ∃ d, d < 256 ∧ x = nI d := by
  obtain ⟨d, hd, e⟩ := pk_andE x (m := 255) 8 (by decide)
  refine ⟨d, hd, ?_⟩
  rw [← e]
  refine b_ext (fun i hi => ?_)
  rw [b_and, b_255]
  by_cases c : bt x i = true
  · rw [c, decide_eq_true (h i hi c)]; rfl
  · have c2 : bt x i = false := by simpa using c
    rw [c2, Bool.false_and]
theorem zd_1 : ∀ b, b < 8 → (1 : Int32) <<< (nI b &&& 31) = nI (2 ^ b) := by decide
section
variable {f_handSize f_dealtSet f_dealt f_count f_toAct f_trumpSuit f_started f_verdict f_relevant : Int32} {a_hands a_owner a_line a_won a_goal a_todo a_seen a_keyLengths a_classWord a_classLengths a_nextSlot : Nat → Int32} {a_keyOwners a_classMask a_classOwners : Nat → Int64}
variable {dl : Nat → Bool} {ow : Nat → Nat} {T ld D : Nat} {pl : List Nat}
/-- what dismiss does to todo: x7 are struck off the suit of d -/
theorem zd_126 {post : SX → Prop} {n s : Nat} {x7 : Int32} (hn : n ≤ 16) (h : post (f_handSize, f_dealtSet, f_dealt, nI n, f_toAct, f_trumpSuit, f_started, f_verdict, f_relevant, a_hands, a_owner, a_line, a_won, a_goal, upd a_todo n (a_todo n &&& ((x7 <<< (nI (8 * s) &&& 31)) ^^^ (-1))), upd a_seen n (a_seen n ||| f_relevant), a_keyLengths, a_keyOwners, a_classWord, a_classLengths, a_classMask, a_classOwners, a_nextSlot)) : wX_dismiss_126 post (nI (8 * s)) x7 f_handSize f_dealtSet f_dealt (nI n) f_toAct f_trumpSuit f_started f_verdict f_relevant a_hands a_owner a_line a_won a_goal a_todo a_seen a_keyLengths a_keyOwners a_classWord a_classLengths a_classMask a_classOwners a_nextSlot := by
  have vn : vp_in (nI n) 17 := vp_in_nI (by omega) (by omega)
  have cn : (nI n).toNatClampNeg = n := nI_clamp (by omega)
  unfold wX_dismiss_126
  rw [cn]
  exact ⟨vn, vn, nm_e ⟨vn, vn, nm_e h⟩⟩
theorem zd_todo {x x7 : Int32} {s : Nat} (hs : s < 4) (h7 : ∀ q, q < 32 → bt x7 q = true → q < 8) {c : Nat} (hc : c < 32) : bt (x &&& ((x7 <<< (nI (8 * s) &&& 31)) ^^^ (-1))) c = (bt x c && !(decide (c / 8 = s) && bt x7 (c % 8))) := by
  rw [b_and, zx_not _ hc, b_shl (8 * s) (by omega) x7 hc]
  congr 2
  by_cases e : c / 8 = s
  · have e2 : c - 8 * s = c % 8 := by omega
    rw [decide_eq_true e, decide_eq_true (by omega), e2]
  · rw [decide_eq_false e, Bool.false_and]
    by_cases e2 : 8 * s ≤ c
    · rw [decide_eq_true e2, Bool.true_and]
      by_cases e3 : bt x7 (c - 8 * s) = true
      · have := h7 _ (by omega) e3
        omega
      · simpa using e3
    · rw [decide_eq_false e2, Bool.false_and]
def zd_post (ow : Nat → Nat) (H : Nat → Bool) (r : Nat) (tau : Nat → Nat) (a d : Nat) (R todo R' todo' : Int32) : Prop :=
  (∀ q, q < 32 → bt R q = true → bt R' q = true) ∧ (∀ c, c < 32 → bt todo' c = true → bt todo c = true) ∧ bt todo' d = false ∧
  (∀ c, c < 32 → bt todo c = true → bt todo' c = false → (H c = true ∧ ow c = a ∧ c / 8 = d / 8) ∧ zi_alike (bt R) (bt R') ow H r tau a c d)
theorem zd_dismiss {post : SX → Prop} {d : Nat} {R : Int32} (st : zp_st dl ow T ld D) (ok : zp_ok dl ow T ld pl) (G : zx_G dl ow T pl a_hands a_owner a_line a_won) (d1 : d < 32) (d2 : zp_H dl pl d = true) (d3 : ow d = zp_a ow T ld pl)
    (h : ∀ R' todo', zd_post ow (zp_H dl pl) (pl.length % 4) (zp_t pl) (zp_a ow T ld pl) d R (a_todo pl.length) R' todo' → post (f_handSize, f_dealtSet, nI D, nI pl.length, nI (zp_a ow T ld pl), nI T, f_started, f_verdict, R', a_hands, a_owner, a_line, a_won, a_goal, upd a_todo pl.length todo', upd a_seen pl.length (a_seen pl.length ||| R'), a_keyLengths, a_keyOwners, a_classWord, a_classLengths, a_classMask, a_classOwners, a_nextSlot)) : wpX_dismiss post (f_handSize, f_dealtSet, nI D, nI pl.length, nI (zp_a ow T ld pl), nI T, f_started, f_verdict, R, a_hands, a_owner, a_line, a_won, a_goal, a_todo, a_seen, a_keyLengths, a_keyOwners, a_classWord, a_classLengths, a_classMask, a_classOwners, a_nextSlot) (nI d) := by
  have hn := zp_le st ok
  have hD := st.2.2.2.1
  have ha := zp_a4 st.2.2.1 ok
  have va : vp_in (nI (zp_a ow T ld pl)) 4 := vp_in_nI ha (by omega)
  have ca : (nI (zp_a ow T ld pl)).toNatClampNeg = zp_a ow T ld pl := nI_clamp (by omega)
  have hs : d / 8 < 4 := by omega
  have hh := fun c hc => G.1 (zp_a ow T ld pl) c ha hc
  have es : nI d - (nI d - nI d / 8 * 8) = nI (8 * (d / 8)) := by
    rw [zx_rem8 (by omega), pk_sub (by omega)]
    congr 1
    omega
  have hob : ∀ i, i < 8 → (bt (zd_8 (a_hands (zp_a ow T ld pl)) (d / 8)) i = true ↔ (zp_H dl pl (8 * (d / 8) + i) = true ∧ ow (8 * (d / 8) + i) = zp_a ow T ld pl)) := by
    intro i hi
    rw [zd_8b _ hs, decide_eq_true hi, Bool.true_and, hh _ (by omega), Bool.and_eq_true, decide_eq_true_iff]
  unfold wpX_dismiss
  refine ⟨by decide, nm_r es ⟨va, nm_r (e' := zd_8 (a_hands (zp_a ow T ld pl)) (d / 8)) (by rw [ca]; rfl) (nm_r (e' := zd_8 R (d / 8)) rfl ?_)⟩⟩
  obtain ⟨dd, dd1, dd2⟩ := zd_8n R (d / 8)
  have hR : ∀ i, i < 8 → bt (nI dd) i = bt R (8 * (d / 8) + i) := by
    intro i hi
    rw [← dd2, zd_8b _ hs, decide_eq_true hi, Bool.true_and]
  rw [dd2]
  refine nm_e ⟨by decide, nm_r (e' := nI (2 ^ (d % 8))) (by rw [zx_rem8 (by omega), zd_1 _ (by omega)]) ?_⟩
  have hd8 : 8 * (d / 8) + d % 8 = d := by omega
  -- the low case
  have lowc : ∀ x5 : Int32, (∀ i, i < 8 → bt (x5 - 1) i = true → ¬ zi_tp (bt R) (8 * (d / 8) + i)) → bt (x5 - 1) (d % 8) = true → wX_dismiss_63 post (nI (8 * (d / 8))) (zd_8 (a_hands (zp_a ow T ld pl)) (d / 8)) x5 f_handSize f_dealtSet (nI D) (nI pl.length) (nI (zp_a ow T ld pl)) (nI T) f_started f_verdict R a_hands a_owner a_line a_won a_goal a_todo a_seen a_keyLengths a_keyOwners a_classWord a_classLengths a_classMask a_classOwners a_nextSlot := by
    intro x5 hx hdx
    unfold wX_dismiss_63
    have h7 : ∀ q, q < 32 → bt (zd_8 (a_hands (zp_a ow T ld pl)) (d / 8) &&& (x5 - 1)) q = true → q < 8 := by
      intro q _ hq
      rw [b_and, zd_8b _ hs, Bool.and_eq_true, Bool.and_eq_true, decide_eq_true_iff] at hq
      exact hq.1.1
    refine nm_e (zd_126 (by omega) (h R _ ⟨fun _ _ z => z, fun c hc z => ?_, ?_, fun c hc z1 z2 => ?_⟩))
    · rw [zd_todo hs h7 hc, Bool.and_eq_true] at z; exact z.1
    · rw [zd_todo hs h7 d1, b_and, (hob _ (by omega)).mpr (by rw [hd8]; exact ⟨d2, d3⟩), hdx, decide_eq_true rfl]; simp
    · rw [zd_todo hs h7 hc, z1, Bool.true_and] at z2
      have z3 : (decide (c / 8 = d / 8) && bt (zd_8 (a_hands (zp_a ow T ld pl)) (d / 8) &&& (x5 - 1)) (c % 8)) = true := by simpa using z2
      rw [Bool.and_eq_true, b_and, Bool.and_eq_true, decide_eq_true_iff, hob _ (by omega)] at z3
      obtain ⟨c1, c2, c3⟩ := z3
      have ec : 8 * (d / 8) + c % 8 = c := by omega
      have n1 := hx _ (by omega) c3
      have n2 := hx _ (by omega) hdx
      rw [ec] at c2 n1
      rw [hd8] at n2
      exact ⟨⟨c2.1, c2.2, c1⟩, Or.inl ⟨n1, n2⟩⟩
  rcases zd_low dd dd1 with ⟨l1, l2⟩ | ⟨j, j1, j2, j3, j4⟩
  · rw [l1]
    refine br_t rfl (lowc 0 (fun i hi _ => ?_) ?_)
    · rintro ⟨q, q1, q2, q3, q4⟩
      have := l2 (q % 8) (by omega)
      rw [hR _ (by omega)] at this
      have eq : 8 * (d / 8) + q % 8 = q := by omega
      rw [eq, q2] at this
      exact absurd this (by decide)
    · show bt (-1) (d % 8) = true
      exact b_m1 _ (by omega)
  · rw [j2]
    refine br_f (zd_p2z j j1) (br_c (fun z => ?_) (fun z => ?_))
    · have z2 := (zs_p2c j (by omega) (d % 8) (by omega)).mp z
      refine zs_inPlay st ok G (fun S hS => ⟨va, nm_r (e' := zd_8 (S &&& ((a_hands (zp_a ow T ld pl)) ^^^ (-1))) (d / 8)) (by rw [ca]; rfl) ?_⟩)
      have hot : ∀ i, i < 8 → (bt (zd_8 (S &&& ((a_hands (zp_a ow T ld pl)) ^^^ (-1))) (d / 8)) i = true ↔ (zi_ip (zp_H dl pl) (pl.length % 4) (zp_t pl) (8 * (d / 8) + i) ∧ ¬ (zp_H dl pl (8 * (d / 8) + i) = true ∧ ow (8 * (d / 8) + i) = zp_a ow T ld pl))) := by
        intro i hi
        rw [zd_8b _ hs, decide_eq_true hi, Bool.true_and, b_and, zx_not _ (by omega), Bool.and_eq_true, hS _ (by omega), hh _ (by omega)]
        cases zp_H dl pl (8 * (d / 8) + i) <;> simp
      refine zs_runAround (by omega) ((hob _ (by omega)).mpr (by rw [hd8]; exact ⟨d2, d3⟩)) ?_ (fun run hrun => ?_)
      · by_cases w : bt (zd_8 (S &&& ((a_hands (zp_a ow T ld pl)) ^^^ (-1))) (d / 8)) (d % 8) = true
        · have := (hot _ (by omega)).mp w
          rw [hd8] at this
          exact absurd ⟨d2, d3⟩ this.2
        · simpa using w
      · obtain ⟨r1, r2⟩ := hrun
        have h7 : ∀ q, q < 32 → bt run q = true → q < 8 := fun q hq hx => (r2 q hq hx).1
        obtain ⟨rr, rr1, rr2⟩ := zd_255 h7
        have lowrun : ∃ l, l < 8 ∧ (run &&& (-run)) = nI (2 ^ l) ∧ bt run l = true ∧ ∀ i, i < l → bt run i = false := by
          rw [rr2]
          rcases zd_low rr rr1 with ⟨_, w2⟩ | w
          · rw [rr2, w2 _ (by omega)] at r1; exact absurd r1 (by decide)
          · exact w
        obtain ⟨l, l1, l2, l3, l4⟩ := lowrun
        rw [l2]
        have eR : ∀ q, q < 32 → bt (R ||| (nI (2 ^ l) <<< (nI (8 * (d / 8)) &&& 31))) q = (bt R q || decide (q = 8 * (d / 8) + l)) := by
          intro q hq
          rw [b_or, b_shl _ (by omega) _ hq, zs_p2 l (by omega) _ (by omega), ← Bool.decide_and]
          congr 1
          exact decide_eq_decide.mpr (by omega)
        have tS : ∀ i, i < 8 → bt run i = true → zi_tp (bt (R ||| (nI (2 ^ l) <<< (nI (8 * (d / 8)) &&& 31)))) (8 * (d / 8) + i) := by
          intro i hi hr
          refine ⟨8 * (d / 8) + l, by omega, ?_, by omega, ?_⟩
          · rw [eR _ (by omega), decide_eq_true rfl, Bool.or_true]
          · have : ¬ i < l := fun w => by rw [l4 i w] at hr; exact absurd hr (by decide)
            omega
        refine nm_e (zd_126 (by omega) (h _ _ ⟨fun q hq w => ?_, fun c hc w => ?_, ?_, fun c hc z1 z2 => ?_⟩))
        · rw [eR q hq, w, Bool.true_or]
        · rw [zd_todo hs h7 hc, Bool.and_eq_true] at w; exact w.1
        · rw [zd_todo hs h7 d1, r1, decide_eq_true rfl]; simp
        · rw [zd_todo hs h7 hc, z1, Bool.true_and] at z2
          have z3 : (decide (c / 8 = d / 8) && bt run (c % 8)) = true := by simpa using z2
          rw [Bool.and_eq_true, decide_eq_true_iff] at z3
          obtain ⟨c1, c2⟩ := z3
          have ec : 8 * (d / 8) + c % 8 = c := by omega
          obtain ⟨_, q2, q3⟩ := r2 _ (by omega) c2
          have q4 := (hob _ (by omega)).mp q2
          have tc := tS _ (by omega) c2
          have td := tS _ (by omega) r1
          rw [ec] at q4 tc
          rw [hd8] at td
          refine ⟨⟨q4.1, q4.2, c1⟩, Or.inr ⟨tc, td, fun y hy oy ey => ?_⟩⟩
          have y32 : y < 32 := by omega
          have ey2 : 8 * (d / 8) + y % 8 = y := by omega
          have := q3 (y % 8) (by omega) ((hot _ (by omega)).mpr (by rw [ey2]; exact ⟨hy, fun w => oy w.2⟩))
          omega
    · have z2 : ¬ j ≤ d % 8 := mt (zs_p2c j (by omega) (d % 8) (by omega)).mpr z
      refine lowc (nI (2 ^ j)) (fun i hi w => ?_) ?_
      · rw [zd_p2m j j1 i (by omega), decide_eq_true_iff] at w
        rintro ⟨q, q1, q2, q3, q4⟩
        have := j4 (q % 8) (by omega)
        rw [hR _ (by omega)] at this
        have eq : 8 * (d / 8) + q % 8 = q := by omega
        rw [eq, q2] at this
        exact absurd this (by decide)
      · rw [zd_p2m j j1 _ (by omega), decide_eq_true_iff]; omega
/-! pick -/
theorem zd_promise {post : Int32 → Prop} {c w a : Nat} {top : Int32} (hT : T ≤ 4) (hc : c < 32) (ht : top = -1 ∨ (top = nI w ∧ w < 32 ∧ ow w < 4 ∧ a_owner w = nI (ow w))) (ha : a < 4) (h : ∀ s, s ≤ 15 → post (nI s)) : wpX_promise post (f_handSize, f_dealtSet, f_dealt, f_count, nI a, nI T, f_started, f_verdict, f_relevant, a_hands, a_owner, a_line, a_won, a_goal, a_todo, a_seen, a_keyLengths, a_keyOwners, a_classWord, a_classLengths, a_classMask, a_classOwners, a_nextSlot) (nI c) top := by
  unfold wpX_promise
  refine ⟨by decide, nm_r (zx_rem8 (by omega)) ?_⟩
  rcases ht with e | ⟨e, hw, ho, eo⟩
  · rw [e]
    exact br_f (by decide) (h _ (by omega))
  · rw [e]
    have e15 : (15 : Int32) - nI (c % 8) = nI (15 - c % 8) := pk_sub (a := 15) (by omega)
    have e7 : (7 : Int32) - nI (c % 8) = nI (7 - c % 8) := pk_sub (a := 7) (by omega)
    have j41 : wX_promise_41 post (nI (c % 8)) f_handSize f_dealtSet f_dealt f_count (nI a) (nI T) f_started f_verdict f_relevant a_hands a_owner a_line a_won a_goal a_todo a_seen a_keyLengths a_keyOwners a_classWord a_classLengths a_classMask a_classOwners a_nextSlot := by
      unfold wX_promise_41
      unfold wX_promise_42
      exact br_t rfl (by rw [e7]; exact h _ (by omega))
    have j42 : wX_promise_42 post (nI (c % 8)) 1 f_handSize f_dealtSet f_dealt f_count (nI a) (nI T) f_started f_verdict f_relevant a_hands a_owner a_line a_won a_goal a_todo a_seen a_keyLengths a_keyOwners a_classWord a_classLengths a_classMask a_classOwners a_nextSlot := by
      unfold wX_promise_42
      exact br_f (by decide) (by rw [e15]; exact h _ (by omega))
    refine br_t (nI_pos' (by omega)) ⟨vp_in_nI hw (by omega), by decide, by decide, ?_⟩
    refine br_c (fun _ => j41) (fun _ => ?_)
    refine zx_beats hT hc hw ?_
    cases zg_beats T c w with
    | false => exact br_t rfl j41
    | true => exact br_f (by decide) j42
theorem zd_nm1 : ∀ s, s < 16 → ¬ nI s ≤ (-1 : Int32) := by decide
theorem zd_pickLoop {post : Int32 → Prop} {ch top : Int32} {w a : Nat} (hT : T ≤ 4) (ht : top = -1 ∨ (top = nI w ∧ w < 32 ∧ ow w < 4 ∧ a_owner w = nI (ow w))) (ha : a < 4) (hne : ∃ c, c < 32 ∧ bt ch c = true) (h : ∀ c, c < 32 → bt ch c = true → post (nI c)) :
    ∀ d i x4 x5, i + d = 32 → ((x5 = -1 ∧ ∀ j, j < i → bt ch j = false) ∨ (∃ b s, x4 = nI b ∧ b < 32 ∧ bt ch b = true ∧ x5 = nI s ∧ s ≤ 15)) → wX_pick_39 post ch top f_handSize f_dealtSet f_dealt f_count (nI a) (nI T) f_started f_verdict f_relevant a_hands a_owner a_line a_won a_goal a_todo a_seen a_keyLengths a_keyOwners a_classWord a_classLengths a_classMask a_classOwners a_nextSlot (d + 1) x4 x5 (nI i) := by
  intro d
  induction d with
  | zero =>
    intro i x4 x5 hi I
    have ei : i = 32 := by omega
    subst ei
    refine br_t (by decide) ?_
    rcases I with ⟨_, I⟩ | ⟨b, s, e, b1, b2, _⟩
    · obtain ⟨c, c1, c2⟩ := hne
      rw [I c c1] at c2
      exact absurd c2 (by decide)
    · rw [e]; exact h b b1 b2
  | succ d ih =>
    intro i x4 x5 hi I
    refine br_f (nI_ge (b := 32) (by omega) (by decide)) ?_
    refine zx_has _ ch (by omega) ?_
    by_cases c : bt ch i = true
    · rw [c]
      refine br_f (by decide) (zd_promise (ow := ow) (w := w) hT (by omega) ht ha (fun s hs => ?_))
      rcases I with ⟨e, I⟩ | ⟨b, s', e, b1, b2, e5, hs'⟩
      · rw [e]
        exact br_f (zd_nm1 s (by omega)) (nm_r (nI_1 _) (ih (i + 1) _ _ (by omega) (Or.inr ⟨i, s, rfl, by omega, c, rfl, hs⟩)))
      · rw [e5]
        refine pk_le s s' (fun _ => ?_) (fun _ => ?_)
        · exact nm_r (nI_1 _) (ih (i + 1) _ _ (by omega) (Or.inr ⟨b, s', e, b1, b2, rfl, hs'⟩))
        · exact nm_r (nI_1 _) (ih (i + 1) _ _ (by omega) (Or.inr ⟨i, s, rfl, by omega, c, rfl, hs⟩))
    · have c2 : bt ch i = false := by simpa using c
      rw [c2]
      refine br_t rfl (nm_r (nI_1 _) (ih (i + 1) _ _ (by omega) ?_))
      rcases I with ⟨e, I⟩ | I
      · refine Or.inl ⟨e, fun j hj => ?_⟩
        by_cases ej : j = i
        · rw [ej]; exact c2
        · exact I j (by omega)
      · exact Or.inr I
theorem zd_pick {post : Int32 → Prop} {ch : Int32} (st : zp_st dl ow T ld D) (ok : zp_ok dl ow T ld pl) (G : zx_G dl ow T pl a_hands a_owner a_line a_won) (hne : ∃ c, c < 32 ∧ bt ch c = true) (h : ∀ c, c < 32 → bt ch c = true → post (nI c)) : wpX_pick post (f_handSize, f_dealtSet, nI D, nI pl.length, nI (zp_a ow T ld pl), nI T, f_started, f_verdict, f_relevant, a_hands, a_owner, a_line, a_won, a_goal, a_todo, a_seen, a_keyLengths, a_keyOwners, a_classWord, a_classLengths, a_classMask, a_classOwners, a_nextSlot) ch := by
  have hn := zp_le st ok
  have hD := st.2.2.2.1
  have ha := zp_a4 st.2.2.1 ok
  unfold wpX_pick
  have e1 : nI pl.length - (nI pl.length - nI pl.length / 4 * 4) = nI (pl.length - pl.length % 4) := by
    rw [zx_rem4 (by omega), pk_sub (by omega)]
  refine ⟨by decide, nm_r e1 (pk_le pl.length (pl.length - pl.length % 4) (fun q => ?_) (fun q => ?_))⟩
  · exact ⟨33, zd_pickLoop (ow := ow) (w := 0) st.2.1 (Or.inl rfl) ha hne h 32 0 0 (-1) rfl (Or.inl ⟨rfl, fun j hj => absurd hj (Nat.not_lt_zero _)⟩)⟩
  · have e2 : pl.length = (pl.length - pl.length % 4) + (pl.length % 4 - 1) + 1 := by omega
    have hl := zg_wi_le T (zp_t pl) (pl.length % 4 - 1)
    have htop : zp_t pl (zg_wi T (zp_t pl) (pl.length % 4 - 1)) < 32 ∧ dl (zp_t pl (zg_wi T (zp_t pl) (pl.length % 4 - 1))) = true := by
      rw [zp_t_at (by omega)]
      exact zp_at_ok ok (by omega)
    have key := zx_winning (f_handSize := f_handSize) (f_dealtSet := f_dealtSet) (f_dealt := nI D) (f_toAct := nI (zp_a ow T ld pl)) (f_started := f_started) (f_verdict := f_verdict) (f_relevant := f_relevant) (a_hands := a_hands) (a_owner := a_owner) (a_line := a_line) (a_won := a_won) (a_goal := a_goal) (a_todo := a_todo) (a_seen := a_seen) (a_keyLengths := a_keyLengths) (a_keyOwners := a_keyOwners) (a_classWord := a_classWord) (a_classLengths := a_classLengths) (a_classMask := a_classMask) (a_classOwners := a_classOwners) (a_nextSlot := a_nextSlot)
      (post := fun r_58 => ∃ n39 : Nat, wX_pick_39 post ch r_58 f_handSize f_dealtSet (nI D) (nI pl.length) (nI (zp_a ow T ld pl)) (nI T) f_started f_verdict f_relevant a_hands a_owner a_line a_won a_goal a_todo a_seen a_keyLengths a_keyOwners a_classWord a_classLengths a_classMask a_classOwners a_nextSlot n39 0 (-1) 0) (T := T) (from' := pl.length - pl.length % 4) (m := pl.length % 4 - 1) (tau := zp_t pl) st.2.1 (by omega) (fun i hi => ?_) ?_
    · rw [← e2] at key
      exact key
    · rw [G.2.2.1 _ (by omega), zp_t_at (by omega)]
      exact ⟨rfl, (zp_at_ok ok (by omega)).1⟩
    · exact ⟨33, zd_pickLoop (ow := ow) (w := zp_t pl (zg_wi T (zp_t pl) (pl.length % 4 - 1))) st.2.1 (Or.inr ⟨rfl, htop.1, (st.1 _ htop.2).2, G.2.1 _ htop.2⟩) ha hne h 32 0 0 (-1) rfl (Or.inl ⟨rfl, fun j hj => absurd hj (Nat.not_lt_zero _)⟩)⟩
end
end
section
/-! ===== X: advance, retreat ===== -/
/-- an open frame of the search at pl -/
def zf_F (dl : Nat → Bool) (ow : Nat → Nat) (T ld D : Nat) (pl : List Nat) (g : Nat) (goal todo seen kl : Nat → Int32) (ko : Nat → Int64) : Prop :=
  goal pl.length = nI g ∧ 1 ≤ g ∧ g ≤ 3 ∧ g ≤ (D - pl.length + 3) / 4 ∧ pl.length < D ∧ (∀ c, c < 32 → bt (todo pl.length) c = true → zp_lg dl ow T ld pl c) ∧
  (∀ c, zp_lg dl ow T ld pl c → bt (todo pl.length) c = false → zi_DM T (D - pl.length - 1) ow (zp_H dl pl) (pl.length % 4) (zp_t pl) (zp_a ow T ld pl) (g : Int) c (bt (seen pl.length))) ∧
  (pl.length % 4 = 0 → zt_isL (kl pl.length) ow (zp_H dl pl) ∧ zt_isO (ko pl.length) ow (zp_H dl pl))
section
variable {f_handSize f_dealtSet f_dealt f_count f_toAct f_trumpSuit f_started f_verdict f_relevant : Int32} {a_hands a_owner a_line a_won a_goal a_todo a_seen a_keyLengths a_classWord a_classLengths a_nextSlot : Nat → Int32} {a_keyOwners a_classMask a_classOwners : Nat → Int64}
variable {dl : Nat → Bool} {ow : Nat → Nat} {T ld D : Nat} {pl : List Nat}
theorem zf_adv {post : SX → Prop} {g : Nat} (st : zp_st dl ow T ld D) (ok : zp_ok dl ow T ld pl) (G : zx_G dl ow T pl a_hands a_owner a_line a_won) (F : zf_F dl ow T ld D pl g a_goal a_todo a_seen a_keyLengths a_keyOwners) (hne : ∃ c, c < 32 ∧ bt (a_todo pl.length) c = true)
    (h : ∀ c hands line won, zp_lg dl ow T ld pl c → bt (a_todo pl.length) c = true → zx_G dl ow T (c :: pl) hands a_owner line won → post (f_handSize, f_dealtSet, nI D, nI ((c :: pl)).length, nI (zp_a ow T ld ((c :: pl))), nI T, f_started, f_verdict, f_relevant, hands, a_owner, line, won, upd a_goal (pl.length + 1) (nI (g - zp_gain ow T pl c)), a_todo, a_seen, a_keyLengths, a_keyOwners, a_classWord, a_classLengths, a_classMask, a_classOwners, a_nextSlot)) : wpX_advance post (f_handSize, f_dealtSet, nI D, nI pl.length, nI (zp_a ow T ld pl), nI T, f_started, f_verdict, f_relevant, a_hands, a_owner, a_line, a_won, a_goal, a_todo, a_seen, a_keyLengths, a_keyOwners, a_classWord, a_classLengths, a_classMask, a_classOwners, a_nextSlot) := by
  have hn := zp_le st ok
  have hD := st.2.2.2.1
  obtain ⟨f1, f2, f3, f4, f5, f6, f7, f8⟩ := F
  have vn : vp_in (nI pl.length) 17 := vp_in_nI (by omega) (by omega)
  have cn : (nI pl.length).toNatClampNeg = pl.length := nI_clamp (by omega)
  unfold wpX_advance
  dsimp only
  rw [cn]
  refine ⟨vn, nm_r f1 (nm_r (e' := nI (zp_w0 ow T pl)) G.2.2.2.1 ⟨vn, zd_pick st ok G hne (fun c c1 c2 => ?_)⟩)⟩
  have hl := f6 c c1 c2
  refine zx_put st (zp_lg_ok ok hl) G (fun hands line won G' => ?_)
  have g1 := (zp_gain1 (ow := ow) (T := T) (pl := pl) (c := c)).1
  refine ⟨vp_in_nI (by rw [List.length_cons]; omega) (by omega), nm_r (e' := upd a_goal (pl.length + 1) (nI (g - zp_gain ow T pl c))) ?_ (h c hands line won hl c2 G')⟩
  dsimp only
  rw [G'.2.2.2.1, zp_gain_w, pk_sub (Nat.le_add_right _ _), Nat.add_sub_cancel_left, pk_sub (by omega), nI_clamp (by rw [List.length_cons]; omega)]
  rfl
theorem zf_81 {post : Int32 → SX → Prop} {g : Nat} {v : Bool} {R : Int32} (st : zp_st dl ow T ld D) (ok : zp_ok dl ow T ld pl) (G : zx_G dl ow T pl a_hands a_owner a_line a_won) (k12 : D - pl.length ≤ 12) (tt : zk_TT a_classWord a_classLengths a_classMask a_classOwners) (ns : zk_NS a_nextSlot) (hg : a_goal pl.length = nI g) (g1 : 1 ≤ g) (g3 : g ≤ 3)
    (hk : pl.length % 4 = 0 → zt_isL (a_keyLengths pl.length) ow (zp_H dl pl) ∧ zt_isO (a_keyOwners pl.length) ow (zp_H dl pl)) (N : zp_NI dl ow T ld D pl (g : Int) (v = true) (bt R))
    (h : ∀ cw cl cm co ns', zk_TT cw cl cm co → zk_NS ns' → post 1 (f_handSize, f_dealtSet, nI D, nI pl.length, nI (zp_a ow T ld pl), nI T, f_started, zx_b v, R, a_hands, a_owner, a_line, a_won, a_goal, a_todo, a_seen, a_keyLengths, a_keyOwners, cw, cl, cm, co, ns')) : wX_retreat_81 post f_handSize f_dealtSet (nI D) (nI pl.length) (nI (zp_a ow T ld pl)) (nI T) f_started (zx_b v) R a_hands a_owner a_line a_won a_goal a_todo a_seen a_keyLengths a_keyOwners a_classWord a_classLengths a_classMask a_classOwners a_nextSlot := by
  have hn := zp_le st ok
  have hD := st.2.2.2.1
  unfold wX_retreat_81
  refine ⟨by decide, ?_⟩
  rw [zx_rem4 (by omega)]
  refine pk_eq (pl.length % 4) 0 (fun e => ?_) (fun e => ?_)
  · exact zk_remember st ok G e k12 (hk e).1 (hk e).2 tt ns hg g1 g3 N h
  · exact h _ _ _ _ _ tt ns
theorem zf_13 {post : Int32 → SX → Prop} {c g : Nat} {v : Bool} {R Rd : Int32} (st : zp_st dl ow T ld D) (ok : zp_ok dl ow T ld (c :: pl)) (G : zx_G dl ow T (c :: pl) a_hands a_owner a_line a_won) (k12 : D - pl.length ≤ 12) (tt : zk_TT a_classWord a_classLengths a_classMask a_classOwners) (ns : zk_NS a_nextSlot)
    (F : zf_F dl ow T ld D pl g a_goal a_todo a_seen a_keyLengths a_keyOwners) (hc : bt (a_todo pl.length) c = true) (N : zp_NI dl ow T ld D (c :: pl) ((g : Int) - (zp_gain ow T pl c : Int)) (v = true) (bt Rd)) (hs : ∀ q, q < 32 → bt Rd q = true → bt R q = true) (hm : zi_mark T (pl.length % 4) (zp_t pl) c (bt R))
    (h1 : ∀ R' hands won todo seen cw cl cm co ns', zx_G dl ow T pl hands a_owner a_line won → zp_NI dl ow T ld D pl (g : Int) (v = true) (bt R') → zk_TT cw cl cm co → zk_NS ns' → (∀ j, j ≠ pl.length → todo j = a_todo j) → (∀ j, j ≠ pl.length → seen j = a_seen j) → post 1 (f_handSize, f_dealtSet, nI D, nI pl.length, nI (zp_a ow T ld pl), nI T, f_started, zx_b v, R', hands, a_owner, a_line, won, a_goal, todo, seen, a_keyLengths, a_keyOwners, cw, cl, cm, co, ns'))
    (h0 : ∀ R' hands won todo seen, zx_G dl ow T pl hands a_owner a_line won → zf_F dl ow T ld D pl g a_goal todo seen a_keyLengths a_keyOwners → (∃ c, c < 32 ∧ bt (todo pl.length) c = true) → zc_tot (bt (todo pl.length)) < zc_tot (bt (a_todo pl.length)) → (∀ j, j ≠ pl.length → todo j = a_todo j) → (∀ j, j ≠ pl.length → seen j = a_seen j) → post 0 (f_handSize, f_dealtSet, nI D, nI pl.length, nI (zp_a ow T ld pl), nI T, f_started, zx_b v, R', hands, a_owner, a_line, won, a_goal, todo, seen, a_keyLengths, a_keyOwners, a_classWord, a_classLengths, a_classMask, a_classOwners, a_nextSlot)) :
    wX_retreat_13 post f_handSize f_dealtSet (nI D) (nI ((c :: pl)).length) (nI (zp_a ow T ld ((c :: pl)))) (nI T) f_started (zx_b v) R a_hands a_owner a_line a_won a_goal a_todo a_seen a_keyLengths a_keyOwners a_classWord a_classLengths a_classMask a_classOwners a_nextSlot := by
  have hD := st.2.2.2.1
  have hn := zp_le st ok.1
  have ha := zp_a4 st.2.2.1 ok.1
  have wf := zp_wf st.2.2.1 ok.1
  obtain ⟨f1, f2, f3, f4, f5, f6, f7, f8⟩ := F
  have hlg := f6 c ok.2.1 hc
  have hk : D - pl.length = (D - pl.length - 1) + 1 := by omega
  have NC := zp_NI_c hk N
  unfold wX_retreat_13
  refine zx_take st ok G (fun hands won G' => ⟨by decide, ?_⟩)
  have win : (v = true ↔ zp_a ow T ld pl % 2 = 0) → wX_retreat_44 post (nI c) 1 f_handSize f_dealtSet (nI D) (nI pl.length) (nI (zp_a ow T ld pl)) (nI T) f_started (zx_b v) R hands a_owner a_line won a_goal a_todo a_seen a_keyLengths a_keyOwners a_classWord a_classLengths a_classMask a_classOwners a_nextSlot := by
    intro hv
    unfold wX_retreat_44
    have NN : zp_NI dl ow T ld D pl (g : Int) (v = true) (bt R) := by
      unfold zp_NI
      rw [hk]
      exact zi_wins (by omega) (by omega) wf hlg hs hm hv NC
    exact br_f (by decide) (zf_81 st ok.1 G' k12 tt ns f1 f2 f3 f8 NN (fun cw cl cm co ns' t1 t2 => h1 R hands won _ _ cw cl cm co ns' G' NN t1 t2 (fun _ _ => rfl) (fun _ _ => rfl)))
  have lose : (v = true ↔ ¬ zp_a ow T ld pl % 2 = 0) → wX_retreat_44 post (nI c) 0 f_handSize f_dealtSet (nI D) (nI pl.length) (nI (zp_a ow T ld pl)) (nI T) f_started (zx_b v) R hands a_owner a_line won a_goal a_todo a_seen a_keyLengths a_keyOwners a_classWord a_classLengths a_classMask a_classOwners a_nextSlot := by
    intro hv
    unfold wX_retreat_44
    refine br_t rfl (zd_dismiss st ok.1 G' ok.2.1 ok.2.2.1 ok.2.2.2 (fun R' todo' P => ?_))
    obtain ⟨p1, p2, p3, p4⟩ := P
    have vn : vp_in (nI pl.length) 17 := vp_in_nI (by omega) (by omega)
    have cn : (nI pl.length).toNatClampNeg = pl.length := nI_clamp (by omega)
    have hsub : ∀ q, q < 32 → bt R' q = true → bt (a_seen pl.length ||| R') q = true := fun q _ z => by rw [b_or, z, Bool.or_true]
    have hsub2 : ∀ q, q < 32 → bt (a_seen pl.length) q = true → bt (a_seen pl.length ||| R') q = true := fun q _ z => by rw [b_or, z, Bool.true_or]
    have dm : ∀ x, zp_lg dl ow T ld pl x → bt todo' x = false → zi_DM T (D - pl.length - 1) ow (zp_H dl pl) (pl.length % 4) (zp_t pl) (zp_a ow T ld pl) (g : Int) x (bt (a_seen pl.length ||| R')) := by
      intro x hx hx2
      by_cases e : bt (a_todo pl.length) x = true
      · obtain ⟨q1, q2⟩ := p4 x hx.1 e hx2
        exact zi_DM_sub hsub (zi_dism wf hlg hs hm hv NC p1 ⟨hx.1, q1.1, q1.2.1⟩ q1.2.2 q2)
      · exact zi_DM_sub hsub2 (f7 x hx (by simpa using e))
    dsimp only
    rw [cn, pk_us, pk_us]
    refine ⟨vn, br_c (fun z => ⟨vn, nm_e ?_⟩) (fun z => ?_)⟩
    · have NN : zp_NI dl ow T ld D pl (g : Int) (v = true) (bt (a_seen pl.length ||| R')) := by
        unfold zp_NI
        rw [hk]
        refine zi_all (by omega) (by omega) hv (fun x hx => dm x hx ?_)
        rw [z]; exact b_0 x
      exact zf_81 st ok.1 G' k12 tt ns f1 f2 f3 f8 NN (fun cw cl cm co ns' t1 t2 => h1 _ hands won _ _ cw cl cm co ns' G' NN t1 t2 (fun j hj => pk_un hj) (fun j hj => pk_un hj))
    · refine h0 R' hands won _ _ G' ⟨f1, f2, f3, f4, f5, fun x x1 x2 => ?_, fun x x1 x2 => ?_, f8⟩ ?_ ?_ (fun j hj => pk_un hj) (fun j hj => pk_un hj)
      · rw [pk_us] at x2; exact f6 x x1 (p2 x x1 x2)
      · rw [pk_us] at x2 ⊢; exact dm x x1 x2
      · rw [pk_us]
        apply Classical.byContradiction
        intro hno
        apply z
        refine b_ext (fun i hi => ?_)
        rw [b_0]
        by_cases e : bt todo' i = true
        · exact absurd ⟨i, hi, e⟩ hno
        · simpa using e
      · rw [pk_us]
        exact zc_tot_lt ok.2.1 hc p3 p2
  have e36 : ∀ z0, (z0 = 0 ∨ z0 = 1) → (z0 = 1 ↔ zp_a ow T ld pl % 2 = 0) → wX_retreat_36 post (nI c) z0 (zx_b v) f_handSize f_dealtSet (nI D) (nI pl.length) (nI (zp_a ow T ld pl)) (nI T) f_started (zx_b v) R hands a_owner a_line won a_goal a_todo a_seen a_keyLengths a_keyOwners a_classWord a_classLengths a_classMask a_classOwners a_nextSlot := by
    intro z0 h01 hz
    unfold wX_retreat_36
    rcases h01 with e | e
    · subst e
      have hodd : ¬ zp_a ow T ld pl % 2 = 0 := fun w => absurd (hz.mpr w) (by decide)
      cases v with
      | false => exact br_t rfl (win ⟨fun w => absurd w (by decide), fun w => absurd w hodd⟩)
      | true => exact br_f (by decide) (lose ⟨fun _ => hodd, fun _ => rfl⟩)
    · subst e
      have hev := hz.mp rfl
      cases v with
      | false => exact br_f (by decide) (lose ⟨fun w => absurd w (by decide), fun w => absurd hev w⟩)
      | true => exact br_t rfl (win ⟨fun _ => hev, fun _ => rfl⟩)
  rw [zx_rem2 (by omega)]
  refine pk_eq (zp_a ow T ld pl % 2) 0 (fun e => ?_) (fun e => ?_)
  · exact e36 1 (Or.inr rfl) ⟨fun _ => e, fun _ => rfl⟩
  · exact e36 0 (Or.inl rfl) ⟨fun w => absurd w (by decide), fun w => absurd w e⟩
theorem zf_retreat {post : Int32 → SX → Prop} {c g : Nat} {v : Bool} {R : Int32} (st : zp_st dl ow T ld D) (ok : zp_ok dl ow T ld (c :: pl)) (G : zx_G dl ow T (c :: pl) a_hands a_owner a_line a_won) (k12 : D - pl.length ≤ 12) (tt : zk_TT a_classWord a_classLengths a_classMask a_classOwners) (ns : zk_NS a_nextSlot)
    (F : zf_F dl ow T ld D pl g a_goal a_todo a_seen a_keyLengths a_keyOwners) (hc : bt (a_todo pl.length) c = true) (N : zp_NI dl ow T ld D (c :: pl) ((g : Int) - (zp_gain ow T pl c : Int)) (v = true) (bt R))
    (h1 : ∀ R' hands won todo seen cw cl cm co ns', zx_G dl ow T pl hands a_owner a_line won → zp_NI dl ow T ld D pl (g : Int) (v = true) (bt R') → zk_TT cw cl cm co → zk_NS ns' → (∀ j, j ≠ pl.length → todo j = a_todo j) → (∀ j, j ≠ pl.length → seen j = a_seen j) → post 1 (f_handSize, f_dealtSet, nI D, nI pl.length, nI (zp_a ow T ld pl), nI T, f_started, zx_b v, R', hands, a_owner, a_line, won, a_goal, todo, seen, a_keyLengths, a_keyOwners, cw, cl, cm, co, ns'))
    (h0 : ∀ R' hands won todo seen, zx_G dl ow T pl hands a_owner a_line won → zf_F dl ow T ld D pl g a_goal todo seen a_keyLengths a_keyOwners → (∃ c, c < 32 ∧ bt (todo pl.length) c = true) → zc_tot (bt (todo pl.length)) < zc_tot (bt (a_todo pl.length)) → (∀ j, j ≠ pl.length → todo j = a_todo j) → (∀ j, j ≠ pl.length → seen j = a_seen j) → post 0 (f_handSize, f_dealtSet, nI D, nI pl.length, nI (zp_a ow T ld pl), nI T, f_started, zx_b v, R', hands, a_owner, a_line, won, a_goal, todo, seen, a_keyLengths, a_keyOwners, a_classWord, a_classLengths, a_classMask, a_classOwners, a_nextSlot)) :
    wpX_retreat post (f_handSize, f_dealtSet, nI D, nI ((c :: pl)).length, nI (zp_a ow T ld ((c :: pl))), nI T, f_started, zx_b v, R, a_hands, a_owner, a_line, a_won, a_goal, a_todo, a_seen, a_keyLengths, a_keyOwners, a_classWord, a_classLengths, a_classMask, a_classOwners, a_nextSlot) := by
  have hn := zp_le st ok
  have hD := st.2.2.2.1
  rw [List.length_cons] at hn
  unfold wpX_retreat
  refine ⟨by decide, ?_⟩
  rw [List.length_cons, zx_rem4 (by omega)]
  refine pk_eq ((pl.length + 1) % 4) 0 (fun e => ?_) (fun e => ?_)
  · exact zs_mark st ok (by omega) G (fun R' q1 q2 => zf_13 st ok G k12 tt ns F hc N q1 q2 h1 h0)
  · exact zf_13 st ok G k12 tt ns F hc N (fun _ _ z => z) (fun z => by omega) h1 h0
end
end
section
/-! ===== X: decide ===== -/
/-- steps that a node of k held cards may take, once opened -/
def zs_st : Nat → Nat
  | 0 => 0
  | k + 1 => ((k + 1 + 3) / 4) * (2 + zs_st k)
theorem zs_st12 : ∀ k, k < 13 → zs_st k ≤ 15468 := by decide
def zf_pres (n : Nat) (goal todo seen kl : Nat → Int32) (ko : Nat → Int64) (goal' todo' seen' kl' : Nat → Int32) (ko' : Nat → Int64) : Prop :=
  ∀ j, j < n → goal' j = goal j ∧ todo' j = todo j ∧ seen' j = seen j ∧ kl' j = kl j ∧ ko' j = ko j
/-- what follows once pl's node is known, at most xm steps done -/
def zf_K (post : Int32 → SX → Prop) (base : Nat) (dl : Nat → Bool) (ow : Nat → Nat) (T ld D : Nat) (hs ds sta : Int32) (owner : Nat → Int32) (pl : List Nat) (g : Int) (xm : Nat) (goal todo seen kl : Nat → Int32) (ko : Nat → Int64) : Prop :=
  ∀ v R hands line won goal' todo' seen' kl' ko' cw cl cm co ns x4, zx_G dl ow T pl hands owner line won → zp_NI dl ow T ld D pl g (v = true) (bt R) → zk_TT cw cl cm co → zk_NS ns → zf_pres pl.length goal todo seen kl ko goal' todo' seen' kl' ko' → x4 ≤ xm →
    wX_decide_20 post (nI base) (20001 - x4) 1 (nI x4) hs ds (nI D) (nI pl.length) (nI (zp_a ow T ld pl)) (nI T) sta (zx_b v) R hands owner line won goal' todo' seen' kl' ko' cw cl cm co ns
theorem zf_F_pres {dl : Nat → Bool} {ow : Nat → Nat} {T ld D : Nat} {pl : List Nat} {g : Nat} {goal todo seen kl : Nat → Int32} {ko : Nat → Int64} {goal' todo' seen' kl' : Nat → Int32} {ko' : Nat → Int64} (h : zf_pres (pl.length + 1) goal todo seen kl ko goal' todo' seen' kl' ko') (F : zf_F dl ow T ld D pl g goal todo seen kl ko) : zf_F dl ow T ld D pl g goal' todo' seen' kl' ko' := by
  obtain ⟨e1, e2, e3, e4, e5⟩ := h pl.length (Nat.lt_succ_self _)
  unfold zf_F
  rw [e1, e2, e3, e4, e5]
  exact F
section
variable {f_handSize f_dealtSet f_dealt f_count f_toAct f_trumpSuit f_started f_verdict f_relevant : Int32} {a_hands a_owner a_line a_won a_goal a_todo a_seen a_keyLengths a_classWord a_classLengths a_nextSlot : Nat → Int32} {a_keyOwners a_classMask a_classOwners : Nat → Int64}
variable {dl : Nat → Bool} {ow : Nat → Nat} {T ld D : Nat}
theorem zf_ret {post : Int32 → SX → Prop} {pl : List Nat} {base x4 c g : Nat} {v : Bool} {R : Int32} (hb : base ≤ pl.length) (hx : x4 < 20000) (st : zp_st dl ow T ld D) (ok : zp_ok dl ow T ld (c :: pl)) (G : zx_G dl ow T (c :: pl) a_hands a_owner a_line a_won) (k12 : D - pl.length ≤ 12) (tt : zk_TT a_classWord a_classLengths a_classMask a_classOwners) (ns : zk_NS a_nextSlot)
    (F : zf_F dl ow T ld D pl g a_goal a_todo a_seen a_keyLengths a_keyOwners) (hc : bt (a_todo pl.length) c = true) (N : zp_NI dl ow T ld D (c :: pl) ((g : Int) - (zp_gain ow T pl c : Int)) (v = true) (bt R))
    (h1 : ∀ R' hands won todo seen cw cl cm co ns', zx_G dl ow T pl hands a_owner a_line won → zp_NI dl ow T ld D pl (g : Int) (v = true) (bt R') → zk_TT cw cl cm co → zk_NS ns' → (∀ j, j ≠ pl.length → todo j = a_todo j) → (∀ j, j ≠ pl.length → seen j = a_seen j) → wX_decide_20 post (nI base) (20001 - (x4 + 1)) 1 (nI (x4 + 1)) f_handSize f_dealtSet (nI D) (nI pl.length) (nI (zp_a ow T ld pl)) (nI T) f_started (zx_b v) R' hands a_owner a_line won a_goal todo seen a_keyLengths a_keyOwners cw cl cm co ns')
    (h0 : ∀ R' hands won todo seen, zx_G dl ow T pl hands a_owner a_line won → zf_F dl ow T ld D pl g a_goal todo seen a_keyLengths a_keyOwners → (∃ c, c < 32 ∧ bt (todo pl.length) c = true) → zc_tot (bt (todo pl.length)) < zc_tot (bt (a_todo pl.length)) → (∀ j, j ≠ pl.length → todo j = a_todo j) → (∀ j, j ≠ pl.length → seen j = a_seen j) → wX_decide_20 post (nI base) (20001 - (x4 + 1)) 0 (nI (x4 + 1)) f_handSize f_dealtSet (nI D) (nI pl.length) (nI (zp_a ow T ld pl)) (nI T) f_started (zx_b v) R' hands a_owner a_line won a_goal todo seen a_keyLengths a_keyOwners a_classWord a_classLengths a_classMask a_classOwners a_nextSlot) :
    wX_decide_20 post (nI base) (20001 - x4) 1 (nI x4) f_handSize f_dealtSet (nI D) (nI ((c :: pl)).length) (nI (zp_a ow T ld ((c :: pl)))) (nI T) f_started (zx_b v) R a_hands a_owner a_line a_won a_goal a_todo a_seen a_keyLengths a_keyOwners a_classWord a_classLengths a_classMask a_classOwners a_nextSlot := by
  have hn := zp_le st ok
  have hD := st.2.2.2.1
  rw [List.length_cons] at hn
  have e : 20001 - x4 = (20001 - (x4 + 1)) + 1 := by omega
  rw [e]
  refine br_f (nI_ge (b := 20000) hx (by decide)) (br_f (by decide) (br_f (fun z => ?_) ?_))
  · rw [List.length_cons, nI_eq (by omega) (by omega)] at z
    omega
  · unfold wX_decide_40
    refine br_f (by decide) (zf_retreat st ok G k12 tt ns F hc N (fun R' hands won todo seen cw cl cm co ns' q1 q2 q3 q4 q5 q6 => ?_) (fun R' hands won todo seen q1 q2 q3 q4 q5 q6 => ?_))
    · exact nm_r (nI_1 _) (h1 R' hands won todo seen cw cl cm co ns' q1 q2 q3 q4 q5 q6)
    · exact nm_r (nI_1 _) (h0 R' hands won todo seen q1 q2 q3 q4 q5 q6)
theorem zf_K_mono {post : Int32 → SX → Prop} {base : Nat} {hs ds sta : Int32} {owner : Nat → Int32} {pl : List Nat} {g : Int} {xm xm' : Nat} {goal todo seen kl : Nat → Int32} {ko : Nat → Int64} {goal' todo' seen' kl' : Nat → Int32} {ko' : Nat → Int64} (hx : xm' ≤ xm) (hp : zf_pres pl.length goal todo seen kl ko goal' todo' seen' kl' ko')
    (K : zf_K post base dl ow T ld D hs ds sta owner pl g xm goal todo seen kl ko) : zf_K post base dl ow T ld D hs ds sta owner pl g xm' goal' todo' seen' kl' ko' := by
  intro v R hands line won goal2 todo2 seen2 kl2 ko2 cw cl cm co ns x4 q1 q2 q3 q4 q5 q6
  refine K v R hands line won goal2 todo2 seen2 kl2 ko2 cw cl cm co ns x4 q1 q2 q3 q4 (fun j hj => ?_) (Nat.le_trans q6 hx)
  obtain ⟨a1, a2, a3, a4, a5⟩ := hp j hj
  obtain ⟨b1, b2, b3, b4, b5⟩ := q5 j hj
  exact ⟨b1.trans a1, b2.trans a2, b3.trans a3, b4.trans a4, b5.trans a5⟩
theorem zf_many {pl : List Nat} {L : Int32} (st : zp_st dl ow T ld D) (ok : zp_ok dl ow T ld pl) (hL : ∀ c, c < 32 → (bt L c = true ↔ zp_lg dl ow T ld pl c)) : zc_tot (bt L) ≤ (D - pl.length + 3) / 4 := by
  have h1 := zp_mover st ok
  have h2 : zc_tot (bt L) ≤ zc_tot (fun y => zp_H dl pl y && decide (ow y = zp_a ow T ld pl)) := by
    refine zc_tot_le (fun x hx h => ?_)
    have h3 := (hL x hx).mp h
    rw [Bool.and_eq_true, decide_eq_true_iff]
    exact ⟨h3.2.1, h3.2.2.1⟩
  have h3 := st.2.2.2.2.1
  have h4 := zp_le st ok
  omega
theorem zf_solve {post : Int32 → SX → Prop} {base : Nat} {hs ds sta : Int32} {owner : Nat → Int32} (st : zp_st dl ow T ld D) :
    ∀ (k : Nat) (pl : List Nat), D - pl.length = k + 1 → k + 1 ≤ 12 → base ≤ pl.length → zp_ok dl ow T ld pl →
    ∀ (m g : Nat) (vd rl : Int32) (hands line won goal todo seen kl : Nat → Int32) (ko : Nat → Int64) (cw cl : Nat → Int32) (cm co : Nat → Int64) (ns : Nat → Int32) (x4 : Nat), zx_G dl ow T pl hands owner line won → zf_F dl ow T ld D pl g goal todo seen kl ko → (∃ c, c < 32 ∧ bt (todo pl.length) c = true) → zc_tot (bt (todo pl.length)) ≤ m → zk_TT cw cl cm co → zk_NS ns → x4 + m * (2 + zs_st k) ≤ 20000 →
    zf_K post base dl ow T ld D hs ds sta owner pl (g : Int) (x4 + m * (2 + zs_st k)) goal todo seen kl ko →
    wX_decide_20 post (nI base) (20001 - x4) 0 (nI x4) hs ds (nI D) (nI pl.length) (nI (zp_a ow T ld pl)) (nI T) sta vd rl hands owner line won goal todo seen kl ko cw cl cm co ns := by
  intro k
  induction k using Nat.strongRecOn with
  | ind k IH =>
  intro pl hk k12 hb ok m
  induction m with
  | zero =>
    intro g vd rl hands line won goal todo seen kl ko cw cl cm co ns x4 _ _ hne hm
    obtain ⟨c, c1, c2⟩ := hne
    have := zc_ab_tot c1 c2
    omega
  | succ m ihm =>
    intro g vd rl hands line won goal todo seen kl ko cw cl cm co ns x4 G F hne hm tt tn hx K
    have hB : (m + 1) * (2 + zs_st k) = m * (2 + zs_st k) + (2 + zs_st k) := Nat.succ_mul _ _
    rw [hB] at hx K
    have hl5 := F.2.2.2.2.1
    have e : 20001 - x4 = (20001 - (x4 + 1)) + 1 := by omega
    rw [e]
    refine br_f (nI_ge (b := 20000) (by omega) (by decide)) (br_t rfl ?_)
    unfold wX_decide_40
    refine br_t rfl (zf_adv st ok G F hne (fun c hands2 line2 won2 hlg hc G2 => ?_))
    have ok2 := zp_lg_ok ok hlg
    have hg1 := (zp_gain1 (ow := ow) (T := T) (pl := pl) (c := c)).1
    have g1 := F.2.1
    have g3 := F.2.2.1
    have eg : ((g - zp_gain ow T pl c : Nat) : Int) = (g : Int) - (zp_gain ow T pl c : Int) := by omega
    -- once the child is known, at x5
    have back : ∀ v R hands3 line3 won3 goal3 todo3 seen3 kl3 ko3 cw3 cl3 cm3 co3 ns3 x5, zx_G dl ow T (c :: pl) hands3 owner line3 won3 → zp_NI dl ow T ld D (c :: pl) ((g - zp_gain ow T pl c : Nat) : Int) (v = true) (bt R) → zk_TT cw3 cl3 cm3 co3 → zk_NS ns3 → zf_pres (pl.length + 1) goal todo seen kl ko goal3 todo3 seen3 kl3 ko3 → x5 ≤ x4 + 1 + zs_st k →
        wX_decide_20 post (nI base) (20001 - x5) 1 (nI x5) hs ds (nI D) (nI ((c :: pl)).length) (nI (zp_a ow T ld ((c :: pl)))) (nI T) sta (zx_b v) R hands3 owner line3 won3 goal3 todo3 seen3 kl3 ko3 cw3 cl3 cm3 co3 ns3 := by
      intro v R hands3 line3 won3 goal3 todo3 seen3 kl3 ko3 cw3 cl3 cm3 co3 ns3 x5 G3 N3 tt3 tn3 pr hx5
      rw [eg] at N3
      have F3 := zf_F_pres pr F
      have ht3 := (pr pl.length (Nat.lt_succ_self _)).2.1
      have prs : ∀ (todo4 seen4 : Nat → Int32), (∀ j, j ≠ pl.length → todo4 j = todo3 j) → (∀ j, j ≠ pl.length → seen4 j = seen3 j) → zf_pres pl.length goal todo seen kl ko goal3 todo4 seen4 kl3 ko3 := by
        intro todo4 seen4 w1 w2 j hj
        obtain ⟨a1, a2, a3, a4, a5⟩ := pr j (by omega)
        exact ⟨a1, (w1 j (by omega)).trans a2, (w2 j (by omega)).trans a3, a4, a5⟩
      refine zf_ret hb (by omega) st ok2 G3 (by omega) tt3 tn3 F3 (by rw [ht3]; exact hc) N3 (fun R' hands4 won4 todo4 seen4 cw4 cl4 cm4 co4 ns4 q1 q2 q3 q4 q5 q6 => ?_) (fun R' hands4 won4 todo4 seen4 q1 q2 q3 q4 q5 q6 => ?_)
      · exact K v R' hands4 line3 won4 goal3 todo4 seen4 kl3 ko3 cw4 cl4 cm4 co4 ns4 (x5 + 1) q1 q2 q3 q4 (prs todo4 seen4 q5 q6) (by omega)
      · rw [ht3] at q4
        exact ihm g _ _ hands4 line3 won4 goal3 todo4 seen4 kl3 ko3 cw3 cl3 cm3 co3 ns3 (x5 + 1) q1 q2 q3 (by omega) tt3 tn3 (by omega) (zf_K_mono (by omega) (prs todo4 seen4 q5 q6) K)
    refine zs_settle (g := ((g - zp_gain ow T pl c : Nat) : Int)) st ok2 G2 (by rw [List.length_cons]; omega) tt ?_ (fun v R kl3 ko3 N p1 p2 => nm_r (nI_1 _) ?_) (fun gN L kl3 ko3 e1 e2 e3 e4 e5 e6 e7 e8 p1 p2 => nm_r (nI_1 _) ?_)
    · show (upd goal (pl.length + 1) (nI (g - zp_gain ow T pl c)) (pl.length + 1)).toInt = _
      rw [pk_us, nI_toInt (by omega)]
    · refine back v R hands2 line2 won2 _ _ _ _ _ _ _ _ _ _ (x4 + 1) G2 N tt tn (fun j hj => ?_) (by omega)
      exact ⟨pk_un (by omega), rfl, rfl, p1 j (by rw [List.length_cons]; omega), p2 j (by rw [List.length_cons]; omega)⟩
    · rw [List.length_cons] at e5 e6 e8 p1 p2
      have hk2 : k = (k - 1) + 1 := by omega
      have hmany := zf_many st ok2 e7
      rw [List.length_cons] at hmany
      have hst : zs_st k = ((k - 1 + 1 + 3) / 4) * (2 + zs_st (k - 1)) := by
        conv => lhs; rw [hk2]
        rfl
      have hmul : zc_tot (bt L) * (2 + zs_st (k - 1)) ≤ zs_st k := by
        rw [hst]
        refine Nat.mul_le_mul_right _ (Nat.le_trans hmany ?_)
        have : D - (pl.length + 1) = k - 1 + 1 := by omega
        rw [this]
        exact Nat.le_refl _
      have hpr : zf_pres (pl.length + 1) goal todo seen kl ko (upd goal (pl.length + 1) (nI (g - zp_gain ow T pl c))) (upd todo (pl.length + 1) L) (upd seen (pl.length + 1) 0) kl3 ko3 := by
        intro j hj
        exact ⟨pk_un (by omega), pk_un (by omega), pk_un (by omega), p1 j (by omega), p2 j (by omega)⟩
      have F2 : zf_F dl ow T ld D (c :: pl) gN (upd goal (pl.length + 1) (nI (g - zp_gain ow T pl c))) (upd todo (pl.length + 1) L) (upd seen (pl.length + 1) 0) kl3 ko3 := by
        refine ⟨e2, e3, e4, ?_, ?_, fun x x1 x2 => ?_, fun x x1 x2 => ?_, e8⟩
        · rw [List.length_cons]; exact e5
        · rw [List.length_cons]; exact e6
        · rw [List.length_cons, pk_us] at x2; exact (e7 x x1).mp x2
        · rw [List.length_cons, pk_us, (e7 x x1.1).mpr x1] at x2
          exact absurd x2 (by decide)
      obtain ⟨x, hxl⟩ := zp_legal st ok2 (by rw [List.length_cons]; exact e6)
      refine IH (k - 1) (by omega) (c :: pl) (by rw [List.length_cons]; omega) (by omega) (by rw [List.length_cons]; omega) ok2 (zc_tot (bt L)) gN _ _ hands2 line2 won2 _ _ _ _ _ cw cl cm co ns (x4 + 1) G2 F2 ⟨x, hxl.1, ?_⟩ ?_ tt tn (by omega) ?_
      · rw [List.length_cons, pk_us]; exact (e7 x hxl.1).mpr hxl
      · rw [List.length_cons, pk_us]; exact Nat.le_refl _
      · intro v R hands3 line3 won3 goal3 todo3 seen3 kl4 ko4 cw3 cl3 cm3 co3 ns3 x5 q1 q2 q3 q4 q5 q6
        rw [← e1] at q2
        refine back v R hands3 line3 won3 goal3 todo3 seen3 kl4 ko4 cw3 cl3 cm3 co3 ns3 x5 q1 q2 q3 q4 (fun j hj => ?_) (by omega)
        obtain ⟨a1, a2, a3, a4, a5⟩ := hpr j hj
        obtain ⟨b1, b2, b3, b4, b5⟩ := q5 j (by rw [List.length_cons]; exact hj)
        exact ⟨b1.trans a1, b2.trans a2, b3.trans a3, b4.trans a4, b5.trans a5⟩
/-- decide: the value of the position at the goal p0 -/
theorem zf_decide {post : Int32 → SX → Prop} {pl : List Nat} {p0 : Int32} (st : zp_st dl ow T ld D) (ok : zp_ok dl ow T ld pl) (G : zx_G dl ow T pl a_hands a_owner a_line a_won) (k12 : D - pl.length ≤ 12) (tt : zk_TT a_classWord a_classLengths a_classMask a_classOwners) (ns : zk_NS a_nextSlot)
    (h : ∀ v R hands line won goal todo seen kl ko cw cl cm co ns', zx_G dl ow T pl hands a_owner line won → (zp_W dl ow T ld D pl p0.toInt ↔ v = true) → zk_TT cw cl cm co → zk_NS ns' → post (zx_b v) (f_handSize, f_dealtSet, nI D, nI pl.length, nI (zp_a ow T ld pl), nI T, f_started, zx_b v, R, hands, a_owner, line, won, goal, todo, seen, kl, ko, cw, cl, cm, co, ns')) : wpX_decide post (f_handSize, f_dealtSet, nI D, nI pl.length, nI (zp_a ow T ld pl), nI T, f_started, f_verdict, f_relevant, a_hands, a_owner, a_line, a_won, a_goal, a_todo, a_seen, a_keyLengths, a_keyOwners, a_classWord, a_classLengths, a_classMask, a_classOwners, a_nextSlot) p0 := by
  have hn := zp_le st ok
  have hD := st.2.2.2.1
  have fin : ∀ v R hands line won goal todo seen kl ko cw cl cm co ns' x4, zx_G dl ow T pl hands a_owner line won → zp_NI dl ow T ld D pl p0.toInt (v = true) (bt R) → zk_TT cw cl cm co → zk_NS ns' → x4 ≤ 20000 →
      wX_decide_20 post (nI pl.length) (20001 - x4) 1 (nI x4) f_handSize f_dealtSet (nI D) (nI pl.length) (nI (zp_a ow T ld pl)) (nI T) f_started (zx_b v) R hands a_owner line won goal todo seen kl ko cw cl cm co ns' := by
    intro v R hands line won goal todo seen kl ko cw cl cm co ns' x4 q1 q2 q3 q4 q5
    have e : 20001 - x4 = (20000 - x4) + 1 := by omega
    rw [e]
    have done := h v R hands line won goal todo seen kl ko cw cl cm co ns' q1 (zp_NI_W st.2.2.1 ok q2) q3 q4
    exact br_c (fun _ => ⟨(zk_nb v).1, done⟩) (fun _ => br_f (by decide) (br_t rfl ⟨(zk_nb v).1, done⟩))
  unfold wpX_decide
  refine ⟨vp_in_nI (by omega) (by omega), nm_r (e' := upd a_goal pl.length p0) (by rw [nI_clamp (by omega)]) ?_⟩
  refine zs_settle (g := p0.toInt) st ok G k12 tt (by rw [pk_us]) (fun v R kl ko N p1 p2 => ⟨20001 - 0, ?_⟩) (fun gN L kl ko e1 e2 e3 e4 e5 e6 e7 e8 p1 p2 => ⟨20001 - 0, ?_⟩)
  · exact fin v R _ _ _ _ _ _ _ _ _ _ _ _ _ 0 G N tt ns (by omega)
  · have hmany := zf_many st ok e7
    have hk : D - pl.length = (D - pl.length - 1) + 1 := by omega
    have hst : zs_st (D - pl.length) = ((D - pl.length + 3) / 4) * (2 + zs_st (D - pl.length - 1)) := by
      conv => lhs; rw [hk]
      show ((D - pl.length - 1 + 1 + 3) / 4) * (2 + zs_st (D - pl.length - 1)) = _
      rw [← hk]
    have hmul : zc_tot (bt L) * (2 + zs_st (D - pl.length - 1)) ≤ zs_st (D - pl.length) := by
      rw [hst]
      exact Nat.mul_le_mul_right _ hmany
    have h12 := zs_st12 (D - pl.length) (by omega)
    obtain ⟨x, hxl⟩ := zp_legal st ok e6
    refine zf_solve st (D - pl.length - 1) pl hk (by omega) (Nat.le_refl _) ok (zc_tot (bt L)) gN _ _ a_hands a_line a_won _ _ _ _ _ _ _ _ _ _ 0 G ⟨e2, e3, e4, e5, e6, fun x x1 x2 => ?_, fun x x1 x2 => ?_, e8⟩ ⟨x, hxl.1, ?_⟩ ?_ tt ns (by omega) ?_
    · rw [pk_us] at x2; exact (e7 x x1).mp x2
    · rw [pk_us, (e7 x x1.1).mpr x1] at x2
      exact absurd x2 (by decide)
    · rw [pk_us]; exact (e7 x hxl.1).mpr hxl
    · rw [pk_us]; exact Nat.le_refl _
    · intro v R hands3 line3 won3 goal3 todo3 seen3 kl4 ko4 cw3 cl3 cm3 co3 ns3 x5 q1 q2 q3 q4 q5 q6
      rw [← e1] at q2
      exact fin v R hands3 line3 won3 goal3 todo3 seen3 kl4 ko4 cw3 cl3 cm3 co3 ns3 x5 q1 q2 q3 q4 (by omega)
end
end
section
/-! ===== the value of a position ===== -/
def zv_left (D : Nat) (pl : List Nat) : Nat := (D - pl.length + 3) / 4
def zv_V (dl : Nat → Bool) (ow : Nat → Nat) (T ld D : Nat) (pl : List Nat) (v : Nat) : Prop := v ≤ zv_left D pl ∧ ∀ g : Int, zp_W dl ow T ld D pl g ↔ g ≤ (v : Int)
theorem zv_ex (dl : Nat → Bool) (ow : Nat → Nat) (T ld D : Nat) (pl : List Nat) : ∃ v, zv_V dl ow T ld D pl v := by
  have h : ∀ n : Nat, (∃ v, v ≤ n ∧ zp_W dl ow T ld D pl (v : Int) ∧ ¬ zp_W dl ow T ld D pl ((v : Int) + 1)) ∨ zp_W dl ow T ld D pl ((n : Int) + 1) := by
    intro n
    induction n with
    | zero =>
      by_cases c : zp_W dl ow T ld D pl (((0 : Nat) : Int) + 1)
      · exact Or.inr c
      · exact Or.inl ⟨0, Nat.le_refl _, zg_W_le (by omega), c⟩
    | succ n ih =>
      rcases ih with ⟨v, v1, v2⟩ | ih
      · exact Or.inl ⟨v, by omega, v2⟩
      · by_cases c : zp_W dl ow T ld D pl (((n + 1 : Nat) : Int) + 1)
        · exact Or.inr c
        · exact Or.inl ⟨n + 1, Nat.le_refl _, ih, c⟩
  rcases h (zv_left D pl) with ⟨v, v1, v2, v3⟩ | h
  · refine ⟨v, v1, fun g => ⟨fun w => ?_, fun w => zg_W_mono w v2⟩⟩
    apply Classical.byContradiction
    intro c
    exact v3 (zg_W_mono (by omega) w)
  · exact absurd h (zg_W_gt (by omega) (by unfold zv_left; omega))
noncomputable def zv_v (dl : Nat → Bool) (ow : Nat → Nat) (T ld D : Nat) (pl : List Nat) : Nat := Classical.epsilon (fun v => zv_V dl ow T ld D pl v)
theorem zv_is (dl : Nat → Bool) (ow : Nat → Nat) (T ld D : Nat) (pl : List Nat) : zv_V dl ow T ld D pl (zv_v dl ow T ld D pl) := Classical.epsilon_spec (zv_ex dl ow T ld D pl)
theorem zv_uniq {dl : Nat → Bool} {ow : Nat → Nat} {T ld D : Nat} {pl : List Nat} {v : Nat} (h : ∀ g : Int, zp_W dl ow T ld D pl g ↔ g ≤ (v : Int)) : zv_v dl ow T ld D pl = v := by
  have h2 := (zv_is dl ow T ld D pl).2
  have a := (h2 v).mp ((h v).mpr (Int.le_refl _))
  have b := (h _).mp ((h2 (zv_v dl ow T ld D pl)).mpr (Int.le_refl _))
  omega
/-- tricks of side 0 from pl on, if card c is played -/
noncomputable def zv_x (dl : Nat → Bool) (ow : Nat → Nat) (T ld D : Nat) (pl : List Nat) (c : Nat) : Nat := zp_gain ow T pl c + zv_v dl ow T ld D (c :: pl)
/-- the side of the seat to act: its value by card c, and at all -/
noncomputable def zv_c (dl : Nat → Bool) (ow : Nat → Nat) (T ld D : Nat) (pl : List Nat) (c : Nat) : Nat := if zp_a ow T ld pl % 2 = 0 then zv_x dl ow T ld D pl c else zv_left D pl - zv_x dl ow T ld D pl c
noncomputable def zv_s (dl : Nat → Bool) (ow : Nat → Nat) (T ld D : Nat) (pl : List Nat) : Nat := if zp_a ow T ld pl % 2 = 0 then zv_v dl ow T ld D pl else zv_left D pl - zv_v dl ow T ld D pl
section
variable {dl : Nat → Bool} {ow : Nat → Nat} {T ld D : Nat} {pl : List Nat}
theorem zv_x_le (h : D % 4 = 0) (hl : pl.length < D) (c : Nat) : zv_x dl ow T ld D pl c ≤ zv_left D pl := by
  have h1 := (zv_is dl ow T ld D (c :: pl)).1
  have h2 := zp_gain1 (ow := ow) (T := T) (pl := pl) (c := c)
  unfold zv_left at h1 ⊢
  rw [List.length_cons] at h1
  unfold zv_x
  by_cases e : pl.length % 4 = 3
  · omega
  · have := h2.2 e
    omega
theorem zv_chW (c : Nat) (g : Int) : zp_W dl ow T ld D (c :: pl) (g - (zp_gain ow T pl c : Int)) ↔ g ≤ (zv_x dl ow T ld D pl c : Int) := by
  rw [(zv_is dl ow T ld D (c :: pl)).2]
  unfold zv_x
  omega
theorem zv_even (st : zp_st dl ow T ld D) (ok : zp_ok dl ow T ld pl) (hl : pl.length < D) (e : zp_a ow T ld pl % 2 = 0) : (∀ c, zp_lg dl ow T ld pl c → zv_x dl ow T ld D pl c ≤ zv_v dl ow T ld D pl) ∧ ∃ c, zp_lg dl ow T ld pl c ∧ zv_x dl ow T ld D pl c = zv_v dl ow T ld D pl := by
  have hW := fun g => (zv_is dl ow T ld D pl).2 g
  have h1 : ∀ c, zp_lg dl ow T ld pl c → zv_x dl ow T ld D pl c ≤ zv_v dl ow T ld D pl := by
    intro c hc
    have h2 := (hW (zv_x dl ow T ld D pl c)).mp ((zp_W_s hl).mpr (Or.inr ⟨by have := zv_x_le (dl := dl) (ow := ow) (T := T) (ld := ld) st.2.2.2.2.1 hl c; unfold zv_left at this; omega, Or.inl ⟨e, c, hc, (zv_chW c _).mpr (Int.le_refl _)⟩⟩))
    omega
  refine ⟨h1, ?_⟩
  rcases (zp_W_s hl).mp ((hW (zv_v dl ow T ld D pl)).mpr (Int.le_refl _)) with z | ⟨_, ⟨_, c, hc, z⟩ | ⟨z, _⟩⟩
  · obtain ⟨c, hc⟩ := zp_legal st ok hl
    have := h1 c hc
    exact ⟨c, hc, by omega⟩
  · have h3 := (zv_chW c _).mp z
    have := h1 c hc
    exact ⟨c, hc, by omega⟩
  · exact absurd e z
theorem zv_odd (st : zp_st dl ow T ld D) (ok : zp_ok dl ow T ld pl) (hl : pl.length < D) (e : ¬ zp_a ow T ld pl % 2 = 0) : (∀ c, zp_lg dl ow T ld pl c → zv_v dl ow T ld D pl ≤ zv_x dl ow T ld D pl c) ∧ ∃ c, zp_lg dl ow T ld pl c ∧ zv_x dl ow T ld D pl c = zv_v dl ow T ld D pl := by
  have hW := fun g => (zv_is dl ow T ld D pl).2 g
  have h1 : ∀ c, zp_lg dl ow T ld pl c → zv_v dl ow T ld D pl ≤ zv_x dl ow T ld D pl c := by
    intro c hc
    rcases (zp_W_s hl).mp ((hW (zv_v dl ow T ld D pl)).mpr (Int.le_refl _)) with z | ⟨_, ⟨z, _⟩ | ⟨_, z⟩⟩
    · omega
    · exact absurd z e
    · have := (zv_chW c _).mp (z c hc)
      omega
  refine ⟨h1, ?_⟩
  apply Classical.byContradiction
  intro hno
  have h2 : ∀ c, zp_lg dl ow T ld pl c → zv_v dl ow T ld D pl + 1 ≤ zv_x dl ow T ld D pl c := by
    intro c hc
    have := h1 c hc
    by_cases q : zv_x dl ow T ld D pl c = zv_v dl ow T ld D pl
    · exact absurd ⟨c, hc, q⟩ hno
    · omega
  obtain ⟨c0, hc0⟩ := zp_legal st ok hl
  have h3 := h2 c0 hc0
  have h4 := zv_x_le (dl := dl) (ow := ow) (T := T) (ld := ld) st.2.2.2.2.1 hl c0
  unfold zv_left at h4
  have h5 := (hW ((zv_v dl ow T ld D pl : Int) + 1)).mp ((zp_W_s hl).mpr (Or.inr ⟨by omega, Or.inr ⟨e, fun c hc => (zv_chW c _).mpr (by have := h2 c hc; omega)⟩⟩))
  omega
theorem zv_best (st : zp_st dl ow T ld D) (ok : zp_ok dl ow T ld pl) (hl : pl.length < D) : (∀ c, zp_lg dl ow T ld pl c → zv_c dl ow T ld D pl c ≤ zv_s dl ow T ld D pl) ∧ ∃ c, zp_lg dl ow T ld pl c ∧ zv_c dl ow T ld D pl c = zv_s dl ow T ld D pl := by
  unfold zv_c zv_s
  by_cases e : zp_a ow T ld pl % 2 = 0
  · obtain ⟨a, c, c1, c2⟩ := zv_even st ok hl e
    exact ⟨fun c hc => by rw [if_pos e, if_pos e]; exact a c hc, c, c1, by rw [if_pos e, if_pos e]; exact c2⟩
  · obtain ⟨a, c, c1, c2⟩ := zv_odd st ok hl e
    exact ⟨fun c hc => by rw [if_neg e, if_neg e]; have := a c hc; omega, c, c1, by rw [if_neg e, if_neg e, c2]⟩
/-- a best card, told by side 0's tricks -/
theorem zv_c_iff (st : zp_st dl ow T ld D) (ok : zp_ok dl ow T ld pl) (hl : pl.length < D) {c : Nat} (hc : zp_lg dl ow T ld pl c) : zv_c dl ow T ld D pl c = zv_s dl ow T ld D pl ↔ (if zp_a ow T ld pl % 2 = 0 then zv_v dl ow T ld D pl ≤ zv_x dl ow T ld D pl c else zv_x dl ow T ld D pl c ≤ zv_v dl ow T ld D pl) := by
  have h4 := zv_x_le (dl := dl) (ow := ow) (T := T) (ld := ld) st.2.2.2.2.1 hl c
  unfold zv_c zv_s
  by_cases e : zp_a ow T ld pl % 2 = 0
  · rw [if_pos e, if_pos e, if_pos e]
    have := (zv_even st ok hl e).1 c hc
    omega
  · rw [if_neg e, if_neg e, if_neg e]
    have := (zv_odd st ok hl e).1 c hc
    omega
end
end
section
/-! ===== X: the questions ===== -/
/-- u is X's state at pl, the game started -/
def zx_I (dl : Nat → Bool) (ow : Nat → Nat) (T ld D : Nat) (hs ds : Int32) (owner : Nat → Int32) (pl : List Nat) (u : SX) : Prop :=
  ∃ vd R hands line won goal todo seen kl ko cw cl cm co ns, (zx_G dl ow T pl hands owner line won ∧ zk_TT cw cl cm co ∧ zk_NS ns) ∧ u = (hs, ds, nI D, nI pl.length, nI (zp_a ow T ld pl), nI T, 1, vd, R, hands, owner, line, won, goal, todo, seen, kl, ko, cw, cl, cm, co, ns)
/-- why p0 can't be played: the answer r -/
def zr_ref (dl : Nat → Bool) (ow : Nat → Nat) (T ld D : Nat) (pl : List Nat) (p0 r : Int32) : Prop :=
  (D ≤ pl.length ∧ r = -1) ∨ (pl.length < D ∧ (((p0 < 0 ∨ ¬ p0 ≤ 31) ∧ r = -2) ∨ ∃ c, c < 32 ∧ p0 = nI c ∧
    ((¬ (zp_H dl pl c = true ∧ ow c = zp_a ow T ld pl) ∧ r = -8) ∨ ((zp_H dl pl c = true ∧ ow c = zp_a ow T ld pl) ∧ ¬ zp_lg dl ow T ld pl c ∧ r = -9) ∨ (zp_lg dl ow T ld pl c ∧ r = 0))))
theorem zr_31 : (31 : Int32).toInt = (31 : Nat) := rfl
theorem zr_ref_u {dl : Nat → Bool} {ow : Nat → Nat} {T ld D : Nat} {pl : List Nat} {p0 r r' : Int32} (h : zr_ref dl ow T ld D pl p0 r) (h' : zr_ref dl ow T ld D pl p0 r') : r' = r := by
  have out : ∀ c, c < 32 → p0 = nI c → ¬ (p0 < 0 ∨ ¬ p0 ≤ 31) := by
    intro c hc e z
    rw [e] at z
    rcases z with z | z
    · exact nI_pos (by omega) z
    · exact z (nI_le (a := c) (b := 31) (by omega) (by omega))
  rcases h with ⟨a1, a2⟩ | ⟨a1, a2⟩ <;> rcases h' with ⟨b1, b2⟩ | ⟨b1, b2⟩
  · rw [a2, b2]
  · omega
  · omega
  · rcases a2 with ⟨a2, a3⟩ | ⟨c, c1, c2, c3⟩ <;> rcases b2 with ⟨b2, b3⟩ | ⟨d, d1, d2, d3⟩
    · rw [a3, b3]
    · exact absurd a2 (out d d1 d2)
    · exact absurd b2 (out c c1 c2)
    · have e : c = d := by
        rw [c2, nI_eq (by omega) (by omega)] at d2
        exact d2
      subst e
      rcases c3 with ⟨c3, c4⟩ | ⟨c3, c4, c5⟩ | ⟨c3, c4⟩ <;> rcases d3 with ⟨d3, d4⟩ | ⟨d3, d4, d5⟩ | ⟨d3, d4⟩
      · rw [c4, d4]
      · exact absurd d3 c3
      · exact absurd ⟨d3.2.1, d3.2.2.1⟩ c3
      · exact absurd c3 d3
      · rw [c5, d5]
      · exact absurd d3 c4
      · exact absurd ⟨c3.2.1, c3.2.2.1⟩ d3
      · exact absurd c3 d4
      · rw [c4, d4]
theorem zr_ref_0 {dl : Nat → Bool} {ow : Nat → Nat} {T ld D : Nat} {pl : List Nat} {p0 : Int32} (h : zr_ref dl ow T ld D pl p0 0) : ∃ c, c < 32 ∧ p0 = nI c ∧ zp_lg dl ow T ld pl c ∧ pl.length < D := by
  rcases h with ⟨_, h⟩ | ⟨h0, ⟨_, h⟩ | ⟨c, c1, c2, ⟨_, h⟩ | ⟨_, _, h⟩ | ⟨h, _⟩⟩⟩
  · exact absurd h (by decide)
  · exact absurd h (by decide)
  · exact absurd h (by decide)
  · exact absurd h (by decide)
  · exact ⟨c, c1, c2, h, h0⟩
section
variable {f_handSize f_dealtSet f_dealt f_count f_toAct f_trumpSuit f_started f_verdict f_relevant : Int32} {a_hands a_owner a_line a_won a_goal a_todo a_seen a_keyLengths a_classWord a_classLengths a_nextSlot : Nat → Int32} {a_keyOwners a_classMask a_classOwners : Nat → Int64}
variable {dl : Nat → Bool} {ow : Nat → Nat} {T ld D : Nat} {pl : List Nat} {hs ds : Int32} {owner : Nat → Int32}
theorem zx_Ie {P : SX → Prop} {u : SX} (h : ∀ vd R hands line won goal todo seen kl ko cw cl cm co ns, zx_G dl ow T pl hands owner line won → zk_TT cw cl cm co → zk_NS ns → P (hs, ds, nI D, nI pl.length, nI (zp_a ow T ld pl), nI T, 1, vd, R, hands, owner, line, won, goal, todo, seen, kl, ko, cw, cl, cm, co, ns)) (I : zx_I dl ow T ld D hs ds owner pl u) : P u := by
  obtain ⟨vd, R, hands, line, won, goal, todo, seen, kl, ko, cw, cl, cm, co, ns, ⟨g, t, n⟩, e⟩ := I
  rw [e]
  exact h vd R hands line won goal todo seen kl ko cw cl cm co ns g t n
theorem zx_Im {vd R : Int32} {hands line won goal todo seen kl : Nat → Int32} {ko : Nat → Int64} {cw cl : Nat → Int32} {cm co : Nat → Int64} {ns : Nat → Int32} (G : zx_G dl ow T pl hands owner line won) (t : zk_TT cw cl cm co) (n : zk_NS ns) : zx_I dl ow T ld D hs ds owner pl (hs, ds, nI D, nI pl.length, nI (zp_a ow T ld pl), nI T, 1, vd, R, hands, owner, line, won, goal, todo, seen, kl, ko, cw, cl, cm, co, ns) :=
  ⟨vd, R, hands, line, won, goal, todo, seen, kl, ko, cw, cl, cm, co, ns, ⟨G, t, n⟩, rfl⟩
theorem zx_dec {post : Int32 → SX → Prop} {u : SX} {p0 : Int32} (st : zp_st dl ow T ld D) (ok : zp_ok dl ow T ld pl) (k12 : D - pl.length ≤ 12) (I : zx_I dl ow T ld D hs ds owner pl u) (h : ∀ v u', zx_I dl ow T ld D hs ds owner pl u' → (zp_W dl ow T ld D pl p0.toInt ↔ v = true) → post (zx_b v) u') : wpX_decide post u p0 := by
  obtain ⟨vd, R, hands, line, won, goal, todo, seen, kl, ko, cw, cl, cm, co, ns, ⟨G, t, n⟩, rfl⟩ := I
  exact zf_decide st ok G k12 t n (fun v R' hands' line' won' goal' todo' seen' kl' ko' cw' cl' cm' co' ns' g1 g2 g3 g4 => h v _ (zx_Im g1 g3 g4) g2)
theorem zx_Iput {post : SX → Prop} {u : SX} {c : Nat} (st : zp_st dl ow T ld D) (ok : zp_ok dl ow T ld (c :: pl)) (I : zx_I dl ow T ld D hs ds owner pl u) (h : ∀ u', zx_I dl ow T ld D hs ds owner (c :: pl) u' → post u') : wpX_put post u (nI c) := by
  obtain ⟨vd, R, hands, line, won, goal, todo, seen, kl, ko, cw, cl, cm, co, ns, ⟨G, t, n⟩, rfl⟩ := I
  exact zx_put st ok G (fun hands' line' won' g => h _ (zx_Im g t n))
theorem zx_Itake {post : Int32 → SX → Prop} {u : SX} {c : Nat} (st : zp_st dl ow T ld D) (ok : zp_ok dl ow T ld (c :: pl)) (I : zx_I dl ow T ld D hs ds owner (c :: pl) u) (h : ∀ u', zx_I dl ow T ld D hs ds owner pl u' → post (nI c) u') : wpX_takeBack post u := by
  obtain ⟨vd, R, hands, line, won, goal, todo, seen, kl, ko, cw, cl, cm, co, ns, ⟨G, t, n⟩, rfl⟩ := I
  exact zx_take st ok G (fun hands' won' g => h _ (zx_Im g t n))
theorem zx_tozLoop {post : Int32 → SX → Prop} (st : zp_st dl ow T ld D) (ok : zp_ok dl ow T ld pl) (k12 : D - pl.length ≤ 12) (h : ∀ u', zx_I dl ow T ld D hs ds owner pl u' → post (nI (zv_v dl ow T ld D pl)) u') :
    ∀ d t u, t + d = zv_left D pl → t ≤ zv_v dl ow T ld D pl → zx_I dl ow T ld D hs ds owner pl u → (match u with | (f_handSize, f_dealtSet, f_dealt, f_count, f_toAct, f_trumpSuit, f_started, f_verdict, f_relevant, a_hands, a_owner, a_line, a_won, a_goal, a_todo, a_seen, a_keyLengths, a_keyOwners, a_classWord, a_classLengths, a_classMask, a_classOwners, a_nextSlot) => wX_tricksOfZero_9 post (nI (zv_left D pl)) (d + 1) (nI t) (nI (t + 1)) f_handSize f_dealtSet f_dealt f_count f_toAct f_trumpSuit f_started f_verdict f_relevant a_hands a_owner a_line a_won a_goal a_todo a_seen a_keyLengths a_keyOwners a_classWord a_classLengths a_classMask a_classOwners a_nextSlot) := by
  have hv := zv_is dl ow T ld D pl
  have hll : zv_left D pl ≤ 3 := by unfold zv_left; omega
  intro d
  induction d with
  | zero =>
    intro t u ht htv I
    obtain ⟨vd, R, hands, line, won, goal, todo, seen, kl, ko, cw, cl, cm, co, ns, ⟨G, tt, n⟩, rfl⟩ := I
    have e : t = zv_v dl ow T ld D pl := by have := hv.1; omega
    refine br_t (nI_lt (by omega) (by omega)) ?_
    rw [e]
    exact h _ (zx_Im G tt n)
  | succ d ih =>
    intro t u ht htv I
    obtain ⟨vd, R, hands, line, won, goal, todo, seen, kl, ko, cw, cl, cm, co, ns, ⟨G, tt, n⟩, rfl⟩ := I
    refine br_f (nI_nlt (by omega) (by omega)) (zx_dec st ok k12 (zx_Im G tt n) (fun v u' I' hw => ?_))
    rw [nI_toInt (by omega), hv.2] at hw
    have I2 := I'
    cases v with
    | false =>
      have : ¬ ((t + 1 : Nat) : Int) ≤ (zv_v dl ow T ld D pl : Int) := fun z => absurd (hw.mp z) (by decide)
      have e : t = zv_v dl ow T ld D pl := by omega
      obtain ⟨vd, R, hands, line, won, goal, todo, seen, kl, ko, cw, cl, cm, co, ns, ⟨G, tt, n⟩, rfl⟩ := I'
      refine br_t rfl ?_
      rw [e]
      exact h _ (zx_Im G tt n)
    | true =>
      have hle := hw.mpr rfl
      have h0 := ih (t + 1) u' (by omega) (by omega) I'
      obtain ⟨vd, R, hands, line, won, goal, todo, seen, kl, ko, cw, cl, cm, co, ns, ⟨G, tt, n⟩, rfl⟩ := I'
      exact br_f (by decide) (nm_r (nI_1 _) h0)
theorem zx_toz {post : Int32 → SX → Prop} {u : SX} (st : zp_st dl ow T ld D) (ok : zp_ok dl ow T ld pl) (k12 : D - pl.length ≤ 12) (I : zx_I dl ow T ld D hs ds owner pl u) (h : ∀ u', zx_I dl ow T ld D hs ds owner pl u' → post (nI (zv_v dl ow T ld D pl)) u') : wpX_tricksOfZero post u := by
  have h0 := zx_tozLoop st ok k12 h (zv_left D pl) 0 u (by omega) (by omega) I
  obtain ⟨vd, R, hands, line, won, goal, todo, seen, kl, ko, cw, cl, cm, co, ns, ⟨G, tt, n⟩, rfl⟩ := I
  unfold wpX_tricksOfZero
  exact zs_left (zp_le st ok) st.2.2.2.1 ⟨_, h0⟩
theorem zx_solv {post : Int32 → Prop} (st : zp_st dl ow T ld D) (ok : zp_ok dl ow T ld pl) (h1 : D ≤ pl.length → post (-1)) (h2 : pl.length < D → 12 < D - pl.length → post (-11)) (h3 : pl.length < D → D - pl.length ≤ 12 → post 0) : wpX_solvingRefusal post (f_handSize, f_dealtSet, nI D, nI pl.length, nI (zp_a ow T ld pl), nI T, 1, f_verdict, f_relevant, a_hands, a_owner, a_line, a_won, a_goal, a_todo, a_seen, a_keyLengths, a_keyOwners, a_classWord, a_classLengths, a_classMask, a_classOwners, a_nextSlot) := by
  have hn := zp_le st ok
  have hD := st.2.2.2.1
  unfold wpX_solvingRefusal
  unfold wpX_phase
  refine br_f (by decide) (pk_le D pl.length (fun q => ?_) (fun q => ?_))
  · exact br_f (by decide) (h1 q)
  · have e : nI D - nI pl.length = nI (D - pl.length) := pk_sub hn
    rw [e]
    exact br_t rfl (pk_le (D - pl.length) 12 (fun w => h3 q w) (fun w => h2 q w))
theorem zx_ref {post : Int32 → Prop} {p0 : Int32} (st : zp_st dl ow T ld D) (ok : zp_ok dl ow T ld pl) (G : zx_G dl ow T pl a_hands a_owner a_line a_won) (h : ∀ r, zr_ref dl ow T ld D pl p0 r → post r) : wpX_refusal post (f_handSize, f_dealtSet, nI D, nI pl.length, nI (zp_a ow T ld pl), nI T, 1, f_verdict, f_relevant, a_hands, a_owner, a_line, a_won, a_goal, a_todo, a_seen, a_keyLengths, a_keyOwners, a_classWord, a_classLengths, a_classMask, a_classOwners, a_nextSlot) p0 := by
  have hn := zp_le st ok
  have hD := st.2.2.2.1
  have ha := zp_a4 st.2.2.1 ok
  unfold wpX_refusal
  unfold wpX_phase
  refine br_f (by decide) (pk_le D pl.length (fun q => ?_) (fun q => ?_))
  · exact br_f (by decide) (h _ (Or.inl ⟨q, rfl⟩))
  · refine br_t rfl (br_c (fun w => h _ (Or.inr ⟨q, Or.inl ⟨Or.inl w, rfl⟩⟩)) (fun w => br_c (fun w2 => ?_) (fun w2 => h _ (Or.inr ⟨q, Or.inl ⟨Or.inr w2, rfl⟩⟩))))
    obtain ⟨c, c1, c2⟩ := nI_of2 zr_31 w w2
    have c32 : c < 32 := by omega
    subst c2
    have cH := G.1 (zp_a ow T ld pl) c ha c32
    refine ⟨vp_in_nI ha (by omega), zx_has _ _ c32 ?_⟩
    rw [nI_clamp (by omega), cH]
    by_cases e : zp_H dl pl c = true ∧ ow c = zp_a ow T ld pl
    · have e1 : (zp_H dl pl c && decide (ow c = zp_a ow T ld pl)) = true := by rw [e.1, decide_eq_true e.2]; rfl
      rw [e1]
      refine br_f (by decide) (zx_legal st ok G (fun L hL => zx_has _ _ c32 ?_))
      by_cases e2 : bt L c = true
      · rw [e2]
        exact br_f (by decide) (h _ (Or.inr ⟨q, Or.inr ⟨c, c32, rfl, Or.inr (Or.inr ⟨(hL c c32).mp e2, rfl⟩)⟩⟩))
      · have e3 : bt L c = false := by simpa using e2
        rw [e3]
        exact br_t rfl (h _ (Or.inr ⟨q, Or.inr ⟨c, c32, rfl, Or.inr (Or.inl ⟨e, fun z => e2 ((hL c c32).mpr z), rfl⟩)⟩⟩))
    · have e1 : (zp_H dl pl c && decide (ow c = zp_a ow T ld pl)) = false := by
        cases hh : zp_H dl pl c with
        | false => rfl
        | true => rw [decide_eq_false (fun z => e ⟨hh, z⟩)]; rfl
      rw [e1]
      exact br_t rfl (h _ (Or.inr ⟨q, Or.inr ⟨c, c32, rfl, Or.inl ⟨e, rfl⟩⟩⟩))
theorem zx_canWin {post : Int32 → SX → Prop} {u : SX} {p0 : Int32} (st : zp_st dl ow T ld D) (ok : zp_ok dl ow T ld pl) (I : zx_I dl ow T ld D hs ds owner pl u) (h1 : D ≤ pl.length → ∀ u', zx_I dl ow T ld D hs ds owner pl u' → post (-1) u') (h2 : pl.length < D → 12 < D - pl.length → ∀ u', zx_I dl ow T ld D hs ds owner pl u' → post (-11) u')
    (h3 : pl.length < D → D - pl.length ≤ 12 → ∀ u', zx_I dl ow T ld D hs ds owner pl u' → post (zx_b (decide (p0.toInt ≤ (zv_s dl ow T ld D pl : Int)))) u') : wpX_canWin post u p0 := by
  obtain ⟨vd, R, hands, line, won, goal, todo, seen, kl, ko, cw, cl, cm, co, ns, ⟨G, tt, n⟩, rfl⟩ := I
  have hn := zp_le st ok
  have hD := st.2.2.2.1
  have ha := zp_a4 st.2.2.1 ok
  have hv := zv_is dl ow T ld D pl
  have I0 := zx_Im (dl := dl) (ow := ow) (T := T) (ld := ld) (D := D) (hs := hs) (ds := ds) (pl := pl) (owner := owner) (vd := vd) (R := R) (goal := goal) (todo := todo) (seen := seen) (kl := kl) (ko := ko) G tt n
  unfold wpX_canWin
  refine zx_solv st ok (fun q => br_f (by decide) (h1 q _ I0)) (fun q q2 => br_f (by decide) (h2 q q2 _ I0)) (fun q q2 => br_t rfl (zs_left hn hD ?_))
  have h3' := h3 q q2
  have hll : zv_left D pl ≤ 3 := by unfold zv_left; omega
  show (0 < p0 → _) ∧ _
  refine br_c (fun w => ?_) (fun w => ?_)
  · obtain ⟨k, k1, k2⟩ := nI_of (x := p0) (fun z => by
      have a1 := Int32.lt_iff_toInt_lt.mp z
      have a2 := Int32.lt_iff_toInt_lt.mp w
      omega)
    subst k2
    rw [nI_toInt k1] at h3'
    have hs1 : zv_s dl ow T ld D pl ≤ zv_left D pl := by
      unfold zv_s
      split
      · exact hv.1
      · omega
    refine pk_le k (zv_left D pl) (fun z => ⟨by decide, ?_⟩) (fun z => ?_)
    · have k0 : 0 < k := by
        have := Int32.lt_iff_toInt_lt.mp w
        rw [nI_toInt k1] at this
        have e0 : (0 : Int32).toInt = 0 := rfl
        omega
      have c63 : ∀ (b : Bool) u', zx_I dl ow T ld D hs ds owner pl u' → b = decide (((k : Nat) : Int) ≤ (zv_s dl ow T ld D pl : Int)) → (match u' with | (f_handSize, f_dealtSet, f_dealt, f_count, f_toAct, f_trumpSuit, f_started, f_verdict, f_relevant, a_hands, a_owner, a_line, a_won, a_goal, a_todo, a_seen, a_keyLengths, a_keyOwners, a_classWord, a_classLengths, a_classMask, a_classOwners, a_nextSlot) => wX_canWin_63 post (zx_b b) f_handSize f_dealtSet f_dealt f_count f_toAct f_trumpSuit f_started f_verdict f_relevant a_hands a_owner a_line a_won a_goal a_todo a_seen a_keyLengths a_keyOwners a_classWord a_classLengths a_classMask a_classOwners a_nextSlot) := by
        intro b u' I' e
        have h4 := h3' u' I'
        rw [← e] at h4
        obtain ⟨vd, R, hands, line, won, goal, todo, seen, kl, ko, cw, cl, cm, co, ns, ⟨G, tt, n⟩, rfl⟩ := I'
        cases b with
        | false => exact br_t rfl h4
        | true => exact br_f (by decide) h4
      rw [zx_rem2 (by omega)]
      refine pk_eq (zp_a ow T ld pl % 2) 0 (fun e => ?_) (fun e => ?_)
      · refine zx_dec st ok q2 I0 (fun v u' I' hw => ?_)
        rw [nI_toInt k1, hv.2] at hw
        have e9 : v = decide (((k : Nat) : Int) ≤ (zv_s dl ow T ld D pl : Int)) := by
          unfold zv_s
          rw [if_pos e]
          cases v with
          | true => exact (decide_eq_true (hw.mpr rfl)).symm
          | false => exact (decide_eq_false (fun z => absurd (hw.mp z) (by decide))).symm
        have h5 := c63 v u' I' e9
        obtain ⟨vd, R, hands, line, won, goal, todo, seen, kl, ko, cw, cl, cm, co, ns, ⟨G, tt, n⟩, rfl⟩ := I'
        exact h5
      · have en : nI (zv_left D pl) - nI k + 1 = nI (zv_left D pl - k + 1) := by rw [pk_sub z, nI_1]
        show wpX_decide _ _ (nI (zv_left D pl) - nI k + 1)
        rw [en]
        refine zx_dec st ok q2 I0 (fun v u' I' hw => ?_)
        rw [nI_toInt (by omega), hv.2] at hw
        have e9 : (!v) = decide (((k : Nat) : Int) ≤ (zv_s dl ow T ld D pl : Int)) := by
          have := hv.1
          unfold zv_s
          rw [if_neg e]
          cases v with
          | true =>
            have h7 := hw.mpr rfl
            exact (decide_eq_false (by omega)).symm
          | false =>
            have h7 : ¬ ((zv_left D pl - k + 1 : Nat) : Int) ≤ (zv_v dl ow T ld D pl : Int) := fun z => absurd (hw.mp z) (by decide)
            exact (decide_eq_true (by omega)).symm
        have h5 := c63 (!v) u' I' e9
        obtain ⟨vd, R, hands, line, won, goal, todo, seen, kl, ko, cw, cl, cm, co, ns, ⟨G, tt, n⟩, rfl⟩ := I'
        cases v with
        | false => exact br_t rfl h5
        | true => exact br_f (by decide) h5
    · have h4 := h3' _ I0
      rw [decide_eq_false (by omega)] at h4
      exact h4
  · have h4 := h3' _ I0
    have w2 : p0.toInt ≤ 0 := by
      have : ¬ (0 : Int32).toInt < p0.toInt := fun z => w (Int32.lt_iff_toInt_lt.mpr z)
      have e0 : (0 : Int32).toInt = 0 := rfl
      omega
    rw [decide_eq_true (by omega)] at h4
    exact h4
theorem zx_value {post : Int32 → SX → Prop} {u : SX} (st : zp_st dl ow T ld D) (ok : zp_ok dl ow T ld pl) (I : zx_I dl ow T ld D hs ds owner pl u) (h1 : D ≤ pl.length → ∀ u', zx_I dl ow T ld D hs ds owner pl u' → post (-1) u') (h2 : pl.length < D → 12 < D - pl.length → ∀ u', zx_I dl ow T ld D hs ds owner pl u' → post (-11) u')
    (h3 : pl.length < D → D - pl.length ≤ 12 → ∀ u', zx_I dl ow T ld D hs ds owner pl u' → post (nI (zv_s dl ow T ld D pl)) u') : wpX_value post u := by
  obtain ⟨vd, R, hands, line, won, goal, todo, seen, kl, ko, cw, cl, cm, co, ns, ⟨G, tt, n⟩, rfl⟩ := I
  have hn := zp_le st ok
  have hD := st.2.2.2.1
  have ha := zp_a4 st.2.2.1 ok
  have hv := zv_is dl ow T ld D pl
  have I0 := zx_Im (dl := dl) (ow := ow) (T := T) (ld := ld) (D := D) (hs := hs) (ds := ds) (pl := pl) (owner := owner) (vd := vd) (R := R) (goal := goal) (todo := todo) (seen := seen) (kl := kl) (ko := ko) G tt n
  unfold wpX_value
  refine zx_solv st ok (fun q => br_f (by decide) (h1 q _ I0)) (fun q q2 => br_f (by decide) (h2 q q2 _ I0)) (fun q q2 => br_t rfl (zx_toz st ok q2 I0 (fun u' I' => ?_)))
  obtain ⟨vd, R, hands, line, won, goal, todo, seen, kl, ko, cw, cl, cm, co, ns, ⟨G, tt, n⟩, rfl⟩ := I'
  refine ⟨by decide, ?_⟩
  have h4 := fun vd R goal todo seen kl ko => h3 q q2 _ (zx_Im (dl := dl) (ow := ow) (T := T) (ld := ld) (D := D) (hs := hs) (ds := ds) (pl := pl) (owner := owner) (vd := vd) (R := R) (goal := goal) (todo := todo) (seen := seen) (kl := kl) (ko := ko) G tt n)
  unfold zv_s at h4
  rw [zx_rem2 (by omega)]
  refine pk_eq (zp_a ow T ld pl % 2) 0 (fun e => ?_) (fun e => ?_)
  · rw [if_pos e] at h4; exact h4 _ _ _ _ _ _ _
  · rw [if_neg e] at h4
    refine zs_left hn hD ?_
    have en : nI (zv_left D pl) - nI (zv_v dl ow T ld D pl) = nI (zv_left D pl - zv_v dl ow T ld D pl) := pk_sub hv.1
    have h5 := h4 vd R goal todo seen kl ko
    rw [← en] at h5
    exact h5
end
end
section
/-! ===== X: cardValue, bestCards ===== -/
section
variable {f_handSize f_dealtSet f_dealt f_count f_toAct f_trumpSuit f_started f_verdict f_relevant : Int32} {a_hands a_owner a_line a_won a_goal a_todo a_seen a_keyLengths a_classWord a_classLengths a_nextSlot : Nat → Int32} {a_keyOwners a_classMask a_classOwners : Nat → Int64}
variable {dl : Nat → Bool} {ow : Nat → Nat} {T ld D : Nat} {pl : List Nat} {hs ds : Int32} {owner : Nat → Int32}
theorem zx_cardValue {post : Int32 → SX → Prop} {u : SX} {p0 : Int32} (st : zp_st dl ow T ld D) (ok : zp_ok dl ow T ld pl) (I : zx_I dl ow T ld D hs ds owner pl u) (h1 : ∀ r, r ≠ 0 → zr_ref dl ow T ld D pl p0 r → ∀ u', zx_I dl ow T ld D hs ds owner pl u' → post r u')
    (h2 : ∀ c, zp_lg dl ow T ld pl c → p0 = nI c → pl.length < D → 12 < D - pl.length → ∀ u', zx_I dl ow T ld D hs ds owner pl u' → post (-11) u')
    (h3 : ∀ c, zp_lg dl ow T ld pl c → p0 = nI c → pl.length < D → D - pl.length ≤ 12 → ∀ u', zx_I dl ow T ld D hs ds owner pl u' → post (nI (zv_c dl ow T ld D pl c)) u') : wpX_cardValue post u p0 := by
  obtain ⟨vd, R, hands, line, won, goal, todo, seen, kl, ko, cw, cl, cm, co, ns, ⟨G, tt, n⟩, rfl⟩ := I
  have hn := zp_le st ok
  have hD := st.2.2.2.1
  have ha := zp_a4 st.2.2.1 ok
  have I0 := zx_Im (dl := dl) (ow := ow) (T := T) (ld := ld) (D := D) (hs := hs) (ds := ds) (pl := pl) (owner := owner) (vd := vd) (R := R) (goal := goal) (todo := todo) (seen := seen) (kl := kl) (ko := ko) G tt n
  unfold wpX_cardValue
  refine zx_ref st ok G (fun r hr => ?_)
  by_cases er : r = 0
  · subst er
    obtain ⟨c, c1, c2, c3, c4⟩ := zr_ref_0 hr
    subst c2
    have e : nI D - nI pl.length = nI (D - pl.length) := pk_sub hn
    have ok2 := zp_lg_ok ok c3
    have hl2 := zp_le st ok2
    rw [List.length_cons] at hl2
    refine br_t rfl ?_
    show (nI D - nI pl.length ≤ 12 → _) ∧ _
    rw [e]
    refine pk_le (D - pl.length) 12 (fun w => ?_) (fun w => h2 c c3 rfl c4 w _ I0)
    refine zs_left hn hD ⟨by decide, nm_r (zx_rem2 (by omega)) (nm_r (e' := nI (zp_w0 ow T pl)) G.2.2.2.1 ?_)⟩
    refine zx_Iput st ok2 I0 (fun u2 I2 => ?_)
    obtain ⟨vd, R, hands, line, won, goal, todo, seen, kl, ko, cw, cl, cm, co, ns, ⟨G, tt, n⟩, rfl⟩ := I2
    refine zx_toz st ok2 (by rw [List.length_cons]; omega) (zx_Im G tt n) (fun u3 I3 => ?_)
    obtain ⟨vd, R, hands, line, won, goal, todo, seen, kl, ko, cw, cl, cm, co, ns, ⟨G, tt, n⟩, rfl⟩ := I3
    refine nm_r (e' := nI (zv_x dl ow T ld D pl c)) ?_ ?_
    · rw [G.2.2.2.1, zp_gain_w, nI_add]
      have e9 : zv_v dl ow T ld D (c :: pl) + (zp_w0 ow T pl + zp_gain ow T pl c) = zp_w0 ow T pl + zv_x dl ow T ld D pl c := by unfold zv_x; omega
      rw [e9, pk_sub (Nat.le_add_right _ _), Nat.add_sub_cancel_left]
    · refine zx_Itake st ok2 (zx_Im G tt n) (fun u4 I4 => ?_)
      have h4 := h3 c c3 rfl c4 w u4 I4
      unfold zv_c at h4
      obtain ⟨vd, R, hands, line, won, goal, todo, seen, kl, ko, cw, cl, cm, co, ns, ⟨G, tt, n⟩, rfl⟩ := I4
      refine pk_eq (zp_a ow T ld pl % 2) 0 (fun e => ?_) (fun e => ?_)
      · rw [if_pos e] at h4; exact h4
      · rw [if_neg e] at h4
        have en : nI (zv_left D pl) - nI (zv_x dl ow T ld D pl c) = nI (zv_left D pl - zv_x dl ow T ld D pl c) := pk_sub (zv_x_le st.2.2.2.2.1 c4 c)
        rw [← en] at h4
        exact h4
  · exact br_f er (h1 r er hr _ I0)
/-- the best cards below i -/
def zv_B (dl : Nat → Bool) (ow : Nat → Nat) (T ld D : Nat) (pl : List Nat) (i : Nat) (B : Int32) : Prop := ∀ c, c < 32 → (bt B c = true ↔ (c < i ∧ zp_lg dl ow T ld pl c ∧ zv_c dl ow T ld D pl c = zv_s dl ow T ld D pl))
theorem zv_B_no {i : Nat} {B : Int32} (hB : zv_B dl ow T ld D pl i B) (h : ¬ (zp_lg dl ow T ld pl i ∧ zv_c dl ow T ld D pl i = zv_s dl ow T ld D pl)) : zv_B dl ow T ld D pl (i + 1) B := by
  intro c hc
  rw [hB c hc]
  constructor
  · exact fun z => ⟨by omega, z.2⟩
  · intro z
    refine ⟨?_, z.2⟩
    by_cases e : c = i
    · rw [e] at z; exact absurd z.2 h
    · omega
theorem zv_B_yes {i : Nat} {B : Int32} (hi : i < 32) (hB : zv_B dl ow T ld D pl i B) (h : zp_lg dl ow T ld pl i ∧ zv_c dl ow T ld D pl i = zv_s dl ow T ld D pl) : zv_B dl ow T ld D pl (i + 1) (B ||| ((1 : Int32) <<< (nI i &&& 31))) := by
  intro c hc
  rw [b_or, zx_one hi hc, Bool.or_eq_true, hB c hc, decide_eq_true_iff]
  constructor
  · rintro (z | z)
    · exact ⟨by omega, z.2⟩
    · rw [z]; exact ⟨by omega, h⟩
  · intro z
    by_cases e : c = i
    · exact Or.inr e
    · exact Or.inl ⟨by omega, z.2⟩
theorem zv_B_u {B B' : Int32} {i : Nat} (h : zv_B dl ow T ld D pl i B) (h' : zv_B dl ow T ld D pl i B') : B' = B := by
  refine b_ext (fun c hc => ?_)
  have h1 := h c hc
  have h2 := h' c hc
  cases e1 : bt B c <;> cases e2 : bt B' c <;> rw [e1] at h1 <;> rw [e2] at h2 <;> first | rfl | (exfalso; simp_all)
theorem zx_bestLoop {post : Int32 → SX → Prop} {L x2 : Int32} {f : Bool} (st : zp_st dl ow T ld D) (ok : zp_ok dl ow T ld pl) (hl : pl.length < D) (k12 : D - pl.length ≤ 12) (hL : ∀ c, c < 32 → (bt L c = true ↔ zp_lg dl ow T ld pl c)) (hf : f = true ↔ zp_a ow T ld pl % 2 = 0)
    (hx2 : x2 = nI (zp_w0 ow T pl + zv_v dl ow T ld D pl + (if f = true then 0 else 1)))
    (h : ∀ B u', zv_B dl ow T ld D pl 32 B → zx_I dl ow T ld D hs ds owner pl u' → post B u') :
    ∀ d i B u, i + d = 32 → zv_B dl ow T ld D pl i B → zx_I dl ow T ld D hs ds owner pl u → (match u with | (f_handSize, f_dealtSet, f_dealt, f_count, f_toAct, f_trumpSuit, f_started, f_verdict, f_relevant, a_hands, a_owner, a_line, a_won, a_goal, a_todo, a_seen, a_keyLengths, a_keyOwners, a_classWord, a_classLengths, a_classMask, a_classOwners, a_nextSlot) => wX_bestCards_57 post (zx_b f) x2 L (d + 1) B (nI i) f_handSize f_dealtSet f_dealt f_count f_toAct f_trumpSuit f_started f_verdict f_relevant a_hands a_owner a_line a_won a_goal a_todo a_seen a_keyLengths a_keyOwners a_classWord a_classLengths a_classMask a_classOwners a_nextSlot) := by
  have hn := zp_le st ok
  have hD := st.2.2.2.1
  have hv := zv_is dl ow T ld D pl
  have hll : zv_left D pl ≤ 3 := by unfold zv_left; omega
  intro d
  induction d with
  | zero =>
    intro i B u hi hB I
    have ei : i = 32 := by omega
    subst ei
    have h4 := h B u hB I
    obtain ⟨vd, R, hands, line, won, goal, todo, seen, kl, ko, cw, cl, cm, co, ns, ⟨G, tt, n⟩, rfl⟩ := I
    exact br_t (by decide) h4
  | succ d ih =>
    intro i B u hi hB I
    have h0 := fun B' (hB' : zv_B dl ow T ld D pl (i + 1) B') u' I' => ih (i + 1) B' u' (by omega) hB' I'
    obtain ⟨vd, R, hands, line, won, goal, todo, seen, kl, ko, cw, cl, cm, co, ns, ⟨G, tt, n⟩, rfl⟩ := I
    refine br_f (nI_ge (b := 32) (by omega) (by decide)) (zx_has _ L (by omega) ?_)
    by_cases c : bt L i = true
    · rw [c]
      have hlg := (hL i (by omega)).mp c
      have ok2 := zp_lg_ok ok hlg
      have hx := zv_x_le (dl := dl) (ow := ow) (T := T) (ld := ld) st.2.2.2.2.1 hl i
      have hw := (zp_wins (ow := ow) (T := T) (pl := pl))
      have hv1 := hv.1
      have hg1 := (zp_gain1 (ow := ow) (T := T) (pl := pl) (c := i)).1
      refine br_f (by decide) (zx_Iput st ok2 (zx_Im G tt n) (fun u2 I2 => ?_))
      obtain ⟨vd, R, hands, line, won, goal, todo, seen, kl, ko, cw, cl, cm, co, ns, ⟨G, tt, n⟩, rfl⟩ := I2
      have en : (x2 - won 0).toInt = (zv_v dl ow T ld D pl : Int) + (if f = true then 0 else 1) - (zp_gain ow T pl i : Int) := by
        rw [G.2.2.2.1, hx2, zp_gain_w, pk_sub_toInt (by split <;> omega) (by omega)]
        split <;> omega
      refine zx_dec st ok2 (by rw [List.length_cons]; omega) (zx_Im G tt n) (fun v u3 I3 hw3 => ?_)
      rw [en, zv_chW] at hw3
      obtain ⟨vd, R, hands, line, won, goal, todo, seen, kl, ko, cw, cl, cm, co, ns, ⟨G, tt, n⟩, rfl⟩ := I3
      refine zx_Itake st ok2 (zx_Im G tt n) (fun u4 I4 => ?_)
      have key : v = f ↔ zv_c dl ow T ld D pl i = zv_s dl ow T ld D pl := by
        rw [zv_c_iff st ok hl hlg]
        by_cases e : zp_a ow T ld pl % 2 = 0
        · have ef := hf.mpr e
          rw [ef, if_pos rfl] at hw3
          rw [if_pos e, ef, ← hw3]
          omega
        · have ef : f = false := by
            cases f with
            | false => rfl
            | true => exact absurd (hf.mp rfl) e
          rw [ef, if_neg (by decide)] at hw3
          rw [if_neg e, ef]
          constructor
          · intro z
            have : ¬ (zv_v dl ow T ld D pl : Int) + 1 ≤ (zv_x dl ow T ld D pl i : Int) := fun w => by
              have := hw3.mp w
              rw [z] at this
              exact absurd this (by decide)
            omega
          · intro z
            cases v with
            | false => rfl
            | true => have := hw3.mpr rfl; omega
      have hbe : zx_b v = zx_b f ↔ v = f := by cases v <;> cases f <;> decide
      by_cases e : v = f
      · have h5 := h0 _ (zv_B_yes (by omega) hB ⟨hlg, key.mp e⟩) u4 I4
        obtain ⟨vd, R, hands, line, won, goal, todo, seen, kl, ko, cw, cl, cm, co, ns, ⟨G, tt, n⟩, rfl⟩ := I4
        exact br_t (hbe.mpr e) (nm_e (nm_r (nI_1 _) h5))
      · have h5 := h0 _ (zv_B_no hB (fun z => e (key.mpr z.2))) u4 I4
        obtain ⟨vd, R, hands, line, won, goal, todo, seen, kl, ko, cw, cl, cm, co, ns, ⟨G, tt, n⟩, rfl⟩ := I4
        refine br_f (fun z => e (hbe.mp z)) (nm_r (e' := B) ?_ (nm_r (nI_1 _) h5))
        refine b_ext (fun j hj => ?_)
        rw [b_or, b_0, Bool.or_false]
    · have c2 : bt L i = false := by simpa using c
      rw [c2]
      exact br_t rfl (nm_r (nI_1 _) (h0 _ (zv_B_no hB (fun z => c ((hL i (by omega)).mpr z.1))) _ (zx_Im G tt n)))
theorem zx_best {post : Int32 → SX → Prop} {u : SX} (st : zp_st dl ow T ld D) (ok : zp_ok dl ow T ld pl) (I : zx_I dl ow T ld D hs ds owner pl u) (h1 : ¬ (pl.length < D ∧ D - pl.length ≤ 12) → ∀ u', zx_I dl ow T ld D hs ds owner pl u' → post 0 u')
    (h3 : pl.length < D → D - pl.length ≤ 12 → ∀ B u', zv_B dl ow T ld D pl 32 B → zx_I dl ow T ld D hs ds owner pl u' → post B u') : wpX_bestCards post u := by
  obtain ⟨vd, R, hands, line, won, goal, todo, seen, kl, ko, cw, cl, cm, co, ns, ⟨G, tt, n⟩, rfl⟩ := I
  have hn := zp_le st ok
  have hD := st.2.2.2.1
  have ha := zp_a4 st.2.2.1 ok
  have I0 := zx_Im (dl := dl) (ow := ow) (T := T) (ld := ld) (D := D) (hs := hs) (ds := ds) (pl := pl) (owner := owner) (vd := vd) (R := R) (goal := goal) (todo := todo) (seen := seen) (kl := kl) (ko := ko) G tt n
  unfold wpX_bestCards
  refine zx_solv st ok (fun q => br_f (by decide) (h1 (by omega) _ I0)) (fun q q2 => br_f (by decide) (h1 (by omega) _ I0)) (fun q q2 => br_t rfl ⟨by decide, ?_⟩)
  have key : ∀ f : Bool, (f = true ↔ zp_a ow T ld pl % 2 = 0) → wX_bestCards_23 post (zx_b f) hs ds (nI D) (nI pl.length) (nI (zp_a ow T ld pl)) (nI T) 1 vd R hands owner line won goal todo seen kl ko cw cl cm co ns := by
    intro f hf
    have hw0 : won 0 = nI (zp_w0 ow T pl) := G.2.2.2.1
    unfold wX_bestCards_23
    refine zx_toz st ok q2 I0 (fun u2 I2 => ?_)
    obtain ⟨vd, R, hands, line, won2, goal, todo, seen, kl, ko, cw, cl, cm, co, ns, ⟨G, tt, n⟩, rfl⟩ := I2
    have k44 : ∀ z0 : Int32, z0 = nI (if f = true then 0 else 1) → wX_bestCards_44 post (zx_b f) z0 ((won 0) + nI (zv_v dl ow T ld D pl)) hs ds (nI D) (nI pl.length) (nI (zp_a ow T ld pl)) (nI T) 1 vd R hands owner line won2 goal todo seen kl ko cw cl cm co ns := by
      intro z0 ez
      unfold wX_bestCards_44
      refine nm_r (e' := nI (zp_w0 ow T pl + zv_v dl ow T ld D pl + (if f = true then 0 else 1))) ?_ (zx_legal st ok G (fun L hL => ⟨33, ?_⟩))
      · rw [hw0, ez, nI_add, nI_add]
      · exact zx_bestLoop st ok q q2 hL hf rfl (h3 q q2) 32 0 0 _ rfl (fun c hc => by rw [b_0]; exact ⟨fun z => absurd z (by decide), fun z => absurd z.1 (Nat.not_lt_zero _)⟩) (zx_Im G tt n)
    cases f with
    | false => exact br_t rfl (k44 1 rfl)
    | true => exact br_f (by decide) (k44 0 rfl)
  rw [zx_rem2 (by omega)]
  refine pk_eq (zp_a ow T ld pl % 2) 0 (fun e => ?_) (fun e => ?_)
  · exact key true ⟨fun _ => e, fun _ => rfl⟩
  · exact key false ⟨fun z => absurd z (by decide), fun z => absurd z e⟩
end
end
section
/-! ===== Y: winner, turn, hand, legalCards, refusal, tricksWon ===== -/
/-- the deal and the line as Y keeps them -/
def zy_G (dl : Nat → Bool) (ow : Nat → Nat) (D : Nat) (pl : List Nat) (a_dealt a_line : Nat → Int32) : Prop :=
  (∃ dq : Nat → Nat, (∀ d, d < D → a_dealt d = nI (dq d) ∧ dq d < 32 ∧ ow (dq d) = d % 4 ∧ dl (dq d) = true) ∧ (∀ c, dl c = true → ∃ d, d < D ∧ dq d = c)) ∧ ∀ i, i < pl.length → a_line i = nI (zp_at pl i)
theorem zy_at_inj {dl : Nat → Bool} {ow : Nat → Nat} {T ld : Nat} : ∀ {pl : List Nat}, zp_ok dl ow T ld pl → ∀ {i j : Nat}, i < pl.length → j < pl.length → i ≠ j → zp_at pl i ≠ zp_at pl j := by
  intro pl
  induction pl with
  | nil => intro _ i j h; exact absurd h (Nat.not_lt_zero _)
  | cons c pl ih =>
    intro ok i j hi hj hne
    rw [List.length_cons] at hi hj
    have hc := (zp_H_iff.mp ok.2.2.1).2
    by_cases e1 : i = pl.length
    · rw [e1, zp_at_c, zp_at_n c pl (by omega)]
      exact fun z => hc j (by omega) z.symm
    · rw [zp_at_n c pl e1]
      by_cases e2 : j = pl.length
      · rw [e2, zp_at_c]; exact hc i (by omega)
      · rw [zp_at_n c pl e2]; exact ih ok.1 (by omega) (by omega) hne
/-- the suit that wins and its highest card -/
theorem zy_win {T : Nat} {t : Nat → Nat} (h32 : ∀ i, i ≤ 3 → t i < 32) (hne : ∀ i j, i ≤ 3 → j ≤ 3 → i ≠ j → t i ≠ t j) {S : Nat} (hS : (S = T ∧ ∃ i, i < 4 ∧ t i / 8 = T) ∨ (S = t 0 / 8 ∧ ∀ i, i < 4 → t i / 8 ≠ T)) :
    zg_win T t / 8 = S ∧ (∃ i, i < 4 ∧ t i = zg_win T t) ∧ ∀ j, j < 4 → t j / 8 = S → t j ≤ zg_win T t := by
  obtain ⟨s0, s1⟩ := zg_wi_spec (T := T) h32 hne
  have hl := zg_wi_le T t 3
  unfold zg_win
  generalize zg_wi T t 3 = w at *
  have hw := h32 w hl
  have le : ∀ j, j < 4 → zg_str T (t 0 / 8) (t j) ≤ zg_str T (t 0 / 8) (t w) := by
    intro j hj
    by_cases e : j = w
    · rw [e]; exact Nat.le_refl _
    · exact Nat.le_of_lt (s1 j (by omega) e)
  rcases hS with ⟨eS, i, hi, hT⟩ | ⟨eS, hT⟩
  · have h1 := le i hi
    unfold zg_str at h1
    rw [if_pos hT] at h1
    have hwT : t w / 8 = T := by
      by_cases c : t w / 8 = T
      · exact c
      · rw [if_neg c] at h1
        split at h1 <;> omega
    refine ⟨hwT.trans eS.symm, ⟨w, by omega, rfl⟩, fun j hj ej => ?_⟩
    have h2 := le j hj
    unfold zg_str at h2
    rw [if_pos (ej.trans eS), if_pos hwT] at h2
    omega
  · have n1 := hT w (by omega)
    unfold zg_str at s0
    rw [if_neg n1] at s0
    have hwL : t w / 8 = t 0 / 8 := by
      by_cases c : t w / 8 = t 0 / 8
      · exact c
      · rw [if_neg c] at s0; omega
    refine ⟨hwL.trans eS.symm, ⟨w, by omega, rfl⟩, fun j hj ej => ?_⟩
    have h2 := le j hj
    unfold zg_str at h2
    rw [if_neg (hT j hj), if_pos (ej.trans eS), if_neg n1, if_pos hwL] at h2
    omega
section
variable {f_handSize f_dealtCount f_count f_leader f_trumpSuit f_started : Int32} {a_dealt a_line a_todo a_best : Nat → Int32}
variable {dl : Nat → Bool} {ow : Nat → Nat} {T ld D : Nat} {pl : List Nat}
theorem zy_w117 {post : Int32 → Prop} {w : Nat} {dq : Nat → Nat} (hD : D ≤ 16) (hw : w < 32) (h1 : ∀ d, d < D → a_dealt d = nI (dq d) ∧ dq d < 32 ∧ ow (dq d) = d % 4) (h2 : ∃ d, d < D ∧ dq d = w) (h : post (nI (ow w))) :
    ∀ k d x4, d + k = D → ((∃ e, e < d ∧ dq e = w) → x4 = nI (ow w)) → wY_winner_117 post (nI w) f_handSize (nI D) f_count f_leader f_trumpSuit f_started a_dealt a_line a_todo a_best (k + 1) x4 (nI d) := by
  intro k
  induction k with
  | zero =>
    intro d x4 hd hx
    have e : d = D := by omega
    subst e
    refine br_t (Int32.le_refl _) ?_
    rw [hx h2]; exact h
  | succ k ih =>
    intro d x4 hd hx
    obtain ⟨d1, d2, d3⟩ := h1 d (by omega)
    have ea : a_dealt (nI d).toNatClampNeg = nI (dq d) := by rw [nI_clamp (by omega)]; exact d1
    refine br_f (nI_ge (by omega) (by omega)) ⟨vp_in_nI (by omega) (by omega), ?_⟩
    rw [ea]
    refine pk_eq (dq d) w (fun e => ⟨by decide, nm_r (e' := nI (ow w)) (by rw [zx_rem4 (by omega), ← e, d3]) (nm_r (nI_1 _) (ih (d + 1) _ (by omega) (fun _ => rfl)))⟩) (fun e => nm_r (nI_1 _) (ih (d + 1) _ (by omega) (fun z => ?_)))
    obtain ⟨q, q1, q2⟩ := z
    by_cases eq : q = d
    · rw [eq] at q2; exact absurd q2 e
    · exact hx ⟨q, by omega, q2⟩
theorem zy_w65 {post : Int32 → Prop} {w t S : Nat} {tau : Nat → Nat} (h16 : 4 * t + 4 ≤ 16) (hS : S < 32) (hl : ∀ i, i < 4 → a_line (4 * t + i) = nI (tau i) ∧ tau i < 32) (hw : w / 8 = S ∧ (∃ i, i < 4 ∧ tau i = w) ∧ ∀ j, j < 4 → tau j / 8 = S → tau j ≤ w)
    (h : ∃ n, wY_winner_117 post (nI w) f_handSize f_dealtCount f_count f_leader f_trumpSuit f_started a_dealt a_line a_todo a_best n 0 0) :
    ∀ k i x3, i + k = 4 → ((x3 = -1 ∧ ∀ j, j < i → tau j / 8 ≠ S) ∨ (∃ j, j < 4 ∧ x3 = nI (tau j) ∧ tau j / 8 = S ∧ ∀ j', j' < i → tau j' / 8 = S → tau j' ≤ tau j)) → wY_winner_65 post (nI t) (nI S) 0 f_handSize f_dealtCount f_count f_leader f_trumpSuit f_started a_dealt a_line a_todo a_best (k + 1) x3 (nI (4 * t + i)) := by
  have e4 : (4 : Int32) * nI t + 4 = nI (4 * t + 4) := by
    have e1 : (4 : Int32) * nI t = nI (4 * t) := pk_mul 4 t
    rw [e1]; exact nI_add _ 4
  intro k
  induction k with
  | zero =>
    intro i x3 hi I
    have ei : i = 4 := by omega
    subst ei
    refine br_t (by rw [e4]; exact Int32.le_refl _) ?_
    obtain ⟨w1, ⟨i0, i1, i2⟩, w3⟩ := hw
    rcases I with ⟨_, I⟩ | ⟨j, j1, j2, j3, j4⟩
    · exact absurd (by rw [i2]; exact w1) (I i0 i1)
    · have e : tau j = w := by
        have a := w3 j j1 j3
        have b := j4 i0 i1 (by rw [i2]; exact w1)
        omega
      rw [j2, e]; exact h
  | succ k ih =>
    intro i x3 hi I
    obtain ⟨l1, l2⟩ := hl i (by omega)
    have ea : a_line (nI (4 * t + i)).toNatClampNeg = nI (tau i) := by rw [nI_clamp (by omega)]; exact l1
    have vi : vp_in (nI (4 * t + i)) 17 := vp_in_nI (by omega) (by omega)
    have e8 : nI (tau i) / 8 = nI (tau i / 8) := pk_div (d := 8) (by omega) (by omega) (by omega)
    refine br_f (by rw [e4]; exact nI_ge (by omega) (by omega)) ⟨vi, by decide, ?_⟩
    rw [ea, e8]
    refine pk_eq (tau i / 8) S (fun es => ⟨vi, ?_⟩) (fun es => nm_r (nI_1 _) (ih (i + 1) _ (by omega) ?_))
    · rcases I with ⟨e, I⟩ | ⟨j, j1, j2, j3, j4⟩
      · rw [e]
        refine br_f ?_ ⟨vi, nm_e (nm_r (nI_1 _) (ih (i + 1) _ (by omega) (Or.inr ⟨i, by omega, rfl, es, fun j' hj' ej' => ?_⟩)))⟩
        · have : ∀ s, s < 32 → ¬ nI s ≤ (-1 : Int32) := by decide
          exact this _ l2
        · by_cases q : j' = i
          · rw [q]; exact Nat.le_refl _
          · exact absurd ej' (I j' (by omega))
      · rw [j2]
        refine pk_le (tau i) (tau j) (fun q => nm_r (nI_1 _) (ih (i + 1) _ (by omega) (Or.inr ⟨j, j1, rfl, j3, fun j' hj' ej' => ?_⟩))) (fun q => ⟨vi, nm_e (nm_r (nI_1 _) (ih (i + 1) _ (by omega) (Or.inr ⟨i, by omega, rfl, es, fun j' hj' ej' => ?_⟩)))⟩) rfl rfl (by omega) (by have := (hl j j1).2; omega)
        · by_cases q2 : j' = i
          · rw [q2]; exact q
          · exact j4 j' (by omega) ej'
        · by_cases q2 : j' = i
          · rw [q2]; exact Nat.le_refl _
          · have := j4 j' (by omega) ej'; omega
    · rcases I with ⟨e, I⟩ | ⟨j, j1, j2, j3, j4⟩
      · refine Or.inl ⟨e, fun j hj => ?_⟩
        by_cases q : j = i
        · rw [q]; exact es
        · exact I j (by omega)
      · refine Or.inr ⟨j, j1, j2, j3, fun j' hj' ej' => ?_⟩
        by_cases q : j' = i
        · rw [q] at ej'; exact absurd ej' es
        · exact j4 j' (by omega) ej'
theorem zy_w22 {post : Int32 → Prop} {t : Nat} {tau : Nat → Nat} (hT : T ≤ 4) (h16 : 4 * t + 4 ≤ 16) (hl : ∀ i, i < 4 → a_line (4 * t + i) = nI (tau i) ∧ tau i < 32)
    (h : ∀ S, ((S = T ∧ ∃ i, i < 4 ∧ tau i / 8 = T) ∨ (S = tau 0 / 8 ∧ ∀ i, i < 4 → tau i / 8 ≠ T)) → ∃ n, wY_winner_65 post (nI t) (nI S) 0 f_handSize f_dealtCount f_count f_leader (nI T) f_started a_dealt a_line a_todo a_best n (-1) (nI (4 * t + 0))) :
    ∀ k i S, i + k = 4 → ((S = T ∧ ∃ j, j < i ∧ tau j / 8 = T) ∨ (S = tau 0 / 8 ∧ ∀ j, j < i → tau j / 8 ≠ T)) → wY_winner_22 post (nI t) (-1) 0 f_handSize f_dealtCount f_count f_leader (nI T) f_started a_dealt a_line a_todo a_best (k + 1) (nI S) (nI (4 * t + i)) := by
  have e4 : (4 : Int32) * nI t + 4 = nI (4 * t + 4) := by
    have e1 : (4 : Int32) * nI t = nI (4 * t) := pk_mul 4 t
    rw [e1]; exact nI_add _ 4
  intro k
  induction k with
  | zero =>
    intro i S hi I
    have ei : i = 4 := by omega
    subst ei
    exact br_t (by rw [e4]; exact Int32.le_refl _) (nm_r (pk_mul 4 t) (h S I))
  | succ k ih =>
    intro i S hi I
    obtain ⟨l1, l2⟩ := hl i (by omega)
    have ea : a_line (nI (4 * t + i)).toNatClampNeg = nI (tau i) := by rw [nI_clamp (by omega)]; exact l1
    have vi : vp_in (nI (4 * t + i)) 17 := vp_in_nI (by omega) (by omega)
    have e8 : nI (tau i) / 8 = nI (tau i / 8) := pk_div (d := 8) (by omega) (by omega) (by omega)
    refine br_f (by rw [e4]; exact nI_ge (by omega) (by omega)) ⟨vi, by decide, ?_⟩
    rw [ea, e8]
    refine pk_eq (tau i / 8) T (fun es => nm_r (nI_1 _) (ih (i + 1) T (by omega) (Or.inl ⟨rfl, i, by omega, es⟩))) (fun es => nm_r (nI_1 _) (ih (i + 1) S (by omega) ?_))
    rcases I with ⟨e, j, j1, j2⟩ | ⟨e, I⟩
    · exact Or.inl ⟨e, j, by omega, j2⟩
    · refine Or.inr ⟨e, fun j hj => ?_⟩
      by_cases q : j = i
      · rw [q]; exact es
      · exact I j (by omega)
theorem zy_winner {post : Int32 → Prop} {t : Nat} (hT : T ≤ 4) (hD : D ≤ 16) (ok : zp_ok dl ow T ld pl) (ht : 4 * t + 4 ≤ pl.length) (h16 : pl.length ≤ 16) (G : zy_G dl ow D pl a_dealt a_line) (h : dl (zp_wc T pl t) = true → post (nI (ow (zp_wc T pl t)))) : wpY_winner post (f_handSize, nI D, f_count, f_leader, nI T, f_started, a_dealt, a_line, a_todo, a_best) (nI t) := by
  obtain ⟨⟨dq, d1, d2⟩, g2⟩ := G
  have hl : ∀ i, i < 4 → a_line (4 * t + i) = nI (zp_at pl (4 * t + i)) ∧ zp_at pl (4 * t + i) < 32 := fun i hi => ⟨g2 _ (by omega), (zp_at_ok ok (by omega)).1⟩
  have ne : ∀ i j, i ≤ 3 → j ≤ 3 → i ≠ j → zp_at pl (4 * t + i) ≠ zp_at pl (4 * t + j) := fun i j hi hj hne => zy_at_inj ok (by omega) (by omega) (by omega)
  have e0 : (4 : Int32) * nI t = nI (4 * t) := pk_mul 4 t
  have l0 := hl 0 (by omega)
  have hwc : zp_wc T pl t < 32 ∧ dl (zp_wc T pl t) = true := by
    unfold zp_wc zg_win
    have := zg_wi_le T (fun i => zp_at pl (4 * t + i)) 3
    exact zp_at_ok ok (by omega)
  unfold wpY_winner
  dsimp only
  rw [e0]
  refine ⟨vp_in_nI (by omega) (by omega), by decide, nm_r (e' := nI (zp_at pl (4 * t + 0) / 8)) ?_ (nm_e ⟨5, zy_w22 (tau := fun i => zp_at pl (4 * t + i)) hT (by omega) hl (fun S hS => ?_) 4 0 _ rfl (Or.inr ⟨rfl, fun j hj => absurd hj (Nat.not_lt_zero _)⟩)⟩)⟩
  · rw [nI_clamp (by omega)]
    have := l0.1
    rw [Nat.add_zero] at this
    rw [this]
    have l2 : zp_at pl (4 * t) < 32 := l0.2
    exact pk_div (d := 8) (by omega) (by omega) (by omega)
  · have hw := zy_win (T := T) (t := fun i => zp_at pl (4 * t + i)) (fun i hi => (hl i (by omega)).2) ne hS
    have hS32 : S < 32 := by
      rcases hS with ⟨e, _⟩ | ⟨e, _⟩
      · omega
      · have := l0.2
        have e9 : S = zp_at pl (4 * t + 0) / 8 := e
        omega
    refine ⟨5, zy_w65 (w := zp_wc T pl t) (tau := fun i => zp_at pl (4 * t + i)) (by omega) hS32 hl hw ⟨D + 1, ?_⟩ 4 0 (-1) rfl (Or.inl ⟨rfl, fun j hj => absurd hj (Nat.not_lt_zero _)⟩)⟩
    exact zy_w117 (ow := ow) (dq := dq) hD hwc.1 (fun d hd => ⟨(d1 d hd).1, (d1 d hd).2.1, (d1 d hd).2.2.1⟩) (d2 _ hwc.2) (h hwc.2) D 0 0 (by omega) (fun z => by obtain ⟨e, e1, _⟩ := z; omega)
theorem zy_turn {post : Int32 → Prop} (st : zp_st dl ow T ld D) (ok : zp_ok dl ow T ld pl) (G : zy_G dl ow D pl a_dealt a_line) (h : post (nI (zp_a ow T ld pl))) : wpY_turn post (f_handSize, nI D, nI pl.length, nI ld, nI T, 1, a_dealt, a_line, a_todo, a_best) := by
  have hn := zp_le st ok
  have hD := st.2.2.2.1
  have hld := st.2.2.1
  have ea := zp_a_eq (T := T) hld ok
  have k41 : ∀ q : Nat, q < 4 → post (nI ((q + pl.length % 4) % 4)) → wY_turn_41 post (nI q) f_handSize (nI D) (nI pl.length) (nI ld) (nI T) 1 a_dealt a_line a_todo a_best := by
    intro q hq hp
    unfold wY_turn_41
    refine ⟨by decide, by decide, ?_⟩
    rw [zx_rem4 (by omega), nI_add, zx_rem4 (by omega)]
    exact hp
  unfold wpY_turn
  refine br_f (by decide) (pk_le 4 pl.length (fun q => ⟨by decide, ?_⟩) (fun q => ?_))
  · have e1 : nI pl.length / 4 - 1 = nI (pl.length / 4 - 1) := by
      have e2 : nI pl.length / 4 = nI (pl.length / 4) := pk_div (d := 4) (by omega) (by omega) (by omega)
      rw [e2]
      exact pk_sub (a := pl.length / 4) (b := 1) (by omega)
    rw [e1]
    refine zy_winner st.2.1 hD ok (by omega) (by omega) G (fun hd => k41 _ (st.1 _ hd).2 ?_)
    rw [if_neg (by omega)] at ea
    rw [← ea]; exact h
  · refine k41 ld hld ?_
    rw [if_pos (by omega)] at ea
    rw [← ea]; exact h
theorem zy_h42 {post : Int32 → Prop} {n s : Nat} {b : Nat → Bool} (hn : n ≤ 16) (hl : ∀ i, i < n → a_line i = nI (zp_at pl i) ∧ zp_at pl i < 32) (h : ∀ S, (∀ c, c < 32 → (bt S c = true ↔ (b c = true ∧ ∀ j, j < n → zp_at pl j ≠ c))) → post S) :
    ∀ k i S, i + k = n → (∀ c, c < 32 → (bt S c = true ↔ (b c = true ∧ ∀ j, j < i → zp_at pl j ≠ c))) → wY_hand_42 post f_handSize f_dealtCount (nI n) f_leader f_trumpSuit f_started a_dealt a_line a_todo a_best (k + 1) S (nI i) := by
  intro k
  induction k with
  | zero =>
    intro i S hi hS
    have ei : i = n := by omega
    subst ei
    exact br_t (Int32.le_refl _) (h S hS)
  | succ k ih =>
    intro i S hi hS
    obtain ⟨l1, l2⟩ := hl i (by omega)
    refine br_f (nI_ge (by omega) (by omega)) ⟨vp_in_nI (by omega) (by omega), nm_r (e' := S &&& (((1 : Int32) <<< (nI (zp_at pl i) &&& 31)) ^^^ (-1))) (by rw [nI_clamp (by omega), l1]) (nm_r (nI_1 _) (ih (i + 1) _ (by omega) (fun c hc => ?_)))⟩
    rw [b_and, zx_not _ hc, zx_one l2 hc, Bool.and_eq_true, hS c hc]
    constructor
    · rintro ⟨⟨z1, z2⟩, z3⟩
      have z4 : ¬ c = zp_at pl i := by simpa using z3
      refine ⟨z1, fun j hj => ?_⟩
      by_cases q : j = i
      · rw [q]; exact fun w => z4 w.symm
      · exact z2 j (by omega)
    · rintro ⟨z1, z2⟩
      refine ⟨⟨z1, fun j hj => z2 j (by omega)⟩, ?_⟩
      have := z2 i (by omega)
      rw [decide_eq_false (fun w => this w.symm)]; rfl
theorem zy_h15 {post : Int32 → Prop} {n s : Nat} {dq : Nat → Nat} (hD : D ≤ 16) (hs : s < 4) (h1 : ∀ d, d < D → a_dealt d = nI (dq d) ∧ dq d < 32) (h : ∀ S, (∀ c, c < 32 → (bt S c = true ↔ ∃ d, d < D ∧ d % 4 = s ∧ dq d = c)) → ∃ m, wY_hand_42 post f_handSize (nI D) (nI n) f_leader f_trumpSuit f_started a_dealt a_line a_todo a_best m S 0) :
    ∀ k e S, D ≤ e + 4 * k → e ≤ 20 → e % 4 = s → (∀ c, c < 32 → (bt S c = true ↔ ∃ d, d < D ∧ d < e ∧ d % 4 = s ∧ dq d = c)) → wY_hand_15 post f_handSize (nI D) (nI n) f_leader f_trumpSuit f_started a_dealt a_line a_todo a_best (k + 1) S (nI e) := by
  have fin : ∀ e S, D ≤ e → (∀ c, c < 32 → (bt S c = true ↔ ∃ d, d < D ∧ d < e ∧ d % 4 = s ∧ dq d = c)) → (∀ c, c < 32 → (bt S c = true ↔ ∃ d, d < D ∧ d % 4 = s ∧ dq d = c)) := by
    intro e S he hS c hc
    rw [hS c hc]
    exact ⟨fun ⟨d, a1, _, a3⟩ => ⟨d, a1, a3⟩, fun ⟨d, a1, a3⟩ => ⟨d, a1, by omega, a3⟩⟩
  intro k
  induction k with
  | zero =>
    intro e S he _ _ hS
    exact br_t (nI_le (by omega) (by omega)) (h S (fin e S (by omega) hS))
  | succ k ih =>
    intro e S he h20 h4 hS
    refine pk_le D e (fun q => h S (fin e S q hS)) (fun q => ?_)
    obtain ⟨l1, l2⟩ := h1 e q
    refine ⟨vp_in_nI (by omega) (by omega), nm_r (e' := S ||| ((1 : Int32) <<< (nI (dq e) &&& 31))) (by rw [nI_clamp (by omega), l1]) (nm_r (e' := nI (e + 4)) (nI_add _ 4) (ih (e + 4) _ (by omega) (by omega) (by omega) (fun c hc => ?_)))⟩
    rw [b_or, zx_one l2 hc, Bool.or_eq_true, hS c hc, decide_eq_true_iff]
    constructor
    · rintro (⟨d, a1, a2, a3, a4⟩ | z)
      · exact ⟨d, a1, by omega, a3, a4⟩
      · exact ⟨e, q, by omega, h4, z.symm⟩
    · rintro ⟨d, a1, a2, a3, a4⟩
      by_cases w : d = e
      · rw [w] at a4; exact Or.inr a4.symm
      · exact Or.inl ⟨d, a1, by omega, a3, a4⟩
theorem zy_hand {post : Int32 → Prop} {s : Nat} (hD : D ≤ 16) (ok : zp_ok dl ow T ld pl) (h16 : pl.length ≤ 16) (G : zy_G dl ow D pl a_dealt a_line) (hs : s < 4) (h : ∀ S, (∀ c, c < 32 → bt S c = (zp_H dl pl c && decide (ow c = s))) → post S) : wpY_hand post (f_handSize, nI D, nI pl.length, f_leader, f_trumpSuit, f_started, a_dealt, a_line, a_todo, a_best) (nI s) := by
  obtain ⟨⟨dq, d1, d2⟩, g2⟩ := G
  unfold wpY_hand
  refine br_f (nI_pos (by omega)) (br_t (nI_le (a := s) (b := 3) (by omega) (by omega)) ⟨5, zy_h15 (dq := dq) hD hs (fun d hd => ⟨(d1 d hd).1, (d1 d hd).2.1⟩) (fun S hS => ⟨pl.length + 1, ?_⟩) 4 s 0 (by omega) (by omega) (by omega) (fun c hc => ?_)⟩)
  · refine zy_h42 (s := s) (b := fun c => dl c && decide (ow c = s)) h16 (fun i hi => ⟨g2 i hi, (zp_at_ok ok hi).1⟩) (fun S' hS' => h S' (fun c hc => ?_)) pl.length 0 S (by omega) (fun c hc => ?_)
    · have h1 := hS' c hc
      have h2 := zp_H_iff (dl := dl) (pl := pl) (c := c)
      rw [Bool.and_eq_true, decide_eq_true_iff] at h1
      by_cases e : bt S' c = true
      · have h3 := h1.mp e
        rw [e, h2.mpr ⟨h3.1.1, h3.2⟩, decide_eq_true h3.1.2]; rfl
      · have e2 : bt S' c = false := by simpa using e
        rw [e2]
        cases hh : zp_H dl pl c with
        | false => rfl
        | true =>
          have h3 := h2.mp hh
          rw [decide_eq_false (fun z => e (h1.mpr ⟨⟨h3.1, z⟩, h3.2⟩))]; rfl
    · rw [hS c hc, Bool.and_eq_true, decide_eq_true_iff]
      constructor
      · rintro ⟨d, a1, a2, a3⟩
        have := d1 d a1
        rw [a3] at this
        exact ⟨⟨this.2.2.2, by omega⟩, fun j hj => absurd hj (Nat.not_lt_zero _)⟩
      · rintro ⟨⟨z1, z2⟩, _⟩
        obtain ⟨d, a1, a2⟩ := d2 c z1
        have := d1 d a1
        rw [a2] at this
        exact ⟨d, a1, by omega, a2⟩
  · rw [b_0]
    exact ⟨fun z => absurd z (by decide), fun ⟨d, a1, a2, a3, a4⟩ => by omega⟩
end
end
section
/-! ===== Y: legalCards, refusal, tricksWon ===== -/
theorem zy_bit (S : Int32) {c : Nat} (hc : c < 32) : (S &&& ((1 : Int32) <<< (nI c &&& 31))) = 0 ↔ bt S c = false := by
  rw [← nf_bit S c hc, zx_bit S hc]
section
variable {f_handSize f_dealtCount f_count f_leader f_trumpSuit f_started : Int32} {a_dealt a_line a_todo a_best : Nat → Int32}
variable {dl : Nat → Bool} {ow : Nat → Nat} {T ld D : Nat} {pl : List Nat}
theorem zy_legal {post : Int32 → Prop} (st : zp_st dl ow T ld D) (ok : zp_ok dl ow T ld pl) (G : zy_G dl ow D pl a_dealt a_line) (h : ∀ L, (∀ c, c < 32 → (bt L c = true ↔ zp_lg dl ow T ld pl c)) → post L) : wpY_legalCards post (f_handSize, nI D, nI pl.length, nI ld, nI T, 1, a_dealt, a_line, a_todo, a_best) := by
  have ha := zp_a4 st.2.2.1 ok
  have hn := zp_le st ok
  have hD := st.2.2.2.1
  unfold wpY_legalCards
  refine zy_turn st ok G (zy_hand hD ok (by omega) G ha (fun hd hh => ⟨by decide, ?_⟩))
  rw [zx_rem4 (by omega)]
  refine pk_eq (pl.length % 4) 0 (fun e => ?_) (fun e => ⟨by decide, ?_⟩)
  · refine h _ (fun c hc => ?_)
    rw [hh c hc, Bool.and_eq_true, decide_eq_true_iff]
    exact ⟨fun z => ⟨hc, z.1, z.2, Or.inl e⟩, fun z => ⟨z.2.1, z.2.2.1⟩⟩
  · have e1 : nI pl.length - nI (pl.length % 4) = nI (pl.length - pl.length % 4) := pk_sub (by omega)
    have ht := (zp_wf st.2.2.1 ok).2.1 0 (by omega)
    have e2 : a_line (pl.length - pl.length % 4) = nI (zp_t pl 0) := by
      rw [G.2 _ (by omega), zp_t_at (by omega)]; rfl
    have e3 : a_line (nI pl.length - nI (pl.length % 4)).toNatClampNeg = nI (zp_t pl 0) := by rw [e1, nI_clamp (by omega), e2]
    have e4 : nI (zp_t pl 0) / 8 * 8 = nI (8 * (zp_t pl 0 / 8)) := by
      have e9 : nI (zp_t pl 0) / 8 = nI (zp_t pl 0 / 8) := pk_div (d := 8) (by omega) (by omega) (by omega)
      rw [e9, Nat.mul_comm]; exact pk_mul _ 8
    refine ⟨by rw [e1]; exact vp_in_nI (by omega) (by omega), by decide, nm_r (e' := hd &&& ((255 : Int32) <<< (nI (8 * (zp_t pl 0 / 8)) &&& 31))) (by rw [e3, e4]) ?_⟩
    have hf : ∀ c, c < 32 → (bt (hd &&& ((255 : Int32) <<< (nI (8 * (zp_t pl 0 / 8)) &&& 31))) c = true ↔ (zp_H dl pl c = true ∧ ow c = zp_a ow T ld pl ∧ c / 8 = zp_t pl 0 / 8)) := by
      intro c hc
      rw [b_and, hh c hc, zx_255 (by omega) c hc, Bool.and_eq_true, Bool.and_eq_true, decide_eq_true_iff, decide_eq_true_iff]
      exact and_assoc
    refine br_c (fun z => ?_) (fun z => ?_)
    · refine h _ (fun c hc => ?_)
      rw [hh c hc, Bool.and_eq_true, decide_eq_true_iff]
      have hno : ¬ zg_has ow (zp_H dl pl) (zp_a ow T ld pl) (zp_t pl 0 / 8) := by
        rintro ⟨x, x1, x2, x3, x4⟩
        have := (hf x x1).mpr ⟨x2, x3, x4⟩
        rw [z, b_0] at this
        exact absurd this (by decide)
      exact ⟨fun z => ⟨hc, z.1, z.2, Or.inr (Or.inr hno)⟩, fun z => ⟨z.2.1, z.2.2.1⟩⟩
    · refine h _ (fun c hc => ?_)
      rw [hf c hc]
      constructor
      · exact fun q => ⟨hc, q.1, q.2.1, Or.inr (Or.inl q.2.2)⟩
      · rintro ⟨_, q1, q2, q3 | q3 | q3⟩
        · exact absurd q3 e
        · exact ⟨q1, q2, q3⟩
        · exfalso
          apply z
          refine b_ext (fun i hi => ?_)
          rw [b_0]
          by_cases w : bt (hd &&& ((255 : Int32) <<< (nI (8 * (zp_t pl 0 / 8)) &&& 31))) i = true
          · have := (hf i hi).mp w
            exact absurd ⟨i, hi, this.1, this.2.1, this.2.2⟩ q3
          · simpa using w
theorem zy_ref {post : Int32 → Prop} {p0 : Int32} (st : zp_st dl ow T ld D) (ok : zp_ok dl ow T ld pl) (G : zy_G dl ow D pl a_dealt a_line) (h : ∀ r, zr_ref dl ow T ld D pl p0 r → post r) : wpY_refusal post (f_handSize, nI D, nI pl.length, nI ld, nI T, 1, a_dealt, a_line, a_todo, a_best) p0 := by
  have hn := zp_le st ok
  have hD := st.2.2.2.1
  have ha := zp_a4 st.2.2.1 ok
  unfold wpY_refusal
  unfold wpY_phase
  refine br_f (by decide) (pk_le D pl.length (fun q => ?_) (fun q => ?_))
  · exact br_f (by decide) (h _ (Or.inl ⟨q, rfl⟩))
  · refine br_t rfl (br_c (fun w => h _ (Or.inr ⟨q, Or.inl ⟨Or.inl w, rfl⟩⟩)) (fun w => br_c (fun w2 => ?_) (fun w2 => h _ (Or.inr ⟨q, Or.inl ⟨Or.inr w2, rfl⟩⟩))))
    obtain ⟨c, c1, c2⟩ := nI_of2 zr_31 w w2
    have c32 : c < 32 := by omega
    subst c2
    refine zy_turn st ok G (zy_hand hD ok (by omega) G ha (fun hd hh => ?_))
    rw [zy_bit hd c32, hh c c32]
    by_cases e : zp_H dl pl c = true ∧ ow c = zp_a ow T ld pl
    · have e1 : (zp_H dl pl c && decide (ow c = zp_a ow T ld pl)) = true := by rw [e.1, decide_eq_true e.2]; rfl
      rw [e1]
      refine br_f (by decide) (zy_legal st ok G (fun L hL => ?_))
      rw [zy_bit L c32]
      by_cases e2 : bt L c = true
      · rw [e2]
        exact br_f (by decide) (h _ (Or.inr ⟨q, Or.inr ⟨c, c32, rfl, Or.inr (Or.inr ⟨(hL c c32).mp e2, rfl⟩)⟩⟩))
      · have e3 : bt L c = false := by simpa using e2
        rw [e3]
        exact br_t rfl (h _ (Or.inr ⟨q, Or.inr ⟨c, c32, rfl, Or.inr (Or.inl ⟨e, fun z => e2 ((hL c c32).mpr z), rfl⟩)⟩⟩))
    · have e1 : (zp_H dl pl c && decide (ow c = zp_a ow T ld pl)) = false := by
        cases hh : zp_H dl pl c with
        | false => rfl
        | true => rw [decide_eq_false (fun z => e ⟨hh, z⟩)]; rfl
      rw [e1]
      exact br_t rfl (h _ (Or.inr ⟨q, Or.inr ⟨c, c32, rfl, Or.inl ⟨e, rfl⟩⟩⟩))
theorem zy_w16 {post : Int32 → Prop} {s : Nat} (hs : s < 2) (st : zp_st dl ow T ld D) (ok : zp_ok dl ow T ld pl) (G : zy_G dl ow D pl a_dealt a_line) (h : post (nI (zc_cnt (fun t => decide (ow (zp_wc T pl t) % 2 = s)) (pl.length / 4)))) :
    ∀ k t, t + k = pl.length / 4 → wY_tricksWon_16 post (nI s) f_handSize (nI D) (nI pl.length) (nI ld) (nI T) 1 a_dealt a_line a_todo a_best (k + 1) (nI (zc_cnt (fun t => decide (ow (zp_wc T pl t) % 2 = s)) t)) (nI t) := by
  have hn := zp_le st ok
  have hD := st.2.2.2.1
  have e4 : nI pl.length / 4 = nI (pl.length / 4) := pk_div (d := 4) (by omega) (by omega) (by omega)
  intro k
  induction k with
  | zero =>
    intro t ht
    have e : t = pl.length / 4 := by omega
    refine ⟨by decide, ?_⟩
    rw [e4, ← e]
    exact br_t (Int32.le_refl _) (by rw [e]; exact h)
  | succ k ih =>
    intro t ht
    refine ⟨by decide, ?_⟩
    rw [e4]
    refine br_f (nI_ge (by omega) (by omega)) (zy_winner st.2.1 hD ok (by omega) (by omega) G (fun hd => ⟨by decide, ?_⟩))
    have how := (st.1 _ hd).2
    have h0 := ih (t + 1) (by omega)
    rw [zc_s] at h0
    rw [zx_rem2 (by omega)]
    refine pk_eq (ow (zp_wc T pl t) % 2) s (fun e => ?_) (fun e => ?_)
    · rw [if_pos (decide_eq_true e)] at h0
      exact nm_r (nI_1 _) (nm_r (nI_1 _) h0)
    · rw [if_neg (by rw [decide_eq_false e]; exact Bool.false_ne_true)] at h0
      exact nm_r (nI_1 _) h0
theorem zy_won0 {post : Int32 → Prop} (st : zp_st dl ow T ld D) (ok : zp_ok dl ow T ld pl) (G : zy_G dl ow D pl a_dealt a_line) (h : post (nI (zp_w0 ow T pl))) : wpY_tricksWon post (f_handSize, nI D, nI pl.length, nI ld, nI T, 1, a_dealt, a_line, a_todo, a_best) 0 := by
  unfold wpY_tricksWon
  rw [zp_w0_eq] at h
  exact br_t rfl ⟨_, zy_w16 (s := 0) (by omega) st ok G h (pl.length / 4) 0 (by omega)⟩
theorem zy_won1 {post : Int32 → Prop} (st : zp_st dl ow T ld D) (ok : zp_ok dl ow T ld pl) (G : zy_G dl ow D pl a_dealt a_line) (h : post (nI (zp_w1 ow T pl))) : wpY_tricksWon post (f_handSize, nI D, nI pl.length, nI ld, nI T, 1, a_dealt, a_line, a_todo, a_best) 1 := by
  unfold wpY_tricksWon
  rw [zp_w1_eq] at h
  exact br_f (by decide) (br_t rfl ⟨_, zy_w16 (s := 1) (by omega) st ok G h (pl.length / 4) 0 (by omega)⟩)
end
end
section
/-! ===== Y: total ===== -/
/-- a node of Y's search: what is left to try, the best so far -/
def zy_N (dl : Nat → Bool) (ow : Nat → Nat) (T ld D : Nat) (pl : List Nat) (todo best : Nat → Int32) : Prop :=
  (∀ c, c < 32 → bt (todo pl.length) c = true → zp_lg dl ow T ld pl c) ∧
  ((best pl.length = -1 ∧ ∀ c, zp_lg dl ow T ld pl c → bt (todo pl.length) c = true) ∨
   (∃ b, best pl.length = nI (zp_w0 ow T pl + b) ∧ b ≤ 4 ∧ (∃ c, zp_lg dl ow T ld pl c ∧ bt (todo pl.length) c = false ∧ zv_x dl ow T ld D pl c = b) ∧
     (∀ c, zp_lg dl ow T ld pl c → bt (todo pl.length) c = false → (zp_a ow T ld pl % 2 = 0 → zv_x dl ow T ld D pl c ≤ b) ∧ (¬ zp_a ow T ld pl % 2 = 0 → b ≤ zv_x dl ow T ld D pl c))))
def zy_pres (n : Nat) (todo best todo' best' : Nat → Int32) : Prop := ∀ j, j < n → todo' j = todo j ∧ best' j = best j
theorem zy_N_pres {dl : Nat → Bool} {ow : Nat → Nat} {T ld D : Nat} {pl : List Nat} {todo best todo' best' : Nat → Int32} (h : zy_pres (pl.length + 1) todo best todo' best') (N : zy_N dl ow T ld D pl todo best) : zy_N dl ow T ld D pl todo' best' := by
  obtain ⟨e1, e2⟩ := h pl.length (Nat.lt_succ_self _)
  unfold zy_N
  rw [e1, e2]
  exact N
/-- all tried: the best is the value -/
theorem zy_N_done {dl : Nat → Bool} {ow : Nat → Nat} {T ld D : Nat} {pl : List Nat} {todo best : Nat → Int32} (st : zp_st dl ow T ld D) (ok : zp_ok dl ow T ld pl) (hl : pl.length < D) (N : zy_N dl ow T ld D pl todo best) (h0 : todo pl.length = 0) : best pl.length = nI (zp_w0 ow T pl + zv_v dl ow T ld D pl) := by
  obtain ⟨_, N⟩ := N
  have hb : ∀ c, bt (todo pl.length) c = false := fun c => by rw [h0]; exact b_0 c
  rcases N with ⟨_, N⟩ | ⟨b, b1, _, ⟨c, c1, c2, c3⟩, b3⟩
  · obtain ⟨c, hc⟩ := zp_legal st ok hl
    have := N c hc
    rw [hb c] at this
    exact absurd this (by decide)
  · rw [b1]
    congr 2
    by_cases e : zp_a ow T ld pl % 2 = 0
    · obtain ⟨a1, d, d1, d2⟩ := zv_even st ok hl e
      have q1 := a1 c c1
      have q2 := (b3 d d1 (hb d)).1 e
      omega
    · obtain ⟨a1, d, d1, d2⟩ := zv_odd st ok hl e
      have q1 := a1 c c1
      have q2 := (b3 d d1 (hb d)).2 e
      omega
theorem zy_zero {x : Int32} (h : ∀ c, c < 32 → bt x c = false) : x = 0 := b_ext (fun i hi => by rw [h i hi, b_0])
section
variable {f_handSize f_dealtCount f_count f_leader f_trumpSuit f_started : Int32} {a_dealt a_line a_todo a_best : Nat → Int32}
variable {dl : Nat → Bool} {ow : Nat → Nat} {T ld D : Nat}
def zy_K (post : Int32 → SY → Prop) (base : Nat) (dl : Nat → Bool) (ow : Nat → Nat) (T ld D : Nat) (hs : Int32) (dealt : Nat → Int32) (pl : List Nat) (xm : Nat) (todo best : Nat → Int32) : Prop :=
  ∀ line todo' best' x, zy_G dl ow D pl dealt line → todo' pl.length = 0 → (pl.length < D → best' pl.length = nI (zp_w0 ow T pl + zv_v dl ow T ld D pl)) → zy_pres pl.length todo best todo' best' → x ≤ xm →
    wY_total_24 post (nI base) hs (nI D) (nI ld) (nI T) 1 (20001 - x) (nI x) (nI pl.length) dealt line todo' best'
/-- the value of a node that is done -/
theorem zy_w {post : Int32 → SY → Prop} {pl : List Nat} {base x : Nat} (st : zp_st dl ow T ld D) (ok : zp_ok dl ow T ld pl) (hx : x < 20000) (G : zy_G dl ow D pl a_dealt a_line) (h0 : a_todo pl.length = 0) (hb : pl.length < D → a_best pl.length = nI (zp_w0 ow T pl + zv_v dl ow T ld D pl))
    (h : wY_total_172 post (wY_total_24 post (nI base) f_handSize (nI D) (nI ld) (nI T) 1 (20001 - (x + 1))) (nI base) (nI x) (nI (zp_w0 ow T pl + zv_v dl ow T ld D pl)) f_handSize (nI D) (nI pl.length) (nI ld) (nI T) 1 a_dealt a_line a_todo a_best) :
    wY_total_24 post (nI base) f_handSize (nI D) (nI ld) (nI T) 1 (20001 - x) (nI x) (nI pl.length) a_dealt a_line a_todo a_best := by
  have hn := zp_le st ok
  have hD := st.2.2.2.1
  have e : 20001 - x = (20001 - (x + 1)) + 1 := by omega
  have cn : (nI pl.length).toNatClampNeg = pl.length := nI_clamp (by omega)
  have vn : vp_in (nI pl.length) 17 := vp_in_nI (by omega) (by omega)
  rw [e]
  refine br_f (nI_ge (b := 20000) hx (by decide)) ⟨vn, ?_⟩
  rw [cn]
  refine br_t h0 (pk_eq pl.length D (fun q => ?_) (fun q => ⟨vn, ?_⟩))
  · refine zy_won0 st ok G ?_
    have h1 := (zv_is dl ow T ld D pl).1
    have h2 : zv_left D pl = 0 := by unfold zv_left; omega
    have h3 : zv_v dl ow T ld D pl = 0 := by omega
    rw [h3] at h
    exact h
  · rw [hb (by omega)]
    exact h
/-- back from a child that is done -/
theorem zy_back {post : Int32 → SY → Prop} {pl : List Nat} {base x c : Nat} (hbase : base ≤ pl.length) (st : zp_st dl ow T ld D) (ok : zp_ok dl ow T ld (c :: pl)) (hlg : zp_lg dl ow T ld pl c) (hx : x < 20000) (G : zy_G dl ow D (c :: pl) a_dealt a_line) (h0 : a_todo (pl.length + 1) = 0) (hb : pl.length + 1 < D → a_best (pl.length + 1) = nI (zp_w0 ow T (c :: pl) + zv_v dl ow T ld D (c :: pl))) {todo0 : Int32}
    (ht : ∀ d, d < 32 → bt (a_todo pl.length) d = (bt todo0 d && !decide (d = c))) (hc : bt todo0 c = true) (N : zy_N dl ow T ld D pl (upd a_todo pl.length todo0) a_best)
    (h : ∀ best, zy_G dl ow D pl a_dealt a_line → zy_N dl ow T ld D pl a_todo best → (∀ j, j ≠ pl.length → best j = a_best j) → wY_total_24 post (nI base) f_handSize (nI D) (nI ld) (nI T) 1 (20001 - (x + 1)) (nI (x + 1)) (nI pl.length) a_dealt a_line a_todo best) :
    wY_total_24 post (nI base) f_handSize (nI D) (nI ld) (nI T) 1 (20001 - x) (nI x) (nI (c :: pl).length) a_dealt a_line a_todo a_best := by
  have hn := zp_le st ok
  have hD := st.2.2.2.1
  have ha := zp_a4 st.2.2.1 ok.1
  have hl : pl.length < D := by rw [List.length_cons] at hn; omega
  have G' : zy_G dl ow D pl a_dealt a_line := ⟨G.1, fun i hi => by rw [G.2 i (by rw [List.length_cons]; omega), zp_at_n c pl (by omega)]⟩
  have hxl := zv_x_le (dl := dl) (ow := ow) (T := T) (ld := ld) st.2.2.2.2.1 hl c
  have hxl4 : zv_x dl ow T ld D pl c ≤ 4 := by unfold zv_left at hxl; omega
  have hw := zp_wins (ow := ow) (T := T) (pl := pl)
  have ew : zp_w0 ow T (c :: pl) + zv_v dl ow T ld D (c :: pl) = zp_w0 ow T pl + zv_x dl ow T ld D pl c := by
    rw [zp_gain_w]; unfold zv_x; omega
  have hn2 : pl.length + 1 ≤ D := by rw [List.length_cons] at hn; exact hn
  refine zy_w st ok hx G h0 hb ?_
  rw [ew]
  unfold wY_total_172
  refine br_f (fun z => ?_) (nm_r (e' := nI pl.length) (nI_pred _) ?_)
  · rw [List.length_cons, nI_eq (by omega) (by omega)] at z
    omega
  · have cn : (nI pl.length).toNatClampNeg = pl.length := nI_clamp (by omega)
    have vn : vp_in (nI pl.length) 17 := vp_in_nI (by omega) (by omega)
    -- the new best
    have lgt : ∀ d, d < 32 → bt (a_todo pl.length) d = true → bt todo0 d = true ∧ d ≠ c := by
      intro d hd z
      rw [ht d hd, Bool.and_eq_true] at z
      exact ⟨z.1, by simpa using z.2⟩
    obtain ⟨n1, n2⟩ := N
    rw [pk_us] at n1 n2
    have m1 : ∀ d, d < 32 → bt (a_todo pl.length) d = true → zp_lg dl ow T ld pl d := fun d hd z => n1 d hd (lgt d hd z).1
    have hcf : bt (a_todo pl.length) c = false := by rw [ht c ok.2.1, decide_eq_true rfl]; simp
    have split : ∀ d, zp_lg dl ow T ld pl d → bt (a_todo pl.length) d = false → d = c ∨ bt todo0 d = false := by
      intro d hd z
      rw [ht d hd.1] at z
      by_cases e : d = c
      · exact Or.inl e
      · right
        rw [decide_eq_false e] at z
        simpa using z
    have keep : ∀ d, zp_lg dl ow T ld pl d → bt todo0 d = false → bt (a_todo pl.length) d = false := by
      intro d hd z
      rw [ht d hd.1, z]; rfl
    -- writing c's total
    have wr : ((∀ d, zp_lg dl ow T ld pl d → bt todo0 d = false → (zp_a ow T ld pl % 2 = 0 → zv_x dl ow T ld D pl d ≤ zv_x dl ow T ld D pl c) ∧ (¬ zp_a ow T ld pl % 2 = 0 → zv_x dl ow T ld D pl c ≤ zv_x dl ow T ld D pl d))) → wY_total_255 post (wY_total_24 post (nI base) f_handSize (nI D) (nI ld) (nI T) 1 (20001 - (x + 1))) (nI base) (nI x) (nI (zp_w0 ow T pl + zv_x dl ow T ld D pl c)) f_handSize (nI D) (nI pl.length) (nI ld) (nI T) 1 a_dealt a_line a_todo a_best := by
      intro hall
      unfold wY_total_255
      refine ⟨vn, nm_r (e' := upd a_best pl.length (nI (zp_w0 ow T pl + zv_x dl ow T ld D pl c))) (by rw [cn]) (nm_r (nI_1 _) (h _ G' ⟨m1, Or.inr ⟨zv_x dl ow T ld D pl c, pk_us, hxl4, ⟨c, hlg, hcf, rfl⟩, fun d hd z => ?_⟩⟩ (fun j hj => pk_un hj)))⟩
      rcases split d hd z with e | e
      · rw [e]; exact ⟨fun _ => Nat.le_refl _, fun _ => Nat.le_refl _⟩
      · exact hall d hd e
    have k207 : ∀ z0 : Int32, (z0 = 0 ∨ z0 = 1) → (z0 = 1 ↔ zp_a ow T ld pl % 2 = 0) → wY_total_207 post (wY_total_24 post (nI base) f_handSize (nI D) (nI ld) (nI T) 1 (20001 - (x + 1))) (nI base) (nI x) (nI (zp_w0 ow T pl + zv_x dl ow T ld D pl c)) z0 f_handSize (nI D) (nI pl.length) (nI ld) (nI T) 1 a_dealt a_line a_todo a_best := by
      intro z0 h01 hz
      unfold wY_total_207
      rw [cn]
      refine ⟨vn, ?_⟩
      rcases n2 with ⟨b1, b2⟩ | ⟨b, b1, b2, b3, b4⟩
      · rw [b1]
        refine br_t (by decide) (wr (fun d hd z => ?_))
        rw [b2 d hd] at z
        exact absurd z (by decide)
      · rw [b1]
        have stay : (∀ d, zp_lg dl ow T ld pl d → bt (a_todo pl.length) d = false → (zp_a ow T ld pl % 2 = 0 → zv_x dl ow T ld D pl d ≤ b) ∧ (¬ zp_a ow T ld pl % 2 = 0 → b ≤ zv_x dl ow T ld D pl d)) → zy_N dl ow T ld D pl a_todo a_best := by
          intro hall
          obtain ⟨d, d1, d2, d3⟩ := b3
          exact ⟨m1, Or.inr ⟨b, b1, b2, ⟨d, d1, keep d d1 d2, d3⟩, hall⟩⟩
        refine br_f (nI_pos (by omega)) ?_
        rcases h01 with e | e
        · subst e
          have hodd : ¬ zp_a ow T ld pl % 2 = 0 := fun w => absurd (hz.mpr w) (by decide)
          refine br_t rfl ⟨vn, pk_le (zp_w0 ow T pl + b) (zp_w0 ow T pl + zv_x dl ow T ld D pl c) (fun q => nm_r (nI_1 _) (h _ G' (stay (fun d hd z => ⟨fun w => absurd w hodd, fun _ => ?_⟩)) (fun _ _ => rfl))) (fun q => wr (fun d hd z => ⟨fun w => absurd w hodd, fun _ => ?_⟩))⟩
          · rcases split d hd z with e | e
            · rw [e]; omega
            · exact (b4 d hd e).2 hodd
          · have := (b4 d hd z).2 hodd; omega
        · subst e
          have hev := hz.mp rfl
          refine br_f (by decide) ⟨vn, pk_le (zp_w0 ow T pl + zv_x dl ow T ld D pl c) (zp_w0 ow T pl + b) (fun q => nm_r (nI_1 _) (h _ G' (stay (fun d hd z => ⟨fun _ => ?_, fun w => absurd hev w⟩)) (fun _ _ => rfl))) (fun q => wr (fun d hd z => ⟨fun _ => ?_, fun w => absurd hev w⟩))⟩
          · rcases split d hd z with e | e
            · rw [e]; omega
            · exact (b4 d hd e).1 hev
          · have := (b4 d hd z).1 hev; omega
    refine zy_turn st ok.1 G' ⟨by decide, ?_⟩
    rw [zx_rem2 (by omega)]
    refine pk_eq (zp_a ow T ld pl % 2) 0 (fun e => ?_) (fun e => ?_)
    · exact k207 1 (Or.inr rfl) ⟨fun _ => e, fun _ => rfl⟩
    · exact k207 0 (Or.inl rfl) ⟨fun w => absurd w (by decide), fun w => absurd w e⟩
end
end
section
/-! ===== Y: total, the whole search ===== -/
section
variable {f_handSize f_dealtCount f_count f_leader f_trumpSuit f_started : Int32} {a_dealt a_line a_todo a_best : Nat → Int32}
variable {dl : Nat → Bool} {ow : Nat → Nat} {T ld D : Nat}
theorem zy_K_mono {post : Int32 → SY → Prop} {base : Nat} {hs : Int32} {dealt : Nat → Int32} {pl : List Nat} {xm xm' : Nat} {todo best todo' best' : Nat → Int32} (hx : xm' ≤ xm) (hp : zy_pres pl.length todo best todo' best') (K : zy_K post base dl ow T ld D hs dealt pl xm todo best) : zy_K post base dl ow T ld D hs dealt pl xm' todo' best' := by
  intro line todo2 best2 x q1 q2 q3 q4 q5
  exact K line todo2 best2 x q1 q2 q3 (fun j hj => ⟨(q4 j hj).1.trans (hp j hj).1, (q4 j hj).2.trans (hp j hj).2⟩) (Nat.le_trans q5 hx)
theorem zy_48 {post : Int32 → SY → Prop} {J24 : Int32 → Int32 → (Nat → Int32) → (Nat → Int32) → (Nat → Int32) → (Nat → Int32) → Prop} {x1 x2 : Int32} {n : Nat} (hn : n ≤ 16) (hne : ∃ c, c < 32 ∧ bt (a_todo n) c = true)
    (h : ∀ c, c < 32 → bt (a_todo n) c = true → ∀ m, wY_total_48 post J24 x1 x2 f_handSize f_dealtCount (nI n) f_leader f_trumpSuit f_started a_dealt a_line a_todo a_best (m + 1) (nI c) 32) :
    ∀ d i x3, i + d = 32 → (∀ j, j < i → bt (a_todo n) j = false) ∨ (∃ c, c < 32 ∧ bt (a_todo n) c = true ∧ x3 = nI c) → wY_total_48 post J24 x1 x2 f_handSize f_dealtCount (nI n) f_leader f_trumpSuit f_started a_dealt a_line a_todo a_best (d + 1) x3 (nI i) := by
  have vn : vp_in (nI n) 17 := vp_in_nI (by omega) (by omega)
  have cn : (nI n).toNatClampNeg = n := nI_clamp (by omega)
  intro d
  induction d with
  | zero =>
    intro i x3 hi I
    have ei : i = 32 := by omega
    subst ei
    rcases I with I | ⟨c, c1, c2, c3⟩
    · obtain ⟨c, c1, c2⟩ := hne
      rw [I c c1] at c2
      exact absurd c2 (by decide)
    · rw [c3]; exact h c c1 c2 0
  | succ d ih =>
    intro i x3 hi I
    refine br_f (nI_ge (b := 32) (by omega) (by decide)) ⟨vn, ?_⟩
    rw [cn, zy_bit _ (by omega)]
    refine br_c (fun z => nm_r (nI_1 _) (ih (i + 1) x3 (by omega) ?_)) (fun z => nm_r (nI_1 _) (ih (i + 1) _ (by omega) (Or.inr ⟨i, by omega, by simpa using z, rfl⟩)))
    rcases I with I | I
    · refine Or.inl (fun j hj => ?_)
      by_cases e : j = i
      · rw [e]; exact z
      · exact I j (by omega)
    · exact Or.inr I
theorem zy_exit {post : Int32 → SY → Prop} {J24 : Int32 → Int32 → (Nat → Int32) → (Nat → Int32) → (Nat → Int32) → (Nat → Int32) → Prop} {x1 : Int32} {pl : List Nat} {c x : Nat} (st : zp_st dl ow T ld D) (ok2 : zp_ok dl ow T ld (c :: pl)) (G : zy_G dl ow D pl a_dealt a_line)
    (h : ∀ L, zy_G dl ow D (c :: pl) a_dealt (upd a_line pl.length (nI c)) → (∀ d, d < 32 → (bt L d = true ↔ zp_lg dl ow T ld (c :: pl) d)) → J24 (nI (x + 1)) (nI (c :: pl).length) a_dealt (upd a_line pl.length (nI c)) (upd (upd a_todo pl.length (a_todo pl.length &&& (((1 : Int32) <<< (nI c &&& 31)) ^^^ (-1)))) (pl.length + 1) L) (upd a_best (pl.length + 1) (-1))) (m : Nat) :
    wY_total_48 post J24 x1 (nI x) f_handSize (nI D) (nI pl.length) (nI ld) (nI T) 1 a_dealt a_line a_todo a_best (m + 1) (nI c) 32 := by
  have hn := zp_le st ok2
  have hD := st.2.2.2.1
  rw [List.length_cons] at hn
  have vn : vp_in (nI pl.length) 17 := vp_in_nI (by omega) (by omega)
  have cn : (nI pl.length).toNatClampNeg = pl.length := nI_clamp (by omega)
  have vn1 : vp_in (nI (c :: pl).length) 17 := vp_in_nI (by rw [List.length_cons]; omega) (by omega)
  have cn1 : (nI (c :: pl).length).toNatClampNeg = pl.length + 1 := by rw [List.length_cons]; exact nI_clamp (by omega)
  have G2 : zy_G dl ow D (c :: pl) a_dealt (upd a_line pl.length (nI c)) := by
    refine ⟨G.1, fun i hi => ?_⟩
    rw [List.length_cons] at hi
    by_cases ei : i = pl.length
    · rw [ei, pk_us, zp_at_c]
    · rw [pk_un ei, zp_at_n c pl ei]; exact G.2 i (by omega)
  refine br_t (by decide) ⟨vn, vn, nm_r (e' := upd a_todo pl.length (a_todo pl.length &&& (((1 : Int32) <<< (nI c &&& 31)) ^^^ (-1)))) (by rw [cn]) ?_⟩
  refine ⟨vn, nm_r (e' := upd a_line pl.length (nI c)) (by rw [cn]) (nm_r (e' := nI (c :: pl).length) (nI_1 _) ?_)⟩
  refine zy_legal st ok2 G2 (fun L hL => ?_)
  refine ⟨vn1, nm_r (e' := upd (upd a_todo pl.length (a_todo pl.length &&& (((1 : Int32) <<< (nI c &&& 31)) ^^^ (-1)))) (pl.length + 1) L) (by rw [cn1]) ?_⟩
  exact ⟨vn1, nm_r (e' := upd a_best (pl.length + 1) (-1)) (by rw [cn1]) (nm_r (nI_1 _) (h L G2 hL))⟩
theorem zy_solve {post : Int32 → SY → Prop} {base : Nat} {hs : Int32} {dealt : Nat → Int32} (st : zp_st dl ow T ld D) :
    ∀ (k : Nat) (pl : List Nat), D - pl.length = k → k ≤ 12 → base ≤ pl.length → zp_ok dl ow T ld pl →
    ∀ (m : Nat) (line todo best : Nat → Int32) (x : Nat), zy_G dl ow D pl dealt line → zy_N dl ow T ld D pl todo best → zc_tot (bt (todo pl.length)) ≤ m → x + m * (2 + zs_st (k - 1)) ≤ 19999 →
    zy_K post base dl ow T ld D hs dealt pl (x + m * (2 + zs_st (k - 1))) todo best →
    wY_total_24 post (nI base) hs (nI D) (nI ld) (nI T) 1 (20001 - x) (nI x) (nI pl.length) dealt line todo best := by
  intro k
  induction k using Nat.strongRecOn with
  | ind k IH =>
  intro pl hk k12 hb ok m
  have hn := zp_le st ok
  have hD := st.2.2.2.1
  have vn : vp_in (nI pl.length) 17 := vp_in_nI (by omega) (by omega)
  have cn : (nI pl.length).toNatClampNeg = pl.length := nI_clamp (by omega)
  have nz : ∀ (todo best : Nat → Int32), zy_N dl ow T ld D pl todo best → ¬ todo pl.length = 0 → ∃ c, c < 32 ∧ bt (todo pl.length) c = true ∧ zp_lg dl ow T ld pl c := by
    intro todo best N h0
    apply Classical.byContradiction
    intro hno
    apply h0
    refine zy_zero (fun c hc => ?_)
    by_cases e : bt (todo pl.length) c = true
    · exact absurd ⟨c, hc, e, N.1 c hc e⟩ hno
    · simpa using e
  have hlen : ∀ c, zp_lg dl ow T ld pl c → pl.length < D := by
    intro c hc
    have h1 := zp_tot st ok
    have h2 := zc_ab_tot (p := zp_H dl pl) hc.1 hc.2.1
    omega
  have zer : ∀ (line todo best : Nat → Int32) (x B : Nat), zy_G dl ow D pl dealt line → zy_N dl ow T ld D pl todo best → todo pl.length = 0 → zy_K post base dl ow T ld D hs dealt pl (x + B) todo best → wY_total_24 post (nI base) hs (nI D) (nI ld) (nI T) 1 (20001 - x) (nI x) (nI pl.length) dealt line todo best := by
    intro line todo best x B G N h0 K
    exact K line todo best x G h0 (fun hl => zy_N_done st ok hl N h0) (fun _ _ => ⟨rfl, rfl⟩) (Nat.le_add_right _ _)
  induction m with
  | zero =>
    intro line todo best x G N hm hx K
    by_cases h0 : todo pl.length = 0
    · exact zer line todo best x _ G N h0 K
    · obtain ⟨c, c1, c2, _⟩ := nz todo best N h0
      have := zc_ab_tot c1 c2
      omega
  | succ m ihm =>
    intro line todo best x G N hm hx K
    by_cases h0 : todo pl.length = 0
    · exact zer line todo best x _ G N h0 K
    have hB : (m + 1) * (2 + zs_st (k - 1)) = m * (2 + zs_st (k - 1)) + (2 + zs_st (k - 1)) := Nat.succ_mul _ _
    rw [hB] at hx K
    obtain ⟨c0, c1, c2, c3⟩ := nz todo best N h0
    have hl := hlen c0 c3
    have e : 20001 - x = (20001 - (x + 1)) + 1 := by omega
    rw [e]
    refine br_f (nI_ge (b := 20000) (by omega) (by decide)) ⟨vn, ?_⟩
    rw [cn]
    refine br_f h0 ⟨33, zy_48 (by omega) ⟨c0, c1, c2⟩ (fun c hc hbit mm => ?_) 32 0 0 rfl (Or.inl (fun j hj => absurd hj (Nat.not_lt_zero _)))⟩
    have hlg := N.1 c hc hbit
    have ok2 := zp_lg_ok ok hlg
    refine zy_exit st ok2 G (fun L G2 hL => ?_) mm
    have hmany := zf_many st ok2 hL
    rw [List.length_cons] at hmany
    have hmul : zc_tot (bt L) * (2 + zs_st (k - 1 - 1)) ≤ zs_st (k - 1) := by
      by_cases hk1 : k - 1 = 0
      · have : zc_tot (bt L) = 0 := by omega
        rw [this, Nat.zero_mul]; exact Nat.zero_le _
      · have hk2 : k - 1 = (k - 1 - 1) + 1 := by omega
        have hst : zs_st (k - 1) = ((k - 1 - 1 + 1 + 3) / 4) * (2 + zs_st (k - 1 - 1)) := by
          conv => lhs; rw [hk2]
          rfl
        rw [hst]
        refine Nat.mul_le_mul_right _ (Nat.le_trans hmany ?_)
        have : D - (pl.length + 1) = k - 1 - 1 + 1 := by omega
        rw [this]
        exact Nat.le_refl _
    refine IH (k - 1) (by omega) (c :: pl) (by rw [List.length_cons]; omega) (by omega) (by rw [List.length_cons]; omega) ok2 (zc_tot (bt L)) _ _ _ (x + 1) G2 ⟨fun d hd z => ?_, Or.inl ⟨?_, fun d hd => ?_⟩⟩ ?_ (by omega) ?_
    · rw [List.length_cons, pk_us] at z; exact (hL d hd).mp z
    · rw [List.length_cons, pk_us]
    · rw [List.length_cons, pk_us]; exact (hL d hd.1).mpr hd
    · rw [List.length_cons, pk_us]; exact Nat.le_refl _
    · intro line3 todo3 best3 x3 q1 q2 q3 q4 q5
      rw [List.length_cons] at q2 q3 q4
      have p0 := q4 pl.length (Nat.lt_succ_self _)
      have et : todo3 pl.length = todo pl.length &&& (((1 : Int32) <<< (nI c &&& 31)) ^^^ (-1)) := by
        rw [p0.1, pk_un (by omega), pk_us]
      have eb : best3 pl.length = best pl.length := by rw [p0.2, pk_un (by omega)]
      have htt : ∀ d, d < 32 → bt (todo3 pl.length) d = (bt (todo pl.length) d && !decide (d = c)) := by
        intro d hd
        rw [et, b_and, zx_not _ hd, zx_one hc hd]
      refine zy_back (todo0 := todo pl.length) hb st ok2 hlg (by omega) q1 q2 q3 htt hbit ?_ (fun best4 g1 g2 g3 => ?_)
      · unfold zy_N
        rw [pk_us, eb]
        exact N
      · have hlt : zc_tot (bt (todo3 pl.length)) < zc_tot (bt (todo pl.length)) := zc_tot_lt hc hbit (by rw [htt c hc, decide_eq_true rfl]; simp) (fun y hy z => by rw [htt y hy, Bool.and_eq_true] at z; exact z.1)
        refine ihm line3 todo3 best4 (x3 + 1) g1 g2 (by omega) (by omega) (zy_K_mono (by omega) (fun j hj => ?_) K)
        have q := q4 j (by omega)
        exact ⟨by rw [q.1, pk_un (by omega), pk_un (by omega)], by rw [g3 j (by omega), q.2, pk_un (by omega)]⟩
theorem zy_total {post : Int32 → SY → Prop} {pl : List Nat} (st : zp_st dl ow T ld D) (ok : zp_ok dl ow T ld pl) (k12 : D - pl.length ≤ 12) (G : zy_G dl ow D pl a_dealt a_line)
    (h : ∀ line todo best, zy_G dl ow D pl a_dealt line → post (nI (zp_w0 ow T pl + zv_v dl ow T ld D pl)) (f_handSize, nI D, nI pl.length, nI ld, nI T, 1, a_dealt, line, todo, best)) : wpY_total post (f_handSize, nI D, nI pl.length, nI ld, nI T, 1, a_dealt, a_line, a_todo, a_best) := by
  have hn := zp_le st ok
  have hD := st.2.2.2.1
  have vn : vp_in (nI pl.length) 17 := vp_in_nI (by omega) (by omega)
  have cn : (nI pl.length).toNatClampNeg = pl.length := nI_clamp (by omega)
  unfold wpY_total
  refine zy_legal st ok G (fun L hL => ⟨vn, nm_r (e' := upd a_todo pl.length L) (by rw [cn]) ⟨vn, nm_r (e' := upd a_best pl.length (-1)) (by rw [cn]) ⟨20001 - 0, ?_⟩⟩⟩)
  have hmany := zf_many st ok hL
  have h12 := zs_st12 (D - pl.length) (by omega)
  have hmul : zc_tot (bt L) * (2 + zs_st (D - pl.length - 1)) ≤ zs_st (D - pl.length) := by
    by_cases hk1 : D - pl.length = 0
    · have : zc_tot (bt L) = 0 := by omega
      rw [this, Nat.zero_mul]; exact Nat.zero_le _
    · have hk2 : D - pl.length = (D - pl.length - 1) + 1 := by omega
      have hst : zs_st (D - pl.length) = ((D - pl.length - 1 + 1 + 3) / 4) * (2 + zs_st (D - pl.length - 1)) := by
        conv => lhs; rw [hk2]
        rfl
      rw [hst]
      refine Nat.mul_le_mul_right _ (Nat.le_trans hmany ?_)
      rw [← hk2]
      exact Nat.le_refl _
  refine zy_solve st (D - pl.length) pl rfl k12 (Nat.le_refl _) ok (zc_tot (bt L)) a_line _ _ 0 G ⟨fun d hd z => ?_, Or.inl ⟨pk_us, fun d hd => ?_⟩⟩ ?_ (by omega) ?_
  · rw [pk_us] at z; exact (hL d hd).mp z
  · rw [pk_us]; exact (hL d hd.1).mpr hd
  · rw [pk_us]; exact Nat.le_refl _
  · intro line3 todo3 best3 x3 q1 q2 q3 q4 q5
    refine zy_w st ok (by omega) q1 q2 q3 ?_
    unfold wY_total_172
    exact br_t rfl (h line3 todo3 best3 q1)
end
end
section
/-! ===== Y: the questions ===== -/
def zy_I (dl : Nat → Bool) (ow : Nat → Nat) (T ld D : Nat) (hs : Int32) (dealt : Nat → Int32) (pl : List Nat) (v : SY) : Prop :=
  ∃ line todo best, zy_G dl ow D pl dealt line ∧ v = (hs, nI D, nI pl.length, nI ld, nI T, 1, dealt, line, todo, best)
section
variable {f_handSize f_dealtCount f_count f_leader f_trumpSuit f_started : Int32} {a_dealt a_line a_todo a_best : Nat → Int32}
variable {dl : Nat → Bool} {ow : Nat → Nat} {T ld D : Nat} {pl : List Nat} {hs : Int32} {dealt : Nat → Int32}
theorem zy_put {c : Nat} (G : zy_G dl ow D pl a_dealt a_line) : zy_G dl ow D (c :: pl) a_dealt (upd a_line pl.length (nI c)) := by
  refine ⟨G.1, fun i hi => ?_⟩
  rw [List.length_cons] at hi
  by_cases ei : i = pl.length
  · rw [ei, pk_us, zp_at_c]
  · rw [pk_un ei, zp_at_n c pl ei]; exact G.2 i (by omega)
theorem zy_take {c : Nat} (G : zy_G dl ow D (c :: pl) a_dealt a_line) : zy_G dl ow D pl a_dealt a_line :=
  ⟨G.1, fun i hi => by rw [G.2 i (by rw [List.length_cons]; omega), zp_at_n c pl (by omega)]⟩
theorem zy_cardValue {post : Int32 → SY → Prop} {v : SY} {p0 : Int32} (st : zp_st dl ow T ld D) (ok : zp_ok dl ow T ld pl) (I : zy_I dl ow T ld D hs dealt pl v) (h1 : ∀ r, r ≠ 0 → zr_ref dl ow T ld D pl p0 r → ∀ v', zy_I dl ow T ld D hs dealt pl v' → post r v')
    (h2 : ∀ c, zp_lg dl ow T ld pl c → p0 = nI c → pl.length < D → 12 < D - pl.length → ∀ v', zy_I dl ow T ld D hs dealt pl v' → post (-11) v')
    (h3 : ∀ c, zp_lg dl ow T ld pl c → p0 = nI c → pl.length < D → D - pl.length ≤ 12 → ∀ v', zy_I dl ow T ld D hs dealt pl v' → post (nI (zv_c dl ow T ld D pl c)) v') : wpY_cardValue post v p0 := by
  obtain ⟨line, todo, best, G, rfl⟩ := I
  have hn := zp_le st ok
  have hD := st.2.2.2.1
  have ha := zp_a4 st.2.2.1 ok
  unfold wpY_cardValue
  refine zy_ref st ok G (fun r hr => ?_)
  by_cases er : r = 0
  · subst er
    obtain ⟨c, c1, c2, c3, c4⟩ := zr_ref_0 hr
    subst c2
    have e : nI D - nI pl.length = nI (D - pl.length) := pk_sub hn
    have e3 : nI (D - pl.length) + 3 = nI (D - pl.length + 3) := nI_add _ 3
    have e4 : nI (D - pl.length + 3) / 4 = nI (zv_left D pl) := pk_div (d := 4) (by omega) (by omega) (by omega)
    have ok2 := zp_lg_ok ok c3
    refine br_t rfl ?_
    show (nI D - nI pl.length ≤ 12 → _) ∧ _
    rw [e, e3, e4]
    refine pk_le (D - pl.length) 12 (fun w => ?_) (fun w => h2 c c3 rfl c4 w _ ⟨line, todo, best, G, rfl⟩)
    refine zy_won0 st ok G (zy_turn st ok G ⟨by decide, nm_r (zx_rem2 (by omega)) ⟨by decide, nm_e ⟨vp_in_nI (by omega) (by omega), nm_r (e' := upd line pl.length (nI c)) (by rw [nI_clamp (by omega)]) (nm_r (e' := nI (c :: pl).length) (nI_1 _) ?_)⟩⟩⟩)
    refine zy_total st ok2 (by rw [List.length_cons]; omega) (zy_put G) (fun line2 todo2 best2 G2 => ?_)
    refine nm_r (e' := nI (zv_x dl ow T ld D pl c)) ?_ (nm_r (e' := nI pl.length) (nI_pred _) ?_)
    · have e9 : zp_w0 ow T (c :: pl) + zv_v dl ow T ld D (c :: pl) = zp_w0 ow T pl + zv_x dl ow T ld D pl c := by rw [zp_gain_w]; unfold zv_x; omega
      rw [e9, pk_sub (Nat.le_add_right _ _), Nat.add_sub_cancel_left]
    · have h4 := h3 c c3 rfl c4 w _ ⟨line2, todo2, best2, zy_take G2, rfl⟩
      unfold zv_c at h4
      refine pk_eq (zp_a ow T ld pl % 2) 0 (fun e => ?_) (fun e => ?_)
      · rw [if_pos e] at h4; exact h4
      · rw [if_neg e] at h4
        have en : nI (zv_left D pl) - nI (zv_x dl ow T ld D pl c) = nI (zv_left D pl - zv_x dl ow T ld D pl c) := pk_sub (zv_x_le st.2.2.2.2.1 c4 c)
        rw [← en] at h4
        exact h4
  · exact br_f er (h1 r er hr _ ⟨line, todo, best, G, rfl⟩)
/-- a card of the 32 that is refused while playing answers -8 or -9 -/
theorem zy_ref89 {c : Nat} {r : Int32} (hc : c < 32) (hl : pl.length < D) (hr : r ≠ 0) (h : zr_ref dl ow T ld D pl (nI c) r) : (r = -8 ∨ r = -9) ∧ ¬ zp_lg dl ow T ld pl c := by
  rcases h with ⟨h, _⟩ | ⟨_, ⟨h, _⟩ | ⟨d, d1, d2, h⟩⟩
  · omega
  · exfalso
    rcases h with z | z
    · exact nI_pos (by omega) z
    · exact z (nI_le (a := c) (b := 31) (by omega) (by omega))
  · rw [nI_eq (by omega) (by omega)] at d2
    subst d2
    rcases h with ⟨a, b⟩ | ⟨_, a, b⟩ | ⟨_, b⟩
    · exact ⟨Or.inl b, fun z => a ⟨z.2.1, z.2.2.1⟩⟩
    · exact ⟨Or.inr b, a⟩
    · exact absurd b hr
theorem zy_s_le (st : zp_st dl ow T ld D) (ok : zp_ok dl ow T ld pl) (hl : pl.length < D) (c : Nat) : zv_c dl ow T ld D pl c ≤ 4 ∧ zv_s dl ow T ld D pl ≤ 4 := by
  have h1 := zv_x_le (dl := dl) (ow := ow) (T := T) (ld := ld) st.2.2.2.2.1 hl c
  have h2 := (zv_is dl ow T ld D pl).1
  have hD := st.2.2.2.1
  have h3 : zv_left D pl ≤ 4 := by unfold zv_left; omega
  unfold zv_c zv_s
  constructor <;> split <;> omega
theorem zy_valLoop {post : Int32 → SY → Prop} (st : zp_st dl ow T ld D) (ok : zp_ok dl ow T ld pl) (hl : pl.length < D) (k12 : D - pl.length ≤ 12) (h : ∀ v', zy_I dl ow T ld D hs dealt pl v' → post (nI (zv_s dl ow T ld D pl)) v') :
    ∀ d i b v, i + d = 32 → (∀ c, c < i → zp_lg dl ow T ld pl c → zv_c dl ow T ld D pl c ≤ b) → (b = 0 ∨ ∃ c, zp_lg dl ow T ld pl c ∧ zv_c dl ow T ld D pl c = b) → zy_I dl ow T ld D hs dealt pl v → (match v with | (f_handSize, f_dealtCount, f_count, f_leader, f_trumpSuit, f_started, a_dealt, a_line, a_todo, a_best) => wY_value_31 post (d + 1) (nI b) (nI i) f_handSize f_dealtCount f_count f_leader f_trumpSuit f_started a_dealt a_line a_todo a_best) := by
  obtain ⟨b1, cb, cb1, cb2⟩ := zv_best st ok hl
  have neg : ∀ b, b < 5 → (-8 : Int32) ≤ nI b ∧ (-9 : Int32) ≤ nI b := by decide
  have b4 : ∀ b, (b = 0 ∨ ∃ c, zp_lg dl ow T ld pl c ∧ zv_c dl ow T ld D pl c = b) → b ≤ 4 := by
    intro b hb
    rcases hb with e | ⟨c, _, e⟩
    · omega
    · have := (zy_s_le st ok hl c).1; omega
  intro d
  induction d with
  | zero =>
    intro i b v hi hb hb2 I
    have ei : i = 32 := by omega
    subst ei
    have e : b = zv_s dl ow T ld D pl := by
      have q1 := hb cb cb1.1 cb1
      rcases hb2 with e | ⟨c, c1, c2⟩
      · omega
      · have := b1 c c1; omega
    have h4 := h v I
    obtain ⟨line, todo, best, G, rfl⟩ := I
    refine br_t (by decide) ?_
    rw [e]; exact h4
  | succ d ih =>
    intro i b v hi hb hb2 I
    have hb4 := b4 b hb2
    have I0 := I
    obtain ⟨line, todo, best, G, rfl⟩ := I
    refine br_f (nI_ge (b := 32) (by omega) (by decide)) (zy_cardValue st ok I0 (fun r hr1 hr2 v' I' => ?_) (fun c c1 c2 c3 c4 v' I' => absurd c4 (by omega)) (fun c c1 c2 c3 c4 v' I' => ?_))
    · obtain ⟨e89, hnl⟩ := zy_ref89 (by omega) hl hr1 hr2
      have h5 := ih (i + 1) b v' (by omega) (fun c hc z => by
        by_cases e : c = i
        · rw [e] at z; exact absurd z hnl
        · exact hb c (by omega) z) hb2 I'
      obtain ⟨line, todo, best, G, rfl⟩ := I'
      refine br_t ?_ (nm_r (nI_1 _) h5)
      rcases e89 with e | e
      · rw [e]; exact (neg b (by omega)).1
      · rw [e]; exact (neg b (by omega)).2
    · rw [nI_eq (by omega) (by have := c1.1; omega)] at c2
      subst c2
      have hc4 := (zy_s_le st ok hl i).1
      have h5 := fun b' q1 q2 => ih (i + 1) b' v' (by omega) q1 q2 I'
      obtain ⟨line, todo, best, G, rfl⟩ := I'
      refine pk_le (zv_c dl ow T ld D pl i) b (fun q => nm_r (nI_1 _) (h5 b (fun c hc z => ?_) hb2)) (fun q => nm_r (nI_1 _) (h5 _ (fun c hc z => ?_) (Or.inr ⟨i, c1, rfl⟩)))
      · by_cases e : c = i
        · rw [e]; exact q
        · exact hb c (by omega) z
      · by_cases e : c = i
        · rw [e]; exact Nat.le_refl _
        · have := hb c (by omega) z; omega
theorem zy_value {post : Int32 → SY → Prop} {v : SY} (st : zp_st dl ow T ld D) (ok : zp_ok dl ow T ld pl) (I : zy_I dl ow T ld D hs dealt pl v) (h1 : D ≤ pl.length → ∀ v', zy_I dl ow T ld D hs dealt pl v' → post (-1) v') (h2 : pl.length < D → 12 < D - pl.length → ∀ v', zy_I dl ow T ld D hs dealt pl v' → post (-11) v')
    (h3 : pl.length < D → D - pl.length ≤ 12 → ∀ v', zy_I dl ow T ld D hs dealt pl v' → post (nI (zv_s dl ow T ld D pl)) v') : wpY_value post v := by
  have I0 := I
  obtain ⟨line, todo, best, G, rfl⟩ := I
  have hn := zp_le st ok
  have hD := st.2.2.2.1
  have e : nI D - nI pl.length = nI (D - pl.length) := pk_sub hn
  unfold wpY_value
  unfold wpY_phase
  refine br_f (by decide) (pk_le D pl.length (fun q => ?_) (fun q => ?_))
  · exact br_f (by decide) (h1 q _ I0)
  · refine br_t rfl ?_
    rw [e]
    refine pk_le (D - pl.length) 12 (fun w => ⟨33, ?_⟩) (fun w => h2 q w _ I0)
    exact zy_valLoop st ok q w (h3 q w) 32 0 0 _ rfl (fun c hc => absurd hc (Nat.not_lt_zero _)) (Or.inl rfl) I0
theorem zy_canWin {post : Int32 → SY → Prop} {v : SY} {p0 : Int32} (st : zp_st dl ow T ld D) (ok : zp_ok dl ow T ld pl) (I : zy_I dl ow T ld D hs dealt pl v) (h1 : D ≤ pl.length → ∀ v', zy_I dl ow T ld D hs dealt pl v' → post (-1) v') (h2 : pl.length < D → 12 < D - pl.length → ∀ v', zy_I dl ow T ld D hs dealt pl v' → post (-11) v')
    (h3 : pl.length < D → D - pl.length ≤ 12 → ∀ v', zy_I dl ow T ld D hs dealt pl v' → post (zx_b (decide (p0.toInt ≤ (zv_s dl ow T ld D pl : Int)))) v') : wpY_canWin post v p0 := by
  have I0 := I
  obtain ⟨line, todo, best, G, rfl⟩ := I
  unfold wpY_canWin
  refine zy_value st ok I0 (fun q v' I' => ?_) (fun q w v' I' => ?_) (fun q w v' I' => ?_)
  · have h4 := h1 q v' I'
    obtain ⟨line, todo, best, G, rfl⟩ := I'
    exact br_f (by decide) h4
  · have h4 := h2 q w v' I'
    obtain ⟨line, todo, best, G, rfl⟩ := I'
    exact br_f (by decide) h4
  · have h4 := h3 q w v' I'
    have hs4 := (zy_s_le st ok q 0).2
    have ei := nI_toInt (n := zv_s dl ow T ld D pl) (by omega)
    obtain ⟨line, todo, best, G, rfl⟩ := I'
    refine br_t (nI_pos' (by omega)) (br_c (fun z => ?_) (fun z => ?_))
    · have := Int32.lt_iff_toInt_lt.mp z
      rw [ei] at this
      rw [decide_eq_false (by omega)] at h4
      exact h4
    · have : ¬ (nI (zv_s dl ow T ld D pl)).toInt < p0.toInt := fun w => z (Int32.lt_iff_toInt_lt.mpr w)
      rw [ei] at this
      rw [decide_eq_true (by omega)] at h4
      exact h4
theorem zy_bestLoop {post : Int32 → SY → Prop} (st : zp_st dl ow T ld D) (ok : zp_ok dl ow T ld pl) (hl : pl.length < D) (k12 : D - pl.length ≤ 12) (h : ∀ B v', zv_B dl ow T ld D pl 32 B → zy_I dl ow T ld D hs dealt pl v' → post B v') :
    ∀ d i B v, i + d = 32 → zv_B dl ow T ld D pl i B → zy_I dl ow T ld D hs dealt pl v → (match v with | (f_handSize, f_dealtCount, f_count, f_leader, f_trumpSuit, f_started, a_dealt, a_line, a_todo, a_best) => wY_bestCards_15 post (nI (zv_s dl ow T ld D pl)) (d + 1) B (nI i) f_handSize f_dealtCount f_count f_leader f_trumpSuit f_started a_dealt a_line a_todo a_best) := by
  have neg : ∀ b, b < 5 → ¬ (-8 : Int32) = nI b ∧ ¬ (-9 : Int32) = nI b := by decide
  have hs4 := (zy_s_le st ok hl 0).2
  intro d
  induction d with
  | zero =>
    intro i B v hi hB I
    have ei : i = 32 := by omega
    subst ei
    have h4 := h B v hB I
    obtain ⟨line, todo, best, G, rfl⟩ := I
    exact br_t (by decide) h4
  | succ d ih =>
    intro i B v hi hB I
    have I0 := I
    obtain ⟨line, todo, best, G, rfl⟩ := I
    refine br_f (nI_ge (b := 32) (by omega) (by decide)) (zy_cardValue st ok I0 (fun r hr1 hr2 v' I' => ?_) (fun c c1 c2 c3 c4 v' I' => absurd c4 (by omega)) (fun c c1 c2 c3 c4 v' I' => ?_))
    · obtain ⟨e89, hnl⟩ := zy_ref89 (by omega) hl hr1 hr2
      have h5 := ih (i + 1) B v' (by omega) (zv_B_no hB (fun z => hnl z.1)) I'
      obtain ⟨line, todo, best, G, rfl⟩ := I'
      refine br_f ?_ (nm_r (nI_1 _) h5)
      rcases e89 with e | e
      · rw [e]; exact (neg _ (by omega)).1
      · rw [e]; exact (neg _ (by omega)).2
    · rw [nI_eq (by omega) (by have := c1.1; omega)] at c2
      subst c2
      have hc4 := (zy_s_le st ok hl i).1
      have h5 := fun B' q1 => ih (i + 1) B' v' (by omega) q1 I'
      obtain ⟨line, todo, best, G, rfl⟩ := I'
      refine pk_eq (zv_c dl ow T ld D pl i) (zv_s dl ow T ld D pl) (fun q => nm_e (nm_r (nI_1 _) (h5 _ (zv_B_yes (by omega) hB ⟨c1, q⟩)))) (fun q => nm_r (nI_1 _) (h5 _ (zv_B_no hB (fun z => q z.2))))
theorem zy_best {post : Int32 → SY → Prop} {v : SY} (st : zp_st dl ow T ld D) (ok : zp_ok dl ow T ld pl) (I : zy_I dl ow T ld D hs dealt pl v) (h1 : ¬ (pl.length < D ∧ D - pl.length ≤ 12) → ∀ v', zy_I dl ow T ld D hs dealt pl v' → post 0 v')
    (h3 : pl.length < D → D - pl.length ≤ 12 → ∀ B v', zv_B dl ow T ld D pl 32 B → zy_I dl ow T ld D hs dealt pl v' → post B v') : wpY_bestCards post v := by
  have I0 := I
  obtain ⟨line, todo, best, G, rfl⟩ := I
  unfold wpY_bestCards
  refine zy_value st ok I0 (fun q v' I' => ?_) (fun q w v' I' => ?_) (fun q w v' I' => ?_)
  · have h4 := h1 (by omega) v' I'
    obtain ⟨line, todo, best, G, rfl⟩ := I'
    exact br_f (by decide) h4
  · have h4 := h1 (by omega) v' I'
    obtain ⟨line, todo, best, G, rfl⟩ := I'
    exact br_f (by decide) h4
  · have hs4 := (zy_s_le st ok q 0).2
    have h5 := zy_bestLoop st ok q w (h3 q w) 32 0 0 v' rfl (fun c hc => by rw [b_0]; exact ⟨fun z => absurd z (by decide), fun z => absurd z.1 (Nat.not_lt_zero _)⟩) I'
    obtain ⟨line, todo, best, G, rfl⟩ := I'
    exact br_t (nI_pos' (by omega)) ⟨33, h5⟩
end
end
section
/-! ===== the relation ===== -/
def zr_D (dl : Nat → Bool) (ow : Nat → Nat) (D z : Nat) : Prop :=
  1 ≤ z ∧ z ≤ 4 ∧ D ≤ 4 * z ∧ (∀ c, dl c = true → c < 32 ∧ ow c < 4) ∧ zc_tot dl = D ∧ ∀ s, s < 4 → zc_tot (fun y => dl y && decide (ow y = s)) = (D + 3 - s) / 4
/-- X, Y while dealing -/
def zx_O (dl : Nat → Bool) (ow : Nat → Nat) (D : Nat) (hs ds : Int32) (u : SX) : Prop :=
  ∃ act tr vd R hands owner line won goal todo seen kl ko cw cl cm co ns, (zx_G dl ow 0 [] hands owner line won ∧ zk_TT cw cl cm co ∧ zk_NS ns) ∧ u = (hs, ds, nI D, 0, act, tr, 0, vd, R, hands, owner, line, won, goal, todo, seen, kl, ko, cw, cl, cm, co, ns)
def zy_O (dl : Nat → Bool) (ow : Nat → Nat) (D : Nat) (hs : Int32) (v : SY) : Prop :=
  ∃ leader trump dealt line todo best, zy_G dl ow D [] dealt line ∧ v = (hs, nI D, 0, leader, trump, 0, dealt, line, todo, best)
/-- the two objects keep the same game, and X's table is true -/
def i_Rel (_ : Nat) (u : SX) (v : SY) : Prop :=
  ∃ dl ow D z ds, zr_D dl ow D z ∧ (∀ c, c < 32 → bt ds c = dl c) ∧
    ((zx_O dl ow D (nI z) ds u ∧ zy_O dl ow D (nI z) v) ∨ (∃ T ld pl owner dealt, zp_st dl ow T ld D ∧ zp_ok dl ow T ld pl ∧ zx_I dl ow T ld D (nI z) ds owner pl u ∧ zy_I dl ow T ld D (nI z) dealt pl v))
theorem i_up {k : Nat} {u : SX} {v : SY} (h : i_Rel k u v) : i_Rel (k + 3) u v := h
section
variable {k : Nat} {u : SX} {v : SY} {dl : Nat → Bool} {ow : Nat → Nat} {T ld D z : Nat} {pl : List Nat} {ds : Int32} {owner dealt : Nat → Int32}
theorem zr_o (hD : zr_D dl ow D z) (hd : ∀ c, c < 32 → bt ds c = dl c) (a : zx_O dl ow D (nI z) ds u) (b : zy_O dl ow D (nI z) v) : i_Rel k u v := ⟨dl, ow, D, z, ds, hD, hd, Or.inl ⟨a, b⟩⟩
theorem zr_s (hD : zr_D dl ow D z) (hd : ∀ c, c < 32 → bt ds c = dl c) (st : zp_st dl ow T ld D) (ok : zp_ok dl ow T ld pl) (a : zx_I dl ow T ld D (nI z) ds owner pl u) (b : zy_I dl ow T ld D (nI z) dealt pl v) : i_Rel k u v := ⟨dl, ow, D, z, ds, hD, hd, Or.inr ⟨T, ld, pl, owner, dealt, st, ok, a, b⟩⟩
theorem zr_D16 (hD : zr_D dl ow D z) : D ≤ 16 := by
  obtain ⟨_, a, b, _⟩ := hD
  omega
theorem zr_stD (hD : zr_D dl ow D z) (h4 : D % 4 = 0) (hT : T ≤ 4) (hl : ld < 4) : zp_st dl ow T ld D := by
  have h16 := zr_D16 hD
  obtain ⟨_, _, _, d4, d5, d6⟩ := hD
  refine ⟨d4, hT, hl, h16, h4, d5, fun s hs => ?_⟩
  rw [d6 s hs]
  omega
end
theorem zr_empty {z : Nat} (h1 : 1 ≤ z) (h4 : z ≤ 4) : zr_D (fun _ => false) (fun _ => 0) 0 z := by
  refine ⟨h1, h4, by omega, fun c h => absurd h Bool.false_ne_true, by decide, ?_⟩
  decide
theorem zr_init {z : Nat} (h1 : 1 ≤ z) (h4 : z ≤ 4) : i_Rel 1 (nI z, 0, 0, 0, 0, 4, 0, 0, 0, (fun _ => 0), (fun _ => 0), (fun _ => 0), (fun _ => 0), (fun _ => 0), (fun _ => 0), (fun _ => 0), (fun _ => 0), (fun _ => 0), (fun _ => 0), (fun _ => 0), (fun _ => 0), (fun _ => 0), (fun _ => 0)) (nI z, 0, 0, 0, 0, 0, (fun _ => 0), (fun _ => 0), (fun _ => 0), (fun _ => 0)) := by
  refine zr_o (zr_empty h1 h4) (fun c _ => b_0 c) ⟨0, 4, 0, 0, (fun _ => 0), (fun _ => 0), (fun _ => 0), (fun _ => 0), (fun _ => 0), (fun _ => 0), (fun _ => 0), (fun _ => 0), (fun _ => 0), (fun _ => 0), (fun _ => 0), (fun _ => 0), (fun _ => 0), (fun _ => 0), ⟨⟨fun s c _ _ => b_0 c, fun c h => absurd h Bool.false_ne_true, fun i hi => absurd hi (Nat.not_lt_zero _), rfl, rfl⟩, fun j _ => Or.inl rfl, fun b _ => ⟨0, by omega, rfl⟩⟩, rfl⟩ ⟨0, 0, (fun _ => 0), (fun _ => 0), (fun _ => 0), (fun _ => 0), ⟨⟨fun _ => 0, fun d hd => absurd hd (Nat.not_lt_zero _), fun c h => absurd h Bool.false_ne_true⟩, fun i hi => absurd hi (Nat.not_lt_zero _)⟩, rfl⟩
theorem i_vc0 (k0 : Int32) : wpX_init (fun u => wpY_init (fun v => i_Rel 1 u v) k0) k0 := by
  unfold wpX_init wpY_init
  refine br_c (fun a => br_c (fun b => br_t a (br_t b ?_)) (fun b => br_t a (br_f b ?_))) (fun a => br_f a ?_)
  · obtain ⟨z, z1, z2⟩ := nI_of (x := k0) (fun w => by
      have q1 := Int32.lt_iff_toInt_lt.mp w
      have q2 := Int32.le_iff_toInt_le.mp a
      have e0 : (0 : Int32).toInt = 0 := rfl
      have e1 : (1 : Int32).toInt = 1 := rfl
      omega)
    subst z2
    have q1 := (nI_leI (a := 1) (b := z) (by omega) z1).mp a
    have q2 := (nI_leI (a := z) (b := 4) z1 (by omega)).mp b
    exact zr_init q1 q2
  · exact zr_init (z := 4) (by omega) (by omega)
  · exact zr_init (z := 1) (by omega) (by omega)
end
section
/-! ===== the plain questions ===== -/
section
variable {k : Nat} {u : SX} {v : SY}
theorem i_vc_hand (I : i_Rel k u v) (hk : k + 3 ≤ 1537) (v1 : Int32) : wpX_hand (fun r => wpY_hand (fun r' => r' = r ∧ i_Rel (k + 3) u v) v v1) u v1 := by
  have I0 := I
  obtain ⟨dl, ow, D, z, ds, hD, hd, I⟩ := I
  have h16 := zr_D16 hD
  rcases I with ⟨hx, hy⟩ | ⟨T, ld, pl, owner, dealt, st, ok, hx, hy⟩
  · obtain ⟨act, tr, vd, R, hands, owner, line, won, goal, todo, seen, kl, ko, cw, cl, cm, co, ns, ⟨G, tt, n⟩, rfl⟩ := hx
    obtain ⟨leader, trump, dealt, yline, ytodo, ybest, G', rfl⟩ := hy
    unfold wpX_hand
    refine br_c (fun a => ?_) (fun a => br_c (fun b => ?_) (fun b => ?_))
    · unfold wpY_hand; exact br_t a ⟨rfl, I0⟩
    · obtain ⟨s, s1, s2⟩ := nI_of2 (n := 3) (by decide) a b
      subst s2
      refine ⟨vp_in_nI (by omega) (by omega), zy_hand (pl := []) (ld := 0) (T := 0) h16 trivial (Nat.zero_le _) G' (by omega) (fun S hS => ⟨?_, I0⟩)⟩
      rw [nI_clamp (by omega)]
      exact b_ext (fun c hc => by rw [hS c hc, G.1 s c (by omega) hc])
    · unfold wpY_hand; exact br_f a (br_f b ⟨rfl, I0⟩)
  · obtain ⟨vd, R, hands, line, won, goal, todo, seen, kl, ko, cw, cl, cm, co, ns, ⟨G, tt, n⟩, rfl⟩ := hx
    obtain ⟨yline, ytodo, ybest, G', rfl⟩ := hy
    unfold wpX_hand
    refine br_c (fun a => ?_) (fun a => br_c (fun b => ?_) (fun b => ?_))
    · unfold wpY_hand; exact br_t a ⟨rfl, I0⟩
    · obtain ⟨s, s1, s2⟩ := nI_of2 (n := 3) (by decide) a b
      subst s2
      have hn := zp_le st ok
      refine ⟨vp_in_nI (by omega) (by omega), zy_hand h16 ok (by omega) G' (by omega) (fun S hS => ⟨?_, I0⟩)⟩
      rw [nI_clamp (by omega)]
      exact b_ext (fun c hc => by rw [hS c hc, G.1 s c (by omega) hc])
    · unfold wpY_hand; exact br_f a (br_f b ⟨rfl, I0⟩)
theorem i_vc_turn (I : i_Rel k u v) (hk : k + 3 ≤ 1537) : wpX_turn (fun r => wpY_turn (fun r' => r' = r ∧ i_Rel (k + 3) u v) v) u := by
  have I0 := I
  obtain ⟨dl, ow, D, z, ds, hD, hd, I⟩ := I
  have h16 := zr_D16 hD
  rcases I with ⟨hx, hy⟩ | ⟨T, ld, pl, owner, dealt, st, ok, hx, hy⟩
  · obtain ⟨act, tr, vd, R, hands, owner, line, won, goal, todo, seen, kl, ko, cw, cl, cm, co, ns, ⟨G, tt, n⟩, rfl⟩ := hx
    obtain ⟨leader, trump, dealt, yline, ytodo, ybest, G', rfl⟩ := hy
    unfold wpX_turn
    refine br_t rfl ⟨by decide, ?_⟩
    unfold wpY_turn
    exact br_t rfl ⟨by decide, rfl, I0⟩
  · obtain ⟨vd, R, hands, line, won, goal, todo, seen, kl, ko, cw, cl, cm, co, ns, ⟨G, tt, n⟩, rfl⟩ := hx
    obtain ⟨yline, ytodo, ybest, G', rfl⟩ := hy
    unfold wpX_turn
    exact br_f (by decide) (zy_turn st ok G' ⟨rfl, I0⟩)
theorem i_vc_played (I : i_Rel k u v) (hk : k + 3 ≤ 1537) (v1 : Int32) : wpX_played (fun r => wpY_played (fun r' => r' = r ∧ i_Rel (k + 3) u v) v v1) u v1 := by
  have I0 := I
  obtain ⟨dl, ow, D, z, ds, hD, hd, I⟩ := I
  have h16 := zr_D16 hD
  rcases I with ⟨hx, hy⟩ | ⟨T, ld, pl, owner, dealt, st, ok, hx, hy⟩
  · obtain ⟨act, tr, vd, R, hands, owner, line, won, goal, todo, seen, kl, ko, cw, cl, cm, co, ns, ⟨G, tt, n⟩, rfl⟩ := hx
    obtain ⟨leader, trump, dealt, yline, ytodo, ybest, G', rfl⟩ := hy
    unfold wpX_played wpY_played
    exact br_c (fun a => br_t a ⟨rfl, I0⟩) (fun a => br_f a (br_f a (br_f a ⟨rfl, I0⟩)))
  · obtain ⟨vd, R, hands, line, won, goal, todo, seen, kl, ko, cw, cl, cm, co, ns, ⟨G, tt, n⟩, rfl⟩ := hx
    obtain ⟨yline, ytodo, ybest, G', rfl⟩ := hy
    have hn := zp_le st ok
    unfold wpX_played wpY_played
    refine br_c (fun a => br_t a ⟨rfl, I0⟩) (fun a => br_c (fun b => ?_) (fun b => br_f a (br_f b ⟨rfl, I0⟩)))
    obtain ⟨s, s1, s2⟩ := nI_of a
    subst s2
    have b2 := (nI_ltI s1 (by omega)).mp b
    refine ⟨vp_in_nI (by omega) (by omega), br_f a (br_t b ⟨vp_in_nI (by omega) (by omega), ?_, I0⟩)⟩
    rw [nI_clamp (by omega), G.2.2.1 s b2, G'.2 s b2]
theorem zr_oW {post : Int32 → Prop} {f_handSize f_dealtCount f_leader f_trumpSuit : Int32} {a_dealt a_line a_todo a_best : Nat → Int32} {p0 : Int32} (h : post 0) : ∃ n16 : Nat, wY_tricksWon_16 post p0 f_handSize f_dealtCount 0 f_leader f_trumpSuit 0 a_dealt a_line a_todo a_best n16 0 0 := ⟨1, ⟨by decide, br_t (by decide) h⟩⟩
theorem i_vc_tricksWon (I : i_Rel k u v) (hk : k + 3 ≤ 1537) (v1 : Int32) : wpX_tricksWon (fun r => wpY_tricksWon (fun r' => r' = r ∧ i_Rel (k + 3) u v) v v1) u v1 := by
  have I0 := I
  obtain ⟨dl, ow, D, z, ds, hD, hd, I⟩ := I
  have h16 := zr_D16 hD
  have ne1 : v1 < 0 → ¬ v1 = 0 ∧ ¬ v1 = 1 := by
    intro a
    exact ⟨fun e => by rw [e] at a; exact absurd a (by decide), fun e => by rw [e] at a; exact absurd a (by decide)⟩
  have ne2 : ¬ v1 ≤ 1 → ¬ v1 = 0 ∧ ¬ v1 = 1 := by
    intro a
    exact ⟨fun e => by rw [e] at a; exact a (by decide), fun e => by rw [e] at a; exact a (by decide)⟩
  rcases I with ⟨hx, hy⟩ | ⟨T, ld, pl, owner, dealt, st, ok, hx, hy⟩
  · obtain ⟨act, tr, vd, R, hands, owner, line, won, goal, todo, seen, kl, ko, cw, cl, cm, co, ns, ⟨G, tt, n⟩, rfl⟩ := hx
    obtain ⟨leader, trump, dealt, yline, ytodo, ybest, G', rfl⟩ := hy
    unfold wpX_tricksWon
    refine br_c (fun a => ?_) (fun a => br_c (fun b => ?_) (fun b => ?_))
    · unfold wpY_tricksWon; exact br_f (ne1 a).1 (br_f (ne1 a).2 ⟨rfl, I0⟩)
    · obtain ⟨s, s1, s2⟩ := nI_of2 (n := 1) (by decide) a b
      subst s2
      refine ⟨vp_in_nI (by omega) (by omega), ?_⟩
      rw [nI_clamp (by omega)]
      have hs : s = 0 ∨ s = 1 := by omega
      rcases hs with e | e
      · subst e
        unfold wpY_tricksWon
        refine br_t rfl (zr_oW ⟨?_, I0⟩)
        exact G.2.2.2.1.symm
      · subst e
        unfold wpY_tricksWon
        refine br_f (by decide) (br_t rfl (zr_oW ⟨?_, I0⟩))
        exact G.2.2.2.2.symm
    · unfold wpY_tricksWon; exact br_f (ne2 b).1 (br_f (ne2 b).2 ⟨rfl, I0⟩)
  · obtain ⟨vd, R, hands, line, won, goal, todo, seen, kl, ko, cw, cl, cm, co, ns, ⟨G, tt, n⟩, rfl⟩ := hx
    obtain ⟨yline, ytodo, ybest, G', rfl⟩ := hy
    unfold wpX_tricksWon
    refine br_c (fun a => ?_) (fun a => br_c (fun b => ?_) (fun b => ?_))
    · unfold wpY_tricksWon; exact br_f (ne1 a).1 (br_f (ne1 a).2 ⟨rfl, I0⟩)
    · obtain ⟨s, s1, s2⟩ := nI_of2 (n := 1) (by decide) a b
      subst s2
      refine ⟨vp_in_nI (by omega) (by omega), ?_⟩
      rw [nI_clamp (by omega)]
      have hs : s = 0 ∨ s = 1 := by omega
      rcases hs with e | e
      · subst e; exact zy_won0 st ok G' ⟨G.2.2.2.1.symm, I0⟩
      · subst e; exact zy_won1 st ok G' ⟨G.2.2.2.2.symm, I0⟩
    · unfold wpY_tricksWon; exact br_f (ne2 b).1 (br_f (ne2 b).2 ⟨rfl, I0⟩)
theorem i_vc_phase (I : i_Rel k u v) (hk : k + 3 ≤ 1537) : wpX_phase (fun r => wpY_phase (fun r' => r' = r ∧ i_Rel (k + 3) u v) v) u := by
  have I0 := I
  obtain ⟨dl, ow, D, z, ds, hD, hd, I⟩ := I
  rcases I with ⟨hx, hy⟩ | ⟨T, ld, pl, owner, dealt, st, ok, hx, hy⟩
  · obtain ⟨act, tr, vd, R, hands, owner, line, won, goal, todo, seen, kl, ko, cw, cl, cm, co, ns, ⟨G, tt, n⟩, rfl⟩ := hx
    obtain ⟨leader, trump, dealt, yline, ytodo, ybest, G', rfl⟩ := hy
    unfold wpX_phase wpY_phase
    exact br_t rfl (br_t rfl ⟨rfl, I0⟩)
  · obtain ⟨vd, R, hands, line, won, goal, todo, seen, kl, ko, cw, cl, cm, co, ns, ⟨G, tt, n⟩, rfl⟩ := hx
    obtain ⟨yline, ytodo, ybest, G', rfl⟩ := hy
    unfold wpX_phase wpY_phase
    exact br_f (by decide) (br_c (fun a => br_f (by decide) (br_t a ⟨rfl, I0⟩)) (fun a => br_f (by decide) (br_f a ⟨rfl, I0⟩)))
theorem i_vc_trump (I : i_Rel k u v) (hk : k + 3 ≤ 1537) : wpX_trump (fun r => wpY_trump (fun r' => r' = r ∧ i_Rel (k + 3) u v) v) u := by
  have I0 := I
  obtain ⟨dl, ow, D, z, ds, hD, hd, I⟩ := I
  rcases I with ⟨hx, hy⟩ | ⟨T, ld, pl, owner, dealt, st, ok, hx, hy⟩
  · obtain ⟨act, tr, vd, R, hands, owner, line, won, goal, todo, seen, kl, ko, cw, cl, cm, co, ns, ⟨G, tt, n⟩, rfl⟩ := hx
    obtain ⟨leader, trump, dealt, yline, ytodo, ybest, G', rfl⟩ := hy
    unfold wpX_trump wpY_trump
    exact br_t rfl (br_t rfl ⟨rfl, I0⟩)
  · obtain ⟨vd, R, hands, line, won, goal, todo, seen, kl, ko, cw, cl, cm, co, ns, ⟨G, tt, n⟩, rfl⟩ := hx
    obtain ⟨yline, ytodo, ybest, G', rfl⟩ := hy
    unfold wpX_trump wpY_trump
    exact br_f (by decide) (br_f (by decide) ⟨rfl, I0⟩)
theorem i_vc_room (I : i_Rel k u v) (hk : k + 3 ≤ 1537) : wpX_room (fun r => wpY_room (fun r' => r' = r ∧ i_Rel (k + 3) u v) v) u := by
  have I0 := I
  obtain ⟨dl, ow, D, z, ds, hD, hd, I⟩ := I
  rcases I with ⟨hx, hy⟩ | ⟨T, ld, pl, owner, dealt, st, ok, hx, hy⟩
  · obtain ⟨act, tr, vd, R, hands, owner, line, won, goal, todo, seen, kl, ko, cw, cl, cm, co, ns, ⟨G, tt, n⟩, rfl⟩ := hx
    obtain ⟨leader, trump, dealt, yline, ytodo, ybest, G', rfl⟩ := hy
    unfold wpX_room wpY_room
    exact ⟨rfl, I0⟩
  · obtain ⟨vd, R, hands, line, won, goal, todo, seen, kl, ko, cw, cl, cm, co, ns, ⟨G, tt, n⟩, rfl⟩ := hx
    obtain ⟨yline, ytodo, ybest, G', rfl⟩ := hy
    unfold wpX_room wpY_room
    exact ⟨rfl, I0⟩
end
end
section
/-! ===== play, undo, reset ===== -/
section
variable {f_handSize f_dealtSet f_dealt f_count f_toAct f_trumpSuit f_started f_verdict f_relevant : Int32} {a_hands a_owner a_line a_won a_goal a_todo a_seen a_keyLengths a_classWord a_classLengths a_nextSlot : Nat → Int32} {a_keyOwners a_classMask a_classOwners : Nat → Int64}
variable {k : Nat} {u : SX} {v : SY}
theorem zr_play_o {post : Int32 → SX → Prop} {p0 : Int32} (h : post (-1) (f_handSize, f_dealtSet, f_dealt, f_count, f_toAct, f_trumpSuit, 0, f_verdict, f_relevant, a_hands, a_owner, a_line, a_won, a_goal, a_todo, a_seen, a_keyLengths, a_keyOwners, a_classWord, a_classLengths, a_classMask, a_classOwners, a_nextSlot)) : wpX_play post (f_handSize, f_dealtSet, f_dealt, f_count, f_toAct, f_trumpSuit, 0, f_verdict, f_relevant, a_hands, a_owner, a_line, a_won, a_goal, a_todo, a_seen, a_keyLengths, a_keyOwners, a_classWord, a_classLengths, a_classMask, a_classOwners, a_nextSlot) p0 := by
  unfold wpX_play
  have e : ∀ post : Int32 → Prop, post (-1) → wpX_refusal post (f_handSize, f_dealtSet, f_dealt, f_count, f_toAct, f_trumpSuit, 0, f_verdict, f_relevant, a_hands, a_owner, a_line, a_won, a_goal, a_todo, a_seen, a_keyLengths, a_keyOwners, a_classWord, a_classLengths, a_classMask, a_classOwners, a_nextSlot) p0 := by
    intro post hp
    unfold wpX_refusal
    unfold wpX_phase
    exact br_t rfl (br_f (by decide) hp)
  exact e _ (br_f (by decide) h)
theorem i_vc_play (I : i_Rel k u v) (hk : k + 3 ≤ 1537) (v1 : Int32) : wpX_play (fun r u' => wpY_play (fun r' v' => r' = r ∧ i_Rel (k + 3) u' v') v v1) u v1 := by
  have I0 := I
  obtain ⟨dl, ow, D, z, ds, hD, hd, I⟩ := I
  have h16 := zr_D16 hD
  rcases I with ⟨hx, hy⟩ | ⟨T, ld, pl, owner, dealt, st, ok, hx, hy⟩
  · obtain ⟨act, tr, vd, R, hands, owner, line, won, goal, todo, seen, kl, ko, cw, cl, cm, co, ns, ⟨G, tt, n⟩, rfl⟩ := hx
    obtain ⟨leader, trump, dealt, yline, ytodo, ybest, G', rfl⟩ := hy
    refine zr_play_o ?_
    unfold wpY_play wpY_refusal wpY_phase
    exact br_t rfl (br_f (by decide) (br_f (by decide) ⟨rfl, I0⟩))
  · have hn := zp_le st ok
    obtain ⟨vd, R, hands, line, won, goal, todo, seen, kl, ko, cw, cl, cm, co, ns, ⟨G, tt, n⟩, rfl⟩ := hx
    obtain ⟨yline, ytodo, ybest, G', rfl⟩ := hy
    unfold wpX_play
    refine zx_ref st ok G (fun r hr => br_c (fun er => ?_) (fun er => ?_))
    · subst er
      obtain ⟨c, c1, c2, c3, c4⟩ := zr_ref_0 hr
      subst c2
      have ok2 := zp_lg_ok ok c3
      refine zx_put st ok2 G (fun hands' line' won' G2 => ⟨by decide, ?_⟩)
      have G2' := zy_put (c := c) G'
      have e4 : nI (c :: pl).length - nI (c :: pl).length / 4 * 4 = nI ((pl.length + 1) % 4) := zx_rem4 (by rw [List.length_cons]; omega)
      have rel : i_Rel (k + 3) (nI z, ds, nI D, nI ((c :: pl)).length, nI (zp_a ow T ld ((c :: pl))), nI T, 1, vd, R, hands', owner, line', won', goal, todo, seen, kl, ko, cw, cl, cm, co, ns) (nI z, nI D, nI ((c :: pl)).length, nI ld, nI T, 1, dealt, upd yline pl.length (nI c), ytodo, ybest) :=
        zr_s hD hd st ok2 (zx_Im G2 tt n) ⟨_, _, _, G2', rfl⟩
      have Y : ∀ x : Int32, (((pl.length + 1) % 4 = 0 → x = nI (zp_a ow T ld (c :: pl))) ∧ ((pl.length + 1) % 4 ≠ 0 → x = 4)) → wpY_play (fun r' v' => r' = x ∧ i_Rel (k + 3) (nI z, ds, nI D, nI ((c :: pl)).length, nI (zp_a ow T ld ((c :: pl))), nI T, 1, vd, R, hands', owner, line', won', goal, todo, seen, kl, ko, cw, cl, cm, co, ns) v') (nI z, nI D, nI pl.length, nI ld, nI T, 1, dealt, yline, ytodo, ybest) (nI c) := by
        intro x hx
        unfold wpY_play
        refine zy_ref st ok G' (fun r' hr' => ?_)
        have er' := zr_ref_u hr hr'
        subst er'
        refine br_t rfl ⟨vp_in_nI (by omega) (by omega), nm_r (e' := upd yline pl.length (nI c)) (by rw [nI_clamp (by omega)]) (nm_r (e' := nI (c :: pl).length) (nI_1 _) ⟨by decide, ?_⟩)⟩
        rw [e4]
        refine pk_eq ((pl.length + 1) % 4) 0 (fun e => ?_) (fun e => ?_)
        · exact zy_turn st ok2 G2' ⟨(hx.1 e).symm, rel⟩
        · exact ⟨(hx.2 e).symm, rel⟩
      rw [e4]
      refine pk_eq ((pl.length + 1) % 4) 0 (fun e => ?_) (fun e => ?_)
      · exact Y _ ⟨fun _ => rfl, fun z => absurd e z⟩
      · exact Y _ ⟨fun z => absurd z e, fun _ => rfl⟩
    · unfold wpY_play
      refine zy_ref st ok G' (fun r' hr' => ?_)
      have er' := zr_ref_u hr hr'
      subst er'
      exact br_f er ⟨rfl, I0⟩
theorem i_vc_undo (I : i_Rel k u v) (hk : k + 3 ≤ 1537) : wpX_undo (fun r u' => wpY_undo (fun r' v' => r' = r ∧ i_Rel (k + 3) u' v') v) u := by
  have I0 := I
  obtain ⟨dl, ow, D, z, ds, hD, hd, I⟩ := I
  have h16 := zr_D16 hD
  rcases I with ⟨hx, hy⟩ | ⟨T, ld, pl, owner, dealt, st, ok, hx, hy⟩
  · obtain ⟨act, tr, vd, R, hands, owner, line, won, goal, todo, seen, kl, ko, cw, cl, cm, co, ns, ⟨G, tt, n⟩, rfl⟩ := hx
    obtain ⟨leader, trump, dealt, yline, ytodo, ybest, G', rfl⟩ := hy
    unfold wpX_undo wpY_undo
    exact br_t rfl (br_t rfl ⟨rfl, I0⟩)
  · have hn := zp_le st ok
    obtain ⟨vd, R, hands, line, won, goal, todo, seen, kl, ko, cw, cl, cm, co, ns, ⟨G, tt, n⟩, rfl⟩ := hx
    obtain ⟨yline, ytodo, ybest, G', rfl⟩ := hy
    unfold wpX_undo
    refine br_f (by decide) ?_
    cases pl with
    | nil =>
      refine br_t rfl ?_
      unfold wpY_undo
      exact br_f (by decide) (br_t rfl ⟨rfl, I0⟩)
    | cons c pl =>
      rw [List.length_cons] at hn
      have ne : ¬ nI (c :: pl).length = 0 := by rw [List.length_cons]; exact nI_ne0 (by omega) (by omega)
      refine br_f ne (zx_take st ok G (fun hands' won' G2 => ?_))
      unfold wpY_undo
      refine br_f (by decide) (br_f ne (nm_r (e' := nI pl.length) (nI_pred _) ⟨vp_in_nI (by omega) (by omega), ?_, ?_⟩))
      · rw [nI_clamp (by omega), G'.2 _ (by rw [List.length_cons]; omega), zp_at_c]
      · exact zr_s hD hd st ok.1 (zx_Im G2 tt n) ⟨_, _, _, zy_take G', rfl⟩
theorem zr_resetLoop {post : SX → Prop} {z : Nat} (hs : f_handSize = nI z) (tt : zk_TT a_classWord a_classLengths a_classMask a_classOwners) (n : zk_NS a_nextSlot) (h : ∀ u', zx_O (fun _ => false) (fun _ => 0) 0 (nI z) 0 u' → post u') :
    ∀ d i (hands : Nat → Int32), i + d = 4 → (∀ s, s < i → hands s = 0) → wX_reset_2 post f_handSize f_dealtSet f_dealt f_count f_toAct f_trumpSuit f_started f_verdict f_relevant (d + 1) (nI i) hands a_owner a_line a_won a_goal a_todo a_seen a_keyLengths a_keyOwners a_classWord a_classLengths a_classMask a_classOwners a_nextSlot := by
  intro d
  induction d with
  | zero =>
    intro i hands hi hh
    have ei : i = 4 := by omega
    subst ei
    refine br_t (by decide) ?_
    unfold wpX_clearPlay
    refine nm_e (nm_e ?_)
    refine h _ ⟨0, 4, f_verdict, f_relevant, hands, a_owner, a_line, upd (upd a_won 0 0) 1 0, a_goal, a_todo, a_seen, a_keyLengths, a_keyOwners, a_classWord, a_classLengths, a_classMask, a_classOwners, a_nextSlot, ⟨⟨fun s c hs hc => ?_, fun c h => absurd h Bool.false_ne_true, fun i hi => absurd hi (Nat.not_lt_zero _), rfl, rfl⟩, tt, n⟩, ?_⟩
    · rw [hh s hs, b_0]; rfl
    · rw [hs]; rfl
  | succ d ih =>
    intro i hands hi hh
    refine br_f (nI_ge (b := 4) (by omega) (by decide)) ⟨vp_in_nI (by omega) (by omega), nm_r (e' := upd hands i 0) (by rw [nI_clamp (by omega)]) (nm_r (nI_1 _) (ih (i + 1) _ (by omega) (fun s hs => ?_)))⟩
    by_cases e : s = i
    · rw [e]; exact pk_us
    · rw [pk_un e]; exact hh s (by omega)
theorem zr_resetY {f_dealtCount f_count f_leader f_trumpSuit f_started : Int32} {z : Nat} {b_dealt b_line b_todo b_best : Nat → Int32} {post : SY → Prop} (h : ∀ v', zy_O (fun _ => false) (fun _ => 0) 0 (nI z) v' → post v') : wpY_reset post (nI z, f_dealtCount, f_count, f_leader, f_trumpSuit, f_started, b_dealt, b_line, b_todo, b_best) := by
  unfold wpY_reset
  exact h _ ⟨f_leader, f_trumpSuit, b_dealt, b_line, b_todo, b_best, ⟨⟨fun _ => 0, fun d hd => absurd hd (Nat.not_lt_zero _), fun c h => absurd h Bool.false_ne_true⟩, fun i hi => absurd hi (Nat.not_lt_zero _)⟩, rfl⟩
theorem i_vc_reset (I : i_Rel k u v) (hk : k + 3 ≤ 1537) : wpX_reset (fun u' => wpY_reset (fun v' => i_Rel (k + 3) u' v') v) u := by
  obtain ⟨dl, ow, D, z, ds, hD, hd, I⟩ := I
  have hE : zr_D (fun _ => false) (fun _ => 0) 0 z := zr_empty hD.1 hD.2.1
  rcases I with ⟨hx, hy⟩ | ⟨T, ld, pl, owner, dealt, st, ok, hx, hy⟩
  · obtain ⟨act, tr, vd, R, hands, owner, line, won, goal, todo, seen, kl, ko, cw, cl, cm, co, ns, ⟨G, tt, n⟩, rfl⟩ := hx
    obtain ⟨leader, trump, dealt, yline, ytodo, ybest, G', rfl⟩ := hy
    unfold wpX_reset
    exact ⟨5, zr_resetLoop (z := z) rfl tt n (fun u' hu => zr_resetY (fun v' hv => zr_o hE (fun c _ => b_0 c) hu hv)) 4 0 hands rfl (fun s hs => absurd hs (Nat.not_lt_zero _))⟩
  · obtain ⟨vd, R, hands, line, won, goal, todo, seen, kl, ko, cw, cl, cm, co, ns, ⟨G, tt, n⟩, rfl⟩ := hx
    obtain ⟨yline, ytodo, ybest, G', rfl⟩ := hy
    unfold wpX_reset
    exact ⟨5, zr_resetLoop (z := z) rfl tt n (fun u' hu => zr_resetY (fun v' hv => zr_o hE (fun c _ => b_0 c) hu hv)) 4 0 hands rfl (fun s hs => absurd hs (Nat.not_lt_zero _))⟩
end
end
section
/-! ===== deal, start ===== -/
theorem zr_mul4 (z : Nat) : (4 : Int32) * nI z = nI (4 * z) := pk_mul 4 z
section
variable {f_handSize f_dealtCount f_count f_leader f_trumpSuit f_started : Int32} {a_dealt a_line a_todo a_best : Nat → Int32}
theorem zr_dealY {post : Int32 → SY → Prop} {D c : Nat} {dq : Nat → Nat} (hD : D ≤ 16) (hc : c < 32) (h1 : ∀ d, d < D → a_dealt d = nI (dq d) ∧ dq d < 32) (h3 : (∃ d, d < D ∧ dq d = c) → post (-3) (f_handSize, nI D, f_count, f_leader, f_trumpSuit, f_started, a_dealt, a_line, a_todo, a_best)) (h0 : (∀ d, d < D → dq d ≠ c) → wY_deal_24 post (nI c) f_handSize (nI D) f_count f_leader f_trumpSuit f_started a_dealt a_line a_todo a_best (0 + 1) (nI D)) :
    ∀ k i, i + k = D → (∀ j, j < i → dq j ≠ c) → wY_deal_24 post (nI c) f_handSize (nI D) f_count f_leader f_trumpSuit f_started a_dealt a_line a_todo a_best (k + 1) (nI i) := by
  intro k
  induction k with
  | zero =>
    intro i hi hj
    have e : i = D := by omega
    subst e
    exact h0 hj
  | succ k ih =>
    intro i hi hj
    obtain ⟨d1, d2⟩ := h1 i (by omega)
    refine br_f (nI_ge (by omega) (by omega)) ⟨vp_in_nI (by omega) (by omega), ?_⟩
    rw [nI_clamp (by omega), d1]
    refine pk_eq (dq i) c (fun e => h3 ⟨i, by omega, e⟩) (fun e => nm_r (nI_1 _) (ih (i + 1) (by omega) (fun j hj' => ?_)))
    by_cases q : j = i
    · rw [q]; exact e
    · exact hj j (by omega)
end
section
variable {f_handSize f_dealtSet f_dealt f_count f_toAct f_trumpSuit f_started f_verdict f_relevant : Int32} {a_hands a_owner a_line a_won a_goal a_todo a_seen a_keyLengths a_classWord a_classLengths a_nextSlot : Nat → Int32} {a_keyOwners a_classMask a_classOwners : Nat → Int64}
variable {k : Nat} {u : SX} {v : SY}
/-- the deal with one more card -/
def zr_dl (dl : Nat → Bool) (c : Nat) : Nat → Bool := fun x => if x = c then true else dl x
def zr_ow (ow : Nat → Nat) (c s : Nat) : Nat → Nat := fun x => if x = c then s else ow x
theorem zr_dl_c {dl : Nat → Bool} {c : Nat} : zr_dl dl c c = true := if_pos rfl
theorem zr_dl_n {dl : Nat → Bool} {c x : Nat} (h : x ≠ c) : zr_dl dl c x = dl x := if_neg h
theorem zr_ow_c {ow : Nat → Nat} {c s : Nat} : zr_ow ow c s c = s := if_pos rfl
theorem zr_ow_n {ow : Nat → Nat} {c s x : Nat} (h : x ≠ c) : zr_ow ow c s x = ow x := if_neg h
theorem zr_D_add {dl : Nat → Bool} {ow : Nat → Nat} {D z c : Nat} (hD : zr_D dl ow D z) (hc : c < 32) (hn : dl c = false) (hl : D < 4 * z) : zr_D (zr_dl dl c) (zr_ow ow c (D % 4)) (D + 1) z := by
  obtain ⟨d1, d2, d3, d4, d5, d6⟩ := hD
  refine ⟨d1, d2, hl, fun x hx => ?_, ?_, fun s hs => ?_⟩
  · by_cases e : x = c
    · rw [e, zr_ow_c]; exact ⟨hc, by omega⟩
    · rw [zr_dl_n e] at hx; rw [zr_ow_n e]; exact d4 x hx
  · have := zc_tot_rm (p := zr_dl dl c) (q := dl) hc zr_dl_c hn (fun y _ hy => (zr_dl_n hy).symm)
    omega
  · have h6 := d6 s hs
    by_cases e : D % 4 = s
    · have := zc_tot_rm (p := fun y => zr_dl dl c y && decide (zr_ow ow c (D % 4) y = s)) (q := fun y => dl y && decide (ow y = s)) hc (by show (zr_dl dl c c && decide (zr_ow ow c (D % 4) c = s)) = true; rw [zr_dl_c, zr_ow_c, decide_eq_true e]; rfl) (by show (dl c && _) = false; rw [hn]; rfl) (fun y _ hy => by show (dl y && decide (ow y = s)) = (zr_dl dl c y && decide (zr_ow ow c (D % 4) y = s)); rw [zr_dl_n hy, zr_ow_n hy])
      omega
    · have : zc_tot (fun y => zr_dl dl c y && decide (zr_ow ow c (D % 4) y = s)) = zc_tot (fun y => dl y && decide (ow y = s)) := by
        refine zc_tot_congr (fun y _ => ?_)
        by_cases ey : y = c
        · rw [ey, zr_dl_c, zr_ow_c, hn, decide_eq_false e]; rfl
        · rw [zr_dl_n ey, zr_ow_n ey]
      rw [this, h6]
      omega
theorem i_vc_deal (I : i_Rel k u v) (hk : k + 3 ≤ 1537) (v1 : Int32) : wpX_deal (fun r u' => wpY_deal (fun r' v' => r' = r ∧ i_Rel (k + 3) u' v') v v1) u v1 := by
  have I0 := I
  obtain ⟨dl, ow, D, z, ds, hD, hd, I⟩ := I
  have h16 := zr_D16 hD
  rcases I with ⟨hx, hy⟩ | ⟨T, ld, pl, owner, dealt, st, ok, hx, hy⟩
  · obtain ⟨act, tr, vd, R, hands, owner, line, won, goal, todo, seen, kl, ko, cw, cl, cm, co, ns, ⟨G, tt, n⟩, rfl⟩ := hx
    obtain ⟨leader, trump, dealt, yline, ytodo, ybest, G', rfl⟩ := hy
    obtain ⟨⟨dq, q1, q2⟩, _⟩ := G'
    unfold wpX_deal
    refine br_t rfl (br_c (fun a => ?_) (fun a => br_c (fun b => ?_) (fun b => ?_)))
    · unfold wpY_deal; exact br_t rfl (br_t a ⟨rfl, I0⟩)
    · obtain ⟨c, c1, c2⟩ := nI_of2 zr_31 a b
      have c32 : c < 32 := by omega
      subst c2
      refine zx_has _ ds c32 ?_
      rw [hd c c32]
      have Y : ∀ (post : Int32 → SY → Prop), ((∃ d, d < D ∧ dq d = c) → post (-3) (nI z, nI D, 0, leader, trump, 0, dealt, yline, ytodo, ybest)) → ((∀ d, d < D → dq d ≠ c) → wY_deal_24 post (nI c) (nI z) (nI D) 0 leader trump 0 dealt yline ytodo ybest (0 + 1) (nI D)) → wpY_deal post (nI z, nI D, 0, leader, trump, 0, dealt, yline, ytodo, ybest) (nI c) := by
        intro post p3 p0
        unfold wpY_deal
        exact br_t rfl (br_f a (br_t b ⟨D + 1, zr_dealY h16 c32 (fun d hd => ⟨(q1 d hd).1, (q1 d hd).2.1⟩) p3 p0 D 0 (by omega) (fun j hj => absurd hj (Nat.not_lt_zero _))⟩))
      by_cases e : dl c = true
      · rw [e]
        refine br_f (by decide) (Y _ (fun _ => ⟨rfl, I0⟩) (fun w => ?_))
        obtain ⟨d, d1, d2⟩ := q2 c e
        exact absurd d2 (w d d1)
      · have e2 : dl c = false := by simpa using e
        have hno : ¬ ∃ d, d < D ∧ dq d = c := by
          rintro ⟨d, d1, d2⟩
          have := (q1 d d1).2.2.2
          rw [d2] at this
          exact e this
        rw [e2]
        refine br_t rfl ?_
        rw [zr_mul4]
        have hz := hD.2.1
        refine pk_lt D (4 * z) (fun w => ⟨by decide, nm_r (zx_rem4 (by omega)) ⟨vp_in_nI c32 (by omega), nm_r (e' := upd owner c (nI (D % 4))) (by rw [nI_clamp (by omega)]) ⟨vp_in_nI (by omega) (by omega), vp_in_nI (by omega) (by omega), nm_r (e' := upd hands (D % 4) (hands (D % 4) ||| ((1 : Int32) <<< (nI c &&& 31)))) (by rw [nI_clamp (by omega)]) (nm_e (nm_r (nI_1 _) ?_))⟩⟩⟩) (fun w => ?_)
        · refine Y _ (fun w => absurd w hno) (fun hall => br_t (Int32.le_refl _) ?_)
          rw [zr_mul4]
          refine br_t (nI_lt w (by omega)) ⟨vp_in_nI (by omega) (by omega), nm_r (e' := upd dealt D (nI c)) (by rw [nI_clamp (by omega)]) (nm_r (nI_1 _) ⟨by decide, ?_, ?_⟩)⟩
          · rw [nI_pred, zx_rem4 (by omega)]
          · refine zr_o (zr_D_add hD c32 e2 w) (fun x hx => ?_) ⟨act, tr, vd, R, _, _, line, won, goal, todo, seen, kl, ko, cw, cl, cm, co, ns, ⟨⟨fun s x hs hx => ?_, fun x hx => ?_, fun i hi => absurd hi (Nat.not_lt_zero _), G.2.2.2.1, G.2.2.2.2⟩, tt, n⟩, rfl⟩ ⟨leader, trump, _, yline, ytodo, ybest, ⟨⟨zg_ad dq D c, fun d hd => ?_, fun x hx => ?_⟩, fun i hi => absurd hi (Nat.not_lt_zero _)⟩, rfl⟩
            · rw [b_or, zx_one c32 hx, hd x hx]
              by_cases ex : x = c
              · rw [ex, zr_dl_c]; simp
              · rw [zr_dl_n ex]; simp [ex]
            · have g1 := G.1 s x hs hx
              have g1' : bt (hands s) x = (dl x && decide (ow x = s)) := g1
              show _ = (zr_dl dl c x && decide (zr_ow ow c (D % 4) x = s))
              by_cases es : s = D % 4
              · rw [es, pk_us, b_or, zx_one c32 hx]
                rw [es] at g1'
                by_cases ex : x = c
                · rw [ex, zr_dl_c, zr_ow_c]; simp
                · rw [zr_dl_n ex, zr_ow_n ex, g1']; simp [ex]
              · rw [pk_un es, g1']
                by_cases ex : x = c
                · have e9 : decide (D % 4 = s) = false := decide_eq_false (fun w => es w.symm)
                  rw [ex, zr_dl_c, zr_ow_c, e2, e9]; rfl
                · rw [zr_dl_n ex, zr_ow_n ex]
            · by_cases ex : x = c
              · rw [ex, pk_us, zr_ow_c]
              · rw [zr_dl_n ex] at hx
                rw [pk_un ex, zr_ow_n ex]; exact G.2.1 x hx
            · by_cases ed : d = D
              · rw [ed, zi_ad_eq, pk_us, zr_dl_c, zr_ow_c]
                exact ⟨rfl, c32, rfl, rfl⟩
              · have hq := q1 d (by omega)
                have hne : dq d ≠ c := fun w => hno ⟨d, by omega, w⟩
                rw [zi_ad_lt ed, pk_un ed, zr_dl_n hne, zr_ow_n hne]
                exact hq
            · by_cases ex : x = c
              · exact ⟨D, by omega, by rw [zi_ad_eq]; exact ex.symm⟩
              · rw [zr_dl_n ex] at hx
                obtain ⟨d, d1, d2⟩ := q2 x hx
                exact ⟨d, by omega, by rw [zi_ad_lt (by omega)]; exact d2⟩
        · refine Y _ (fun w => absurd w hno) (fun hall => br_t (Int32.le_refl _) ?_)
          rw [zr_mul4]
          exact br_f (nI_nlt w (by omega)) ⟨rfl, I0⟩
    · unfold wpY_deal; exact br_t rfl (br_f a (br_f b ⟨rfl, I0⟩))
  · obtain ⟨vd, R, hands, line, won, goal, todo, seen, kl, ko, cw, cl, cm, co, ns, ⟨G, tt, n⟩, rfl⟩ := hx
    obtain ⟨yline, ytodo, ybest, G', rfl⟩ := hy
    unfold wpX_deal wpY_deal
    exact br_f (by decide) (br_f (by decide) ⟨rfl, I0⟩)
/-! start -/
theorem zr_startLoop {post : Int32 → SX → Prop} {dl : Nat → Bool} {ow : Nat → Nat} {T ld D : Nat} (h16 : D ≤ 16) (hdl : ∀ c, dl c = true → c < 32 ∧ ow c < 4) (hd : ∀ c, c < 32 → bt f_dealtSet c = dl c) (ho : ∀ c, dl c = true → a_owner c = nI (ow c)) (tt : zk_TT a_classWord a_classLengths a_classMask a_classOwners) (n : zk_NS a_nextSlot)
    (h : ∀ u', zx_I dl ow T ld D f_handSize f_dealtSet a_owner [] u' → post (nI (D / 4)) u') :
    ∀ d i (hands : Nat → Int32), i + d = 32 → (∀ s c, s < 4 → c < 32 → bt (hands s) c = true → dl c = true ∧ ow c = s) → (∀ s c, s < 4 → c < i → dl c = true → ow c = s → bt (hands s) c = true) → wX_start_45 post (nI ld) (nI T) f_handSize f_dealtSet (nI D) f_count f_toAct f_trumpSuit f_started f_verdict f_relevant (d + 1) (nI i) hands a_owner a_line a_won a_goal a_todo a_seen a_keyLengths a_keyOwners a_classWord a_classLengths a_classMask a_classOwners a_nextSlot := by
  intro d
  induction d with
  | zero =>
    intro i hands hi h1 h2
    have ei : i = 32 := by omega
    subst ei
    refine br_t (by decide) ?_
    unfold wpX_clearPlay
    refine nm_e (nm_e ⟨by decide, ?_⟩)
    have e4 : nI D / 4 = nI (D / 4) := pk_div (d := 4) (by omega) (by omega) (by omega)
    show post (nI D / 4) _
    rw [e4]
    refine h _ ⟨f_verdict, f_relevant, hands, a_line, upd (upd a_won 0 0) 1 0, a_goal, a_todo, a_seen, a_keyLengths, a_keyOwners, a_classWord, a_classLengths, a_classMask, a_classOwners, a_nextSlot, ⟨⟨fun s c hs hc => ?_, ho, fun i hi => absurd hi (Nat.not_lt_zero _), rfl, rfl⟩, tt, n⟩, rfl⟩
    show bt (hands s) c = (dl c && decide (ow c = s))
    by_cases e : bt (hands s) c = true
    · obtain ⟨a, b⟩ := h1 s c hs hc e
      rw [e, a, decide_eq_true b]; rfl
    · have e2 : bt (hands s) c = false := by simpa using e
      rw [e2]
      cases hh : dl c with
      | false => rfl
      | true => rw [decide_eq_false (fun w => e (h2 s c hs hc hh w))]; rfl
  | succ d ih =>
    intro i hands hi h1 h2
    refine br_f (nI_ge (b := 32) (by omega) (by decide)) (zx_has _ f_dealtSet (by omega) ?_)
    rw [hd i (by omega)]
    by_cases e : dl i = true
    · have ho4 := (hdl i e).2
      have eo : a_owner (nI i).toNatClampNeg = nI (ow i) := by rw [nI_clamp (by omega)]; exact ho i e
      rw [e]
      refine br_f (by decide) ⟨vp_in_nI (by omega) (by omega), ?_⟩
      rw [eo]
      refine ⟨vp_in_nI ho4 (by omega), vp_in_nI ho4 (by omega), nm_r (e' := upd hands (ow i) (hands (ow i) ||| ((1 : Int32) <<< (nI i &&& 31)))) (by rw [nI_clamp (by omega)]) (nm_r (nI_1 _) (ih (i + 1) _ (by omega) (fun s c hs hc hb => ?_) (fun s c hs hc a b => ?_)))⟩
      · by_cases es : s = ow i
        · rw [es, pk_us, b_or, zx_one (by omega) hc, Bool.or_eq_true, decide_eq_true_iff] at hb
          rcases hb with hb | hb
          · rw [es]; exact h1 _ c ho4 hc hb
          · rw [hb]; exact ⟨e, es.symm⟩
        · rw [pk_un es] at hb; exact h1 s c hs hc hb
      · by_cases es : s = ow i
        · rw [es, pk_us, b_or, zx_one (by omega) (hdl c a).1, Bool.or_eq_true, decide_eq_true_iff]
          by_cases ec : c = i
          · exact Or.inr ec
          · exact Or.inl (h2 _ c ho4 (by omega) a (by omega))
        · rw [pk_un es]
          by_cases ec : c = i
          · rw [ec] at b; exact absurd b.symm es
          · exact h2 s c hs (by omega) a b
    · have e2 : dl i = false := by simpa using e
      rw [e2]
      refine br_t rfl (nm_r (nI_1 _) (ih (i + 1) _ (by omega) h1 (fun s c hs hc a b => ?_)))
      by_cases ec : c = i
      · rw [ec] at a; exact absurd a e
      · exact h2 s c hs (by omega) a b
theorem zr_start {dl : Nat → Bool} {ow : Nat → Nat} {D z : Nat} {g_count g_leader g_trump g_started : Int32} {b_dealt b_line b_todo b_best : Nat → Int32} (hD : zr_D dl ow D z) (hd : ∀ c, c < 32 → bt f_dealtSet c = dl c) (ho : ∀ c, dl c = true → a_owner c = nI (ow c)) (hh : ∀ s c, s < 4 → c < 32 → bt (a_hands s) c = true → dl c = true ∧ ow c = s) (tt : zk_TT a_classWord a_classLengths a_classMask a_classOwners) (n : zk_NS a_nextSlot)
    (G' : zy_G dl ow D [] b_dealt b_line) (R0 : i_Rel (k + 3) (nI z, f_dealtSet, nI D, f_count, f_toAct, f_trumpSuit, f_started, f_verdict, f_relevant, a_hands, a_owner, a_line, a_won, a_goal, a_todo, a_seen, a_keyLengths, a_keyOwners, a_classWord, a_classLengths, a_classMask, a_classOwners, a_nextSlot) (nI z, nI D, g_count, g_leader, g_trump, g_started, b_dealt, b_line, b_todo, b_best)) (v1 v2 : Int32) :
    wpX_start (fun r u' => wpY_start (fun r' v' => r' = r ∧ i_Rel (k + 3) u' v') (nI z, nI D, g_count, g_leader, g_trump, g_started, b_dealt, b_line, b_todo, b_best) v1 v2) (nI z, f_dealtSet, nI D, f_count, f_toAct, f_trumpSuit, f_started, f_verdict, f_relevant, a_hands, a_owner, a_line, a_won, a_goal, a_todo, a_seen, a_keyLengths, a_keyOwners, a_classWord, a_classLengths, a_classMask, a_classOwners, a_nextSlot) v1 v2 := by
  have h16 := zr_D16 hD
  unfold wpX_start
  refine br_c (fun a => ?_) (fun a => br_c (fun b => br_c (fun c => ?_) (fun c => br_c (fun d => br_c (fun e => ?_) (fun e => ⟨by decide, br_c (fun f => ?_) (fun f => ?_)⟩)) (fun d => ?_))) (fun b => ?_))
  · unfold wpY_start; exact br_t a ⟨rfl, R0⟩
  · unfold wpY_start; exact br_f a (br_t b (br_t c ⟨rfl, R0⟩))
  · unfold wpY_start; exact br_f a (br_t b (br_f c (br_t d (br_t e ⟨rfl, R0⟩))))
  · obtain ⟨ld, l1, l2⟩ := nI_of2 (n := 3) (by decide) a b
    obtain ⟨T, t1, t2⟩ := nI_of2 (n := 4) (by decide) c d
    subst l2 t2
    have f2 := f
    rw [zx_rem4 (by omega)] at f2
    have f4 : D % 4 = 0 := (nI_eq (a := D % 4) (b := 0) (by omega) (by omega)).mp f2
    have st : zp_st dl ow T ld D := zr_stD hD f4 t1 (by omega)
    refine ⟨33, zr_startLoop h16 hD.2.2.2.1 hd ho tt n (fun u' hu => ?_) 32 0 a_hands rfl hh (fun s c _ hc => absurd hc (Nat.not_lt_zero _))⟩
    unfold wpY_start
    refine br_f a (br_t b (br_f c (br_t d (br_f e ⟨by decide, br_t f ⟨by decide, ?_, ?_⟩⟩))))
    · exact pk_div (d := 4) (by omega) (by omega) (by omega)
    · exact zr_s hD hd st (pl := []) trivial hu ⟨_, _, _, G', rfl⟩
  · unfold wpY_start; exact br_f a (br_t b (br_f c (br_t d (br_f e ⟨by decide, br_f f ⟨rfl, R0⟩⟩))))
  · unfold wpY_start; exact br_f a (br_t b (br_f c (br_f d ⟨rfl, R0⟩)))
  · unfold wpY_start; exact br_f a (br_f b ⟨rfl, R0⟩)
theorem i_vc_start (I : i_Rel k u v) (hk : k + 3 ≤ 1537) (v1 : Int32) (v2 : Int32) : wpX_start (fun r u' => wpY_start (fun r' v' => r' = r ∧ i_Rel (k + 3) u' v') v v1 v2) u v1 v2 := by
  have I0 := I
  obtain ⟨dl, ow, D, z, ds, hD, hd, I⟩ := I
  have h16 := zr_D16 hD
  rcases I with ⟨hx, hy⟩ | ⟨T, ld, pl, owner, dealt, st, ok, hx, hy⟩
  · obtain ⟨act, tr, vd, R, hands, owner, line, won, goal, todo, seen, kl, ko, cw, cl, cm, co, ns, ⟨G, tt, n⟩, rfl⟩ := hx
    obtain ⟨leader, trump, dealt, yline, ytodo, ybest, G', rfl⟩ := hy
    refine zr_start hD hd G.2.1 (fun s c hs hc hb => ?_) tt n G' I0 v1 v2
    rw [G.1 s c hs hc, Bool.and_eq_true, decide_eq_true_iff] at hb
    exact hb
  · obtain ⟨vd, R, hands, line, won, goal, todo, seen, kl, ko, cw, cl, cm, co, ns, ⟨G, tt, n⟩, rfl⟩ := hx
    obtain ⟨yline, ytodo, ybest, G', rfl⟩ := hy
    refine zr_start hD hd G.2.1 (fun s c hs hc hb => ?_) tt n ⟨G'.1, fun i hi => absurd hi (Nat.not_lt_zero _)⟩ I0 v1 v2
    rw [G.1 s c hs hc, Bool.and_eq_true, decide_eq_true_iff] at hb
    exact ⟨zp_H_dl hb.1, hb.2⟩
end
end
section
/-! ===== the solving questions ===== -/
section
variable {k : Nat} {u : SX} {v : SY}
theorem i_vc_value (I : i_Rel k u v) (hk : k + 3 ≤ 1537) : wpX_value (fun r u' => wpY_value (fun r' v' => r' = r ∧ i_Rel (k + 3) u' v') v) u := by
  have I0 := I
  obtain ⟨dl, ow, D, z, ds, hD, hd, I⟩ := I
  rcases I with ⟨hx, hy⟩ | ⟨T, ld, pl, owner, dealt, st, ok, hx, hy⟩
  · obtain ⟨act, tr, vd, R, hands, owner, line, won, goal, todo, seen, kl, ko, cw, cl, cm, co, ns, ⟨G, tt, n⟩, rfl⟩ := hx
    obtain ⟨leader, trump, dealt, yline, ytodo, ybest, G', rfl⟩ := hy
    unfold wpX_value wpX_solvingRefusal wpX_phase
    refine br_t rfl (br_f (by decide) (br_f (by decide) ?_))
    unfold wpY_value wpY_phase
    exact br_t rfl (br_f (by decide) ⟨rfl, I0⟩)
  · refine zx_value st ok hx (fun q u' I1 => ?_) (fun q w u' I1 => ?_) (fun q w u' I1 => ?_)
    · exact zy_value st ok hy (fun _ v' I2 => ⟨rfl, zr_s hD hd st ok I1 I2⟩) (fun q2 => absurd q2 (by omega)) (fun q2 => absurd q2 (by omega))
    · exact zy_value st ok hy (fun q2 => absurd q2 (by omega)) (fun _ _ v' I2 => ⟨rfl, zr_s hD hd st ok I1 I2⟩) (fun _ w2 => absurd w2 (by omega))
    · exact zy_value st ok hy (fun q2 => absurd q2 (by omega)) (fun _ w2 => absurd w2 (by omega)) (fun _ _ v' I2 => ⟨rfl, zr_s hD hd st ok I1 I2⟩)
theorem i_vc_canWin (I : i_Rel k u v) (hk : k + 3 ≤ 1537) (v1 : Int32) : wpX_canWin (fun r u' => wpY_canWin (fun r' v' => r' = r ∧ i_Rel (k + 3) u' v') v v1) u v1 := by
  have I0 := I
  obtain ⟨dl, ow, D, z, ds, hD, hd, I⟩ := I
  rcases I with ⟨hx, hy⟩ | ⟨T, ld, pl, owner, dealt, st, ok, hx, hy⟩
  · obtain ⟨act, tr, vd, R, hands, owner, line, won, goal, todo, seen, kl, ko, cw, cl, cm, co, ns, ⟨G, tt, n⟩, rfl⟩ := hx
    obtain ⟨leader, trump, dealt, yline, ytodo, ybest, G', rfl⟩ := hy
    unfold wpX_canWin wpX_solvingRefusal wpX_phase
    refine br_t rfl (br_f (by decide) (br_f (by decide) ?_))
    unfold wpY_canWin wpY_value wpY_phase
    exact br_t rfl (br_f (by decide) (br_f (by decide) ⟨rfl, I0⟩))
  · refine zx_canWin st ok hx (fun q u' I1 => ?_) (fun q w u' I1 => ?_) (fun q w u' I1 => ?_)
    · exact zy_canWin st ok hy (fun _ v' I2 => ⟨rfl, zr_s hD hd st ok I1 I2⟩) (fun q2 => absurd q2 (by omega)) (fun q2 => absurd q2 (by omega))
    · exact zy_canWin st ok hy (fun q2 => absurd q2 (by omega)) (fun _ _ v' I2 => ⟨rfl, zr_s hD hd st ok I1 I2⟩) (fun _ w2 => absurd w2 (by omega))
    · exact zy_canWin st ok hy (fun q2 => absurd q2 (by omega)) (fun _ w2 => absurd w2 (by omega)) (fun _ _ v' I2 => ⟨rfl, zr_s hD hd st ok I1 I2⟩)
theorem i_vc_cardValue (I : i_Rel k u v) (hk : k + 3 ≤ 1537) (v1 : Int32) : wpX_cardValue (fun r u' => wpY_cardValue (fun r' v' => r' = r ∧ i_Rel (k + 3) u' v') v v1) u v1 := by
  have I0 := I
  obtain ⟨dl, ow, D, z, ds, hD, hd, I⟩ := I
  rcases I with ⟨hx, hy⟩ | ⟨T, ld, pl, owner, dealt, st, ok, hx, hy⟩
  · obtain ⟨act, tr, vd, R, hands, owner, line, won, goal, todo, seen, kl, ko, cw, cl, cm, co, ns, ⟨G, tt, n⟩, rfl⟩ := hx
    obtain ⟨leader, trump, dealt, yline, ytodo, ybest, G', rfl⟩ := hy
    unfold wpX_cardValue wpX_refusal wpX_phase
    refine br_t rfl (br_f (by decide) (br_f (by decide) ?_))
    unfold wpY_cardValue wpY_refusal wpY_phase
    exact br_t rfl (br_f (by decide) (br_f (by decide) ⟨rfl, I0⟩))
  · have no : ∀ c r, v1 = nI c → zp_lg dl ow T ld pl c → pl.length < D → zr_ref dl ow T ld D pl v1 r → r = 0 := by
      intro c r e hl hp hr
      exact zr_ref_u (r := 0) (Or.inr ⟨hp, Or.inr ⟨c, hl.1, e, Or.inr (Or.inr ⟨hl, rfl⟩)⟩⟩) hr
    refine zx_cardValue st ok hx (fun r r1 r2 u' I1 => ?_) (fun c c1 c2 c3 c4 u' I1 => ?_) (fun c c1 c2 c3 c4 u' I1 => ?_)
    · exact zy_cardValue st ok hy (fun r' _ r2' v' I2 => ⟨zr_ref_u r2 r2', zr_s hD hd st ok I1 I2⟩) (fun d d1 d2 d3 _ => absurd (no d r d2 d1 d3 r2) r1) (fun d d1 d2 d3 _ => absurd (no d r d2 d1 d3 r2) r1)
    · exact zy_cardValue st ok hy (fun r' r1' r2' => absurd (no c r' c2 c1 c3 r2') r1') (fun d d1 d2 d3 _ v' I2 => ⟨rfl, zr_s hD hd st ok I1 I2⟩) (fun d d1 d2 d3 d4 => absurd d4 (by omega))
    · refine zy_cardValue st ok hy (fun r' r1' r2' => absurd (no c r' c2 c1 c3 r2') r1') (fun d d1 d2 d3 d4 => absurd d4 (by omega)) (fun d d1 d2 d3 d4 v' I2 => ⟨?_, zr_s hD hd st ok I1 I2⟩)
      rw [c2, nI_eq (by have := c1.1; omega) (by have := d1.1; omega)] at d2
      rw [d2]
theorem i_vc_bestCards (I : i_Rel k u v) (hk : k + 3 ≤ 1537) : wpX_bestCards (fun r u' => wpY_bestCards (fun r' v' => r' = r ∧ i_Rel (k + 3) u' v') v) u := by
  have I0 := I
  obtain ⟨dl, ow, D, z, ds, hD, hd, I⟩ := I
  rcases I with ⟨hx, hy⟩ | ⟨T, ld, pl, owner, dealt, st, ok, hx, hy⟩
  · obtain ⟨act, tr, vd, R, hands, owner, line, won, goal, todo, seen, kl, ko, cw, cl, cm, co, ns, ⟨G, tt, n⟩, rfl⟩ := hx
    obtain ⟨leader, trump, dealt, yline, ytodo, ybest, G', rfl⟩ := hy
    unfold wpX_bestCards wpX_solvingRefusal wpX_phase
    refine br_t rfl (br_f (by decide) (br_f (by decide) ?_))
    unfold wpY_bestCards wpY_value wpY_phase
    exact br_t rfl (br_f (by decide) (br_f (by decide) ⟨rfl, I0⟩))
  · refine zx_best st ok hx (fun q u' I1 => ?_) (fun q w B u' hB I1 => ?_)
    · exact zy_best st ok hy (fun _ v' I2 => ⟨rfl, zr_s hD hd st ok I1 I2⟩) (fun q2 w2 => absurd ⟨q2, w2⟩ q)
    · exact zy_best st ok hy (fun q2 => absurd ⟨q, w⟩ q2) (fun _ _ B' v' hB' I2 => ⟨zv_B_u hB hB', zr_s hD hd st ok I1 I2⟩)
end
end
