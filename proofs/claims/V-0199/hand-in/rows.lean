section
/-! pure rows to paste: stores, nI and lN arithmetic, masks, shifts, narrowing, branches by naturals (pk_le, pk_lt, pk_eq), loops (lp1 .. lp16: the measure of the state; rp1 ..: recursion), negatives. Take what you need -/
theorem pk_us {f : Nat → Int32} {k : Nat} {x : Int32} : upd f k x k = x := if_pos rfl
theorem pk_un {f : Nat → Int32} {k j : Nat} {x : Int32} (h : j ≠ k) : upd f k x j = f j := if_neg h
theorem pk_uLs {f : Nat → Int64} {k : Nat} {x : Int64} : vp_updL f k x k = x := if_pos rfl
theorem pk_uLn {f : Nat → Int64} {k j : Nat} {x : Int64} (h : j ≠ k) : vp_updL f k x j = f j := if_neg h
theorem pk_sub {a b : Nat} (h : b ≤ a) : nI a - nI b = nI (a - b) := by
  obtain ⟨c, rfl⟩ : ∃ c, a = c + b := ⟨a - b, by omega⟩
  rw [← nI_add, Int32.add_sub_cancel, Nat.add_sub_cancel]
theorem pk_m1 (n : Nat) : nI (n + 1) + (-1) = nI n := by
  rw [← nI_1, Int32.add_assoc, show (1 : Int32) + (-1) = 0 from rfl, Int32.add_zero]
theorem pk_mul (a b : Nat) : nI a * nI b = nI (a * b) := (Int32.ofNat_mul a b).symm
theorem pk_div {a d : Nat} (ha : a < 2 ^ 31) (h0 : 0 < d) (hd : d < 2 ^ 31) : nI a / nI d = nI (a / d) := by
  apply Int32.toInt_inj.mp
  rw [lg_idiv_nonneg (by rw [nI_toInt ha]; omega) (by rw [nI_toInt hd]; omega), nI_toInt ha, nI_toInt hd, nI_toInt (Nat.lt_of_le_of_lt (Nat.div_le_self a d) ha)]
  first | rfl | exact (Int.natCast_ediv _ _).symm
theorem pk_rem {a d : Nat} (ha : a < 2 ^ 31) (h0 : 0 < d) (hd : d < 2 ^ 31) : nI a - nI a / nI d * nI d = nI (a % d) := by
  rw [pk_div ha h0 hd, pk_mul, pk_sub (Nat.div_mul_le_self a d)]
  exact congrArg nI (by have := Nat.div_add_mod' a d; omega)
theorem pk_sub_toInt {a b : Nat} (ha : a < 2 ^ 30) (hb : b < 2 ^ 30) : (nI a - nI b).toInt = (a : Int) - b := by
  rw [Int32.toInt_sub, nI_toInt (by omega), nI_toInt (by omega)]
  exact Int.bmod_eq_of_le (by omega) (by omega)
theorem pk_sneg {a b : Nat} (hb : b < 2 ^ 30) (h : a < b) : nI a - nI b < 0 := by
  rw [Int32.lt_iff_toInt_lt, pk_sub_toInt (by omega) hb, show (0 : Int32).toInt = 0 from by decide]
  omega
theorem pk_ix (x : Int32) {n : Nat} (hn : n < 2 ^ 31) : x < 0 ∨ nI n ≤ x ∨ ∃ j : Nat, j < n ∧ x = nI j := by
  by_cases h : x < 0
  · exact Or.inl h
  · obtain ⟨j, hj, rfl⟩ := nI_of h
    by_cases h2 : j < n
    · exact Or.inr (Or.inr ⟨j, h2, rfl⟩)
    · exact Or.inr (Or.inl (nI_le (by omega) hj))
theorem pk_le {x y : Int32} {A B : Prop} (a b : Nat) (f : a ≤ b → A) (g : b < a → B) (hx : x = nI a := by rfl) (hy : y = nI b := by rfl) (ha : a < 2 ^ 31 := by omega) (hb : b < 2 ^ 31 := by omega) : (x ≤ y → A) ∧ (¬ x ≤ y → B) := by
  subst hx hy
  rw [nI_leI ha hb]
  exact ⟨f, fun z => g (by omega)⟩
theorem pk_lt {x y : Int32} {A B : Prop} (a b : Nat) (f : a < b → A) (g : b ≤ a → B) (hx : x = nI a := by rfl) (hy : y = nI b := by rfl) (ha : a < 2 ^ 31 := by omega) (hb : b < 2 ^ 31 := by omega) : (x < y → A) ∧ (¬ x < y → B) := by
  subst hx hy
  rw [nI_ltI ha hb]
  exact ⟨f, fun z => g (by omega)⟩
theorem pk_eq {x y : Int32} {A B : Prop} (a b : Nat) (f : a = b → A) (g : a ≠ b → B) (hx : x = nI a := by rfl) (hy : y = nI b := by rfl) (ha : a < 2 ^ 31 := by omega) (hb : b < 2 ^ 31 := by omega) : (x = y → A) ∧ (¬ x = y → B) := by
  subst hx hy
  rw [nI_eq ha hb]
  exact ⟨f, g⟩
theorem pk_in {x : Int32} (n N : Nat) (h : n < N) (hx : x = nI n := by rfl) (hN : N < 2 ^ 31 := by omega) : vp_in x N := by
  subst hx
  exact vp_in_nI h hN
theorem pk_cl {x : Int32} (n : Nat) (hx : x = nI n := by rfl) (h : n < 2 ^ 31 := by omega) : x.toNatClampNeg = n := by
  subst hx
  exact nI_clamp h
theorem pk_tn {n : Nat} (h : n < 2 ^ 32) : (nI n).toBitVec.toNat = n := Nat.mod_eq_of_lt h
theorem pk_and (x : Int32) {m : Int32} (k : Nat) (hm : m.toBitVec.toNat = 2 ^ k - 1) : x &&& m = nI (x.toBitVec.toNat % 2 ^ k) := by
  apply Int32.toBitVec_inj.mp
  apply BitVec.eq_of_toNat_eq
  rw [Int32.toBitVec_and, BitVec.toNat_and, hm, Nat.and_two_pow_sub_one_eq_mod]
  show _ = (BitVec.ofNat 32 _).toNat
  rw [BitVec.toNat_ofNat]
  exact (Nat.mod_eq_of_lt (Nat.lt_of_le_of_lt (Nat.mod_le _ _) x.toBitVec.isLt)).symm
theorem pk_andN {n : Nat} (h : n < 2 ^ 32) {m : Int32} (k : Nat) (hm : m.toBitVec.toNat = 2 ^ k - 1) : nI n &&& m = nI (n % 2 ^ k) := by
  rw [pk_and _ k hm, pk_tn h]
theorem pk_andE (x : Int32) {m : Int32} (k : Nat) (hm : m.toBitVec.toNat = 2 ^ k - 1) : ∃ j : Nat, j < 2 ^ k ∧ x &&& m = nI j := ⟨_, Nat.mod_lt _ (Nat.two_pow_pos k), pk_and x k hm⟩
theorem pk_andIn (x : Int32) {m : Int32} (k : Nat) (hm : m.toBitVec.toNat = 2 ^ k - 1) (hk : k ≤ 30) : vp_in (x &&& m) (2 ^ k) := by
  obtain ⟨j, hj, e⟩ := pk_andE x k hm
  rw [e]
  exact vp_in_nI hj (Nat.lt_of_le_of_lt (Nat.pow_le_pow_right (by decide) hk) (by decide))
theorem pk_shl (a s : Int32) (k : Nat) (hs : (s.toBitVec.smod 32).toNat = k) : (a <<< s).toBitVec.toNat = a.toBitVec.toNat * 2 ^ k % 2 ^ 32 := by
  show (a.toBitVec <<< (s.toBitVec.smod 32).toNat).toNat = _
  rw [hs, BitVec.toNat_shiftLeft, Nat.shiftLeft_eq]
theorem pk_shlN {n : Nat} (s : Int32) (k : Nat) (hs : (s.toBitVec.smod 32).toNat = k) (h : n * 2 ^ k < 2 ^ 32) : nI n <<< s = nI (n * 2 ^ k) := by
  apply Int32.toBitVec_inj.mp
  apply BitVec.eq_of_toNat_eq
  have hn : n < 2 ^ 32 := Nat.lt_of_le_of_lt (Nat.le_mul_of_pos_right n (Nat.two_pow_pos k)) h
  rw [pk_shl _ _ k hs, pk_tn hn, pk_tn h, Nat.mod_eq_of_lt h]
theorem pk_shr (a s : Int32) (k : Nat) (hs : (s.toBitVec.smod 32).toNat = k) : (a >>> s).toInt = a.toInt >>> k := by
  show (a.toBitVec.sshiftRight (s.toBitVec.smod 32).toNat).toInt = _
  rw [hs, BitVec.toInt_sshiftRight]
  rfl
theorem pk_shrN {n : Nat} (h : n < 2 ^ 31) (s : Int32) (k : Nat) (hs : (s.toBitVec.smod 32).toNat = k) : nI n >>> s = nI (n / 2 ^ k) := by
  apply Int32.toInt_inj.mp
  have h2 : n / 2 ^ k ≤ n := Nat.div_le_self _ _
  rw [pk_shr _ _ k hs, nI_toInt h, nI_toInt (by omega), Int.shiftRight_eq_div_pow]
  rfl
theorem pk_ushr (x s : Int32) (k : Nat) (hs : ((s.toUInt32 &&& Int32.toUInt32 31).toBitVec % 32).toNat = k) : (x.toUInt32 >>> (s.toUInt32 &&& Int32.toUInt32 31)).toInt32.toBitVec.toNat = x.toBitVec.toNat / 2 ^ k := by
  have e : (x.toUInt32 >>> (s.toUInt32 &&& Int32.toUInt32 31)).toInt32.toBitVec = x.toBitVec >>> k := by
    rw [← hs]
    exact UInt32.toBitVec_shiftRight _ _
  rw [e, BitVec.toNat_ushiftRight, Nat.shiftRight_eq_div_pow]
theorem pk_ushrN {n : Nat} (hn : n < 2 ^ 32) (s : Int32) (k : Nat) (hs : ((s.toUInt32 &&& Int32.toUInt32 31).toBitVec % 32).toNat = k) : ((nI n).toUInt32 >>> (s.toUInt32 &&& Int32.toUInt32 31)).toInt32 = nI (n / 2 ^ k) := by
  apply Int32.toBitVec_inj.mp
  apply BitVec.eq_of_toNat_eq
  rw [pk_ushr _ s k hs, pk_tn hn, pk_tn (Nat.lt_of_le_of_lt (Nat.div_le_self _ _) hn)]
theorem pk_nb (z : Int32) : narrow .byte (.int z.toInt8.toInt32) = .int z.toInt8.toInt32 := congrArg Value.int (by simp)
theorem pk_ns (z : Int32) : narrow .short (.int z.toInt16.toInt32) = .int z.toInt16.toInt32 := congrArg Value.int (by simp)
theorem pk_fb (r : Int32) : fits .byte (.int r.toInt8.toInt32) = true := by
  have ⟨a, b⟩ := lg_i2b_range r
  have h1 : (-128 : Int32).toInt = -128 := by decide
  have h2 : (127 : Int32).toInt = 127 := by decide
  simp only [fits, Bool.and_eq_true, decide_eq_true_eq, Int32.le_iff_toInt_le, h1, h2]
  omega
theorem pk_fs (r : Int32) : fits .short (.int r.toInt16.toInt32) = true := by
  have ⟨a, b⟩ := lg_i2s_range r
  have h1 : (-32768 : Int32).toInt = -32768 := by decide
  have h2 : (32767 : Int32).toInt = 32767 := by decide
  simp only [fits, Bool.and_eq_true, decide_eq_true_eq, Int32.le_iff_toInt_le, h1, h2]
  omega
theorem pk_charN {q : Nat} (hq : q < 65536) : narrow .char (.int (nI q)) = .int (nI q) ∧ fits .char (.int (nI q)) = true := by
  constructor
  · have e : (nI q).toUInt32.toUInt16.toUInt32.toInt32 = nI q := by
      apply Int32.toBitVec_inj.mp
      apply BitVec.eq_of_toNat_eq
      show (nI q).toUInt32.toUInt16.toUInt32.toNat = q % 2 ^ 32
      rw [UInt16.toNat_toUInt32, UInt32.toNat_toUInt16, show (nI q).toUInt32.toNat = q % 2 ^ 32 from rfl]
      omega
    exact congrArg Value.int e
  · have a : (0 : Int32) ≤ nI q := nI_pos' (by omega)
    have b : nI q ≤ 65535 := nI_le (b := 65535) (by omega) (by decide)
    show (decide ((0 : Int32) ≤ nI q) && decide (nI q ≤ 65535)) = true
    rw [decide_eq_true a, decide_eq_true b]
    rfl
theorem pk_char (x : Int32) : (x.toUInt32 % 65536).toInt32 = nI (x.toBitVec.toNat % 65536) := by
  apply Int32.toBitVec_inj.mp
  apply BitVec.eq_of_toNat_eq
  rw [pk_tn (by omega)]
  show (x.toUInt32 % 65536).toNat = _
  rw [UInt32.toNat_mod]
  rfl
theorem pk_nc (x : Int32) : narrow .char (.int (x.toUInt32 % 65536).toInt32) = .int (x.toUInt32 % 65536).toInt32 := by
  rw [pk_char]
  exact (pk_charN (Nat.mod_lt _ (by decide))).1
theorem pk_fc (x : Int32) : fits .char (.int (x.toUInt32 % 65536).toInt32) = true := by
  rw [pk_char]
  exact (pk_charN (Nat.mod_lt _ (by decide))).2
theorem pk_vb (z : Int32) : vp_nar .byte z.toInt8.toInt32 = z.toInt8.toInt32 := by rw [vp_nar_byte]; simp
theorem pk_vs (z : Int32) : vp_nar .short z.toInt16.toInt32 = z.toInt16.toInt32 := by rw [vp_nar_short]; simp
theorem pk_vc (z : Int32) : vp_nar .char (z.toUInt32 % 65536).toInt32 = (z.toUInt32 % 65536).toInt32 := Value.int.inj (pk_nc z)
theorem pk_lT {n : Nat} (h : n < 2 ^ 63) : (lN n).toInt = (n : Int) := lg_ofNat_toInt h
theorem pk_lLT {a b : Nat} (ha : a < 2 ^ 63) (hb : b < 2 ^ 63) : lN a < lN b ↔ a < b := by
  rw [Int64.lt_iff_toInt_lt, pk_lT ha, pk_lT hb]; omega
theorem pk_lLE {a b : Nat} (ha : a < 2 ^ 63) (hb : b < 2 ^ 63) : lN a ≤ lN b ↔ a ≤ b := by
  rw [Int64.le_iff_toInt_le, pk_lT ha, pk_lT hb]; omega
theorem pk_lEQ {a b : Nat} (ha : a < 2 ^ 63) (hb : b < 2 ^ 63) : lN a = lN b ↔ a = b := by
  rw [← Int64.toInt_inj, pk_lT ha, pk_lT hb]; omega
theorem pk_lOf {x : Int64} (h : ¬ x < 0) : ∃ k : Nat, k < 2 ^ 63 ∧ x = lN k := by
  rw [Int64.lt_iff_toInt_lt] at h
  have h0 : (0 : Int64).toInt = 0 := by decide
  have hx := Int64.toInt_lt x
  refine ⟨x.toInt.toNat, by omega, Int64.toInt_inj.mp ?_⟩
  rw [pk_lT (by omega)]
  omega
theorem pk_lDiv {a b : Nat} (ha : a < 2 ^ 63) (h0 : 0 < b) (hb : b < 2 ^ 63) : lN a / lN b = lN (a / b) := by
  apply Int64.toInt_inj.mp
  rw [lg_ldiv_nonneg (by rw [pk_lT ha]; omega) (by rw [pk_lT hb]; omega), pk_lT ha, pk_lT hb, pk_lT (Nat.lt_of_le_of_lt (Nat.div_le_self a b) ha)]
  rfl
theorem pk_lRem {a b : Nat} (ha : a < 2 ^ 63) (h0 : 0 < b) (hb : b < 2 ^ 63) : lN a - lN a / lN b * lN b = lN (a % b) := by
  rw [pk_lDiv ha h0 hb, lN_mul, lN_sub (Nat.div_mul_le_self a b)]
  exact congrArg lN (by have := Nat.div_add_mod' a b; omega)
theorem pk_loop {σ : Type} (W : Nat → Nat → σ → Prop) (I : Nat → σ → Prop) (e i0 : Nat) (s : σ) (hi : i0 ≤ e) (h0 : I i0 s) (hx : ∀ n s, I e s → W (n + 1) e s)
    (hs : ∀ n i s, i < e → I i s → (∀ s', I (i + 1) s' → W n (i + 1) s') → W (n + 1) i s) : ∃ n, W n i0 s :=
  ⟨e + 1, loop_i W I e hx hs (e + 1) i0 s hi (by omega) h0⟩
theorem pk_loopD {σ : Type} (W : Nat → Nat → σ → Prop) (I : Nat → σ → Prop) (hx : ∀ n s, I 0 s → W (n + 1) 0 s)
    (hs : ∀ n i s, I (i + 1) s → (∀ s', I i s' → W n i s') → W (n + 1) (i + 1) s) : ∀ (e : Nat) (s : σ), I e s → W (e + 1) e s := by
  intro e
  induction e with
  | zero => exact fun s h => hx 0 s h
  | succ e ih => exact fun s h => hs (e + 1) e s h (fun s' h' => ih s' h')
theorem lp1 {A1 : Type} (W : Nat → A1 → Prop) (I : A1 → Prop) (μ : A1 → Nat) (hs : ∀ (n : Nat) (a1 : A1), I a1 → (∀ (b1 : A1), I b1 → μ b1 < μ a1 → W n b1) → W (n + 1) a1) (a1 : A1) (h : I a1) : ∃ n, W n a1 :=
  loop_m (σ := A1) (fun n s => W n s) (fun s => I s) (fun s => μ s) (fun n s hI hk => hs n s hI (fun b1 h9 hm => hk b1 h9 hm)) a1 h
theorem lp2 {A1 A2 : Type} (W : Nat → A1 → A2 → Prop) (I : A1 → A2 → Prop) (μ : A1 → A2 → Nat) (hs : ∀ (n : Nat) (a1 : A1) (a2 : A2), I a1 a2 → (∀ (b1 : A1) (b2 : A2), I b1 b2 → μ b1 b2 < μ a1 a2 → W n b1 b2) → W (n + 1) a1 a2) (a1 : A1) (a2 : A2) (h : I a1 a2) : ∃ n, W n a1 a2 :=
  loop_m (σ := A1 × A2) (fun n s => W n s.1 s.2) (fun s => I s.1 s.2) (fun s => μ s.1 s.2) (fun n s hI hk => hs n s.1 s.2 hI (fun b1 b2 h9 hm => hk (b1, b2) h9 hm)) (a1, a2) h
theorem lp3 {A1 A2 A3 : Type} (W : Nat → A1 → A2 → A3 → Prop) (I : A1 → A2 → A3 → Prop) (μ : A1 → A2 → A3 → Nat) (hs : ∀ (n : Nat) (a1 : A1) (a2 : A2) (a3 : A3), I a1 a2 a3 → (∀ (b1 : A1) (b2 : A2) (b3 : A3), I b1 b2 b3 → μ b1 b2 b3 < μ a1 a2 a3 → W n b1 b2 b3) → W (n + 1) a1 a2 a3) (a1 : A1) (a2 : A2) (a3 : A3) (h : I a1 a2 a3) : ∃ n, W n a1 a2 a3 :=
  loop_m (σ := A1 × A2 × A3) (fun n s => W n s.1 s.2.1 s.2.2) (fun s => I s.1 s.2.1 s.2.2) (fun s => μ s.1 s.2.1 s.2.2) (fun n s hI hk => hs n s.1 s.2.1 s.2.2 hI (fun b1 b2 b3 h9 hm => hk (b1, b2, b3) h9 hm)) (a1, a2, a3) h
theorem lp4 {A1 A2 A3 A4 : Type} (W : Nat → A1 → A2 → A3 → A4 → Prop) (I : A1 → A2 → A3 → A4 → Prop) (μ : A1 → A2 → A3 → A4 → Nat) (hs : ∀ (n : Nat) (a1 : A1) (a2 : A2) (a3 : A3) (a4 : A4), I a1 a2 a3 a4 → (∀ (b1 : A1) (b2 : A2) (b3 : A3) (b4 : A4), I b1 b2 b3 b4 → μ b1 b2 b3 b4 < μ a1 a2 a3 a4 → W n b1 b2 b3 b4) → W (n + 1) a1 a2 a3 a4) (a1 : A1) (a2 : A2) (a3 : A3) (a4 : A4) (h : I a1 a2 a3 a4) : ∃ n, W n a1 a2 a3 a4 :=
  loop_m (σ := A1 × A2 × A3 × A4) (fun n s => W n s.1 s.2.1 s.2.2.1 s.2.2.2) (fun s => I s.1 s.2.1 s.2.2.1 s.2.2.2) (fun s => μ s.1 s.2.1 s.2.2.1 s.2.2.2) (fun n s hI hk => hs n s.1 s.2.1 s.2.2.1 s.2.2.2 hI (fun b1 b2 b3 b4 h9 hm => hk (b1, b2, b3, b4) h9 hm)) (a1, a2, a3, a4) h
theorem lp5 {A1 A2 A3 A4 A5 : Type} (W : Nat → A1 → A2 → A3 → A4 → A5 → Prop) (I : A1 → A2 → A3 → A4 → A5 → Prop) (μ : A1 → A2 → A3 → A4 → A5 → Nat) (hs : ∀ (n : Nat) (a1 : A1) (a2 : A2) (a3 : A3) (a4 : A4) (a5 : A5), I a1 a2 a3 a4 a5 → (∀ (b1 : A1) (b2 : A2) (b3 : A3) (b4 : A4) (b5 : A5), I b1 b2 b3 b4 b5 → μ b1 b2 b3 b4 b5 < μ a1 a2 a3 a4 a5 → W n b1 b2 b3 b4 b5) → W (n + 1) a1 a2 a3 a4 a5) (a1 : A1) (a2 : A2) (a3 : A3) (a4 : A4) (a5 : A5) (h : I a1 a2 a3 a4 a5) : ∃ n, W n a1 a2 a3 a4 a5 :=
  loop_m (σ := A1 × A2 × A3 × A4 × A5) (fun n s => W n s.1 s.2.1 s.2.2.1 s.2.2.2.1 s.2.2.2.2) (fun s => I s.1 s.2.1 s.2.2.1 s.2.2.2.1 s.2.2.2.2) (fun s => μ s.1 s.2.1 s.2.2.1 s.2.2.2.1 s.2.2.2.2) (fun n s hI hk => hs n s.1 s.2.1 s.2.2.1 s.2.2.2.1 s.2.2.2.2 hI (fun b1 b2 b3 b4 b5 h9 hm => hk (b1, b2, b3, b4, b5) h9 hm)) (a1, a2, a3, a4, a5) h
theorem lp6 {A1 A2 A3 A4 A5 A6 : Type} (W : Nat → A1 → A2 → A3 → A4 → A5 → A6 → Prop) (I : A1 → A2 → A3 → A4 → A5 → A6 → Prop) (μ : A1 → A2 → A3 → A4 → A5 → A6 → Nat) (hs : ∀ (n : Nat) (a1 : A1) (a2 : A2) (a3 : A3) (a4 : A4) (a5 : A5) (a6 : A6), I a1 a2 a3 a4 a5 a6 → (∀ (b1 : A1) (b2 : A2) (b3 : A3) (b4 : A4) (b5 : A5) (b6 : A6), I b1 b2 b3 b4 b5 b6 → μ b1 b2 b3 b4 b5 b6 < μ a1 a2 a3 a4 a5 a6 → W n b1 b2 b3 b4 b5 b6) → W (n + 1) a1 a2 a3 a4 a5 a6) (a1 : A1) (a2 : A2) (a3 : A3) (a4 : A4) (a5 : A5) (a6 : A6) (h : I a1 a2 a3 a4 a5 a6) : ∃ n, W n a1 a2 a3 a4 a5 a6 :=
  loop_m (σ := A1 × A2 × A3 × A4 × A5 × A6) (fun n s => W n s.1 s.2.1 s.2.2.1 s.2.2.2.1 s.2.2.2.2.1 s.2.2.2.2.2) (fun s => I s.1 s.2.1 s.2.2.1 s.2.2.2.1 s.2.2.2.2.1 s.2.2.2.2.2) (fun s => μ s.1 s.2.1 s.2.2.1 s.2.2.2.1 s.2.2.2.2.1 s.2.2.2.2.2) (fun n s hI hk => hs n s.1 s.2.1 s.2.2.1 s.2.2.2.1 s.2.2.2.2.1 s.2.2.2.2.2 hI (fun b1 b2 b3 b4 b5 b6 h9 hm => hk (b1, b2, b3, b4, b5, b6) h9 hm)) (a1, a2, a3, a4, a5, a6) h
theorem lp7 {A1 A2 A3 A4 A5 A6 A7 : Type} (W : Nat → A1 → A2 → A3 → A4 → A5 → A6 → A7 → Prop) (I : A1 → A2 → A3 → A4 → A5 → A6 → A7 → Prop) (μ : A1 → A2 → A3 → A4 → A5 → A6 → A7 → Nat) (hs : ∀ (n : Nat) (a1 : A1) (a2 : A2) (a3 : A3) (a4 : A4) (a5 : A5) (a6 : A6) (a7 : A7), I a1 a2 a3 a4 a5 a6 a7 → (∀ (b1 : A1) (b2 : A2) (b3 : A3) (b4 : A4) (b5 : A5) (b6 : A6) (b7 : A7), I b1 b2 b3 b4 b5 b6 b7 → μ b1 b2 b3 b4 b5 b6 b7 < μ a1 a2 a3 a4 a5 a6 a7 → W n b1 b2 b3 b4 b5 b6 b7) → W (n + 1) a1 a2 a3 a4 a5 a6 a7) (a1 : A1) (a2 : A2) (a3 : A3) (a4 : A4) (a5 : A5) (a6 : A6) (a7 : A7) (h : I a1 a2 a3 a4 a5 a6 a7) : ∃ n, W n a1 a2 a3 a4 a5 a6 a7 :=
  loop_m (σ := A1 × A2 × A3 × A4 × A5 × A6 × A7) (fun n s => W n s.1 s.2.1 s.2.2.1 s.2.2.2.1 s.2.2.2.2.1 s.2.2.2.2.2.1 s.2.2.2.2.2.2) (fun s => I s.1 s.2.1 s.2.2.1 s.2.2.2.1 s.2.2.2.2.1 s.2.2.2.2.2.1 s.2.2.2.2.2.2) (fun s => μ s.1 s.2.1 s.2.2.1 s.2.2.2.1 s.2.2.2.2.1 s.2.2.2.2.2.1 s.2.2.2.2.2.2) (fun n s hI hk => hs n s.1 s.2.1 s.2.2.1 s.2.2.2.1 s.2.2.2.2.1 s.2.2.2.2.2.1 s.2.2.2.2.2.2 hI (fun b1 b2 b3 b4 b5 b6 b7 h9 hm => hk (b1, b2, b3, b4, b5, b6, b7) h9 hm)) (a1, a2, a3, a4, a5, a6, a7) h
theorem lp8 {A1 A2 A3 A4 A5 A6 A7 A8 : Type} (W : Nat → A1 → A2 → A3 → A4 → A5 → A6 → A7 → A8 → Prop) (I : A1 → A2 → A3 → A4 → A5 → A6 → A7 → A8 → Prop) (μ : A1 → A2 → A3 → A4 → A5 → A6 → A7 → A8 → Nat) (hs : ∀ (n : Nat) (a1 : A1) (a2 : A2) (a3 : A3) (a4 : A4) (a5 : A5) (a6 : A6) (a7 : A7) (a8 : A8), I a1 a2 a3 a4 a5 a6 a7 a8 → (∀ (b1 : A1) (b2 : A2) (b3 : A3) (b4 : A4) (b5 : A5) (b6 : A6) (b7 : A7) (b8 : A8), I b1 b2 b3 b4 b5 b6 b7 b8 → μ b1 b2 b3 b4 b5 b6 b7 b8 < μ a1 a2 a3 a4 a5 a6 a7 a8 → W n b1 b2 b3 b4 b5 b6 b7 b8) → W (n + 1) a1 a2 a3 a4 a5 a6 a7 a8) (a1 : A1) (a2 : A2) (a3 : A3) (a4 : A4) (a5 : A5) (a6 : A6) (a7 : A7) (a8 : A8) (h : I a1 a2 a3 a4 a5 a6 a7 a8) : ∃ n, W n a1 a2 a3 a4 a5 a6 a7 a8 :=
  loop_m (σ := A1 × A2 × A3 × A4 × A5 × A6 × A7 × A8) (fun n s => W n s.1 s.2.1 s.2.2.1 s.2.2.2.1 s.2.2.2.2.1 s.2.2.2.2.2.1 s.2.2.2.2.2.2.1 s.2.2.2.2.2.2.2) (fun s => I s.1 s.2.1 s.2.2.1 s.2.2.2.1 s.2.2.2.2.1 s.2.2.2.2.2.1 s.2.2.2.2.2.2.1 s.2.2.2.2.2.2.2) (fun s => μ s.1 s.2.1 s.2.2.1 s.2.2.2.1 s.2.2.2.2.1 s.2.2.2.2.2.1 s.2.2.2.2.2.2.1 s.2.2.2.2.2.2.2) (fun n s hI hk => hs n s.1 s.2.1 s.2.2.1 s.2.2.2.1 s.2.2.2.2.1 s.2.2.2.2.2.1 s.2.2.2.2.2.2.1 s.2.2.2.2.2.2.2 hI (fun b1 b2 b3 b4 b5 b6 b7 b8 h9 hm => hk (b1, b2, b3, b4, b5, b6, b7, b8) h9 hm)) (a1, a2, a3, a4, a5, a6, a7, a8) h
theorem lp9 {A1 A2 A3 A4 A5 A6 A7 A8 A9 : Type} (W : Nat → A1 → A2 → A3 → A4 → A5 → A6 → A7 → A8 → A9 → Prop) (I : A1 → A2 → A3 → A4 → A5 → A6 → A7 → A8 → A9 → Prop) (μ : A1 → A2 → A3 → A4 → A5 → A6 → A7 → A8 → A9 → Nat) (hs : ∀ (n : Nat) (a1 : A1) (a2 : A2) (a3 : A3) (a4 : A4) (a5 : A5) (a6 : A6) (a7 : A7) (a8 : A8) (a9 : A9), I a1 a2 a3 a4 a5 a6 a7 a8 a9 → (∀ (b1 : A1) (b2 : A2) (b3 : A3) (b4 : A4) (b5 : A5) (b6 : A6) (b7 : A7) (b8 : A8) (b9 : A9), I b1 b2 b3 b4 b5 b6 b7 b8 b9 → μ b1 b2 b3 b4 b5 b6 b7 b8 b9 < μ a1 a2 a3 a4 a5 a6 a7 a8 a9 → W n b1 b2 b3 b4 b5 b6 b7 b8 b9) → W (n + 1) a1 a2 a3 a4 a5 a6 a7 a8 a9) (a1 : A1) (a2 : A2) (a3 : A3) (a4 : A4) (a5 : A5) (a6 : A6) (a7 : A7) (a8 : A8) (a9 : A9) (h : I a1 a2 a3 a4 a5 a6 a7 a8 a9) : ∃ n, W n a1 a2 a3 a4 a5 a6 a7 a8 a9 :=
  loop_m (σ := A1 × A2 × A3 × A4 × A5 × A6 × A7 × A8 × A9) (fun n s => W n s.1 s.2.1 s.2.2.1 s.2.2.2.1 s.2.2.2.2.1 s.2.2.2.2.2.1 s.2.2.2.2.2.2.1 s.2.2.2.2.2.2.2.1 s.2.2.2.2.2.2.2.2) (fun s => I s.1 s.2.1 s.2.2.1 s.2.2.2.1 s.2.2.2.2.1 s.2.2.2.2.2.1 s.2.2.2.2.2.2.1 s.2.2.2.2.2.2.2.1 s.2.2.2.2.2.2.2.2) (fun s => μ s.1 s.2.1 s.2.2.1 s.2.2.2.1 s.2.2.2.2.1 s.2.2.2.2.2.1 s.2.2.2.2.2.2.1 s.2.2.2.2.2.2.2.1 s.2.2.2.2.2.2.2.2) (fun n s hI hk => hs n s.1 s.2.1 s.2.2.1 s.2.2.2.1 s.2.2.2.2.1 s.2.2.2.2.2.1 s.2.2.2.2.2.2.1 s.2.2.2.2.2.2.2.1 s.2.2.2.2.2.2.2.2 hI (fun b1 b2 b3 b4 b5 b6 b7 b8 b9 h9 hm => hk (b1, b2, b3, b4, b5, b6, b7, b8, b9) h9 hm)) (a1, a2, a3, a4, a5, a6, a7, a8, a9) h
theorem lp10 {A1 A2 A3 A4 A5 A6 A7 A8 A9 A10 : Type} (W : Nat → A1 → A2 → A3 → A4 → A5 → A6 → A7 → A8 → A9 → A10 → Prop) (I : A1 → A2 → A3 → A4 → A5 → A6 → A7 → A8 → A9 → A10 → Prop) (μ : A1 → A2 → A3 → A4 → A5 → A6 → A7 → A8 → A9 → A10 → Nat) (hs : ∀ (n : Nat) (a1 : A1) (a2 : A2) (a3 : A3) (a4 : A4) (a5 : A5) (a6 : A6) (a7 : A7) (a8 : A8) (a9 : A9) (a10 : A10), I a1 a2 a3 a4 a5 a6 a7 a8 a9 a10 → (∀ (b1 : A1) (b2 : A2) (b3 : A3) (b4 : A4) (b5 : A5) (b6 : A6) (b7 : A7) (b8 : A8) (b9 : A9) (b10 : A10), I b1 b2 b3 b4 b5 b6 b7 b8 b9 b10 → μ b1 b2 b3 b4 b5 b6 b7 b8 b9 b10 < μ a1 a2 a3 a4 a5 a6 a7 a8 a9 a10 → W n b1 b2 b3 b4 b5 b6 b7 b8 b9 b10) → W (n + 1) a1 a2 a3 a4 a5 a6 a7 a8 a9 a10) (a1 : A1) (a2 : A2) (a3 : A3) (a4 : A4) (a5 : A5) (a6 : A6) (a7 : A7) (a8 : A8) (a9 : A9) (a10 : A10) (h : I a1 a2 a3 a4 a5 a6 a7 a8 a9 a10) : ∃ n, W n a1 a2 a3 a4 a5 a6 a7 a8 a9 a10 :=
  loop_m (σ := A1 × A2 × A3 × A4 × A5 × A6 × A7 × A8 × A9 × A10) (fun n s => W n s.1 s.2.1 s.2.2.1 s.2.2.2.1 s.2.2.2.2.1 s.2.2.2.2.2.1 s.2.2.2.2.2.2.1 s.2.2.2.2.2.2.2.1 s.2.2.2.2.2.2.2.2.1 s.2.2.2.2.2.2.2.2.2) (fun s => I s.1 s.2.1 s.2.2.1 s.2.2.2.1 s.2.2.2.2.1 s.2.2.2.2.2.1 s.2.2.2.2.2.2.1 s.2.2.2.2.2.2.2.1 s.2.2.2.2.2.2.2.2.1 s.2.2.2.2.2.2.2.2.2) (fun s => μ s.1 s.2.1 s.2.2.1 s.2.2.2.1 s.2.2.2.2.1 s.2.2.2.2.2.1 s.2.2.2.2.2.2.1 s.2.2.2.2.2.2.2.1 s.2.2.2.2.2.2.2.2.1 s.2.2.2.2.2.2.2.2.2) (fun n s hI hk => hs n s.1 s.2.1 s.2.2.1 s.2.2.2.1 s.2.2.2.2.1 s.2.2.2.2.2.1 s.2.2.2.2.2.2.1 s.2.2.2.2.2.2.2.1 s.2.2.2.2.2.2.2.2.1 s.2.2.2.2.2.2.2.2.2 hI (fun b1 b2 b3 b4 b5 b6 b7 b8 b9 b10 h9 hm => hk (b1, b2, b3, b4, b5, b6, b7, b8, b9, b10) h9 hm)) (a1, a2, a3, a4, a5, a6, a7, a8, a9, a10) h
theorem lp11 {A1 A2 A3 A4 A5 A6 A7 A8 A9 A10 A11 : Type} (W : Nat → A1 → A2 → A3 → A4 → A5 → A6 → A7 → A8 → A9 → A10 → A11 → Prop) (I : A1 → A2 → A3 → A4 → A5 → A6 → A7 → A8 → A9 → A10 → A11 → Prop) (μ : A1 → A2 → A3 → A4 → A5 → A6 → A7 → A8 → A9 → A10 → A11 → Nat) (hs : ∀ (n : Nat) (a1 : A1) (a2 : A2) (a3 : A3) (a4 : A4) (a5 : A5) (a6 : A6) (a7 : A7) (a8 : A8) (a9 : A9) (a10 : A10) (a11 : A11), I a1 a2 a3 a4 a5 a6 a7 a8 a9 a10 a11 → (∀ (b1 : A1) (b2 : A2) (b3 : A3) (b4 : A4) (b5 : A5) (b6 : A6) (b7 : A7) (b8 : A8) (b9 : A9) (b10 : A10) (b11 : A11), I b1 b2 b3 b4 b5 b6 b7 b8 b9 b10 b11 → μ b1 b2 b3 b4 b5 b6 b7 b8 b9 b10 b11 < μ a1 a2 a3 a4 a5 a6 a7 a8 a9 a10 a11 → W n b1 b2 b3 b4 b5 b6 b7 b8 b9 b10 b11) → W (n + 1) a1 a2 a3 a4 a5 a6 a7 a8 a9 a10 a11) (a1 : A1) (a2 : A2) (a3 : A3) (a4 : A4) (a5 : A5) (a6 : A6) (a7 : A7) (a8 : A8) (a9 : A9) (a10 : A10) (a11 : A11) (h : I a1 a2 a3 a4 a5 a6 a7 a8 a9 a10 a11) : ∃ n, W n a1 a2 a3 a4 a5 a6 a7 a8 a9 a10 a11 :=
  loop_m (σ := A1 × A2 × A3 × A4 × A5 × A6 × A7 × A8 × A9 × A10 × A11) (fun n s => W n s.1 s.2.1 s.2.2.1 s.2.2.2.1 s.2.2.2.2.1 s.2.2.2.2.2.1 s.2.2.2.2.2.2.1 s.2.2.2.2.2.2.2.1 s.2.2.2.2.2.2.2.2.1 s.2.2.2.2.2.2.2.2.2.1 s.2.2.2.2.2.2.2.2.2.2) (fun s => I s.1 s.2.1 s.2.2.1 s.2.2.2.1 s.2.2.2.2.1 s.2.2.2.2.2.1 s.2.2.2.2.2.2.1 s.2.2.2.2.2.2.2.1 s.2.2.2.2.2.2.2.2.1 s.2.2.2.2.2.2.2.2.2.1 s.2.2.2.2.2.2.2.2.2.2) (fun s => μ s.1 s.2.1 s.2.2.1 s.2.2.2.1 s.2.2.2.2.1 s.2.2.2.2.2.1 s.2.2.2.2.2.2.1 s.2.2.2.2.2.2.2.1 s.2.2.2.2.2.2.2.2.1 s.2.2.2.2.2.2.2.2.2.1 s.2.2.2.2.2.2.2.2.2.2) (fun n s hI hk => hs n s.1 s.2.1 s.2.2.1 s.2.2.2.1 s.2.2.2.2.1 s.2.2.2.2.2.1 s.2.2.2.2.2.2.1 s.2.2.2.2.2.2.2.1 s.2.2.2.2.2.2.2.2.1 s.2.2.2.2.2.2.2.2.2.1 s.2.2.2.2.2.2.2.2.2.2 hI (fun b1 b2 b3 b4 b5 b6 b7 b8 b9 b10 b11 h9 hm => hk (b1, b2, b3, b4, b5, b6, b7, b8, b9, b10, b11) h9 hm)) (a1, a2, a3, a4, a5, a6, a7, a8, a9, a10, a11) h
theorem lp12 {A1 A2 A3 A4 A5 A6 A7 A8 A9 A10 A11 A12 : Type} (W : Nat → A1 → A2 → A3 → A4 → A5 → A6 → A7 → A8 → A9 → A10 → A11 → A12 → Prop) (I : A1 → A2 → A3 → A4 → A5 → A6 → A7 → A8 → A9 → A10 → A11 → A12 → Prop) (μ : A1 → A2 → A3 → A4 → A5 → A6 → A7 → A8 → A9 → A10 → A11 → A12 → Nat) (hs : ∀ (n : Nat) (a1 : A1) (a2 : A2) (a3 : A3) (a4 : A4) (a5 : A5) (a6 : A6) (a7 : A7) (a8 : A8) (a9 : A9) (a10 : A10) (a11 : A11) (a12 : A12), I a1 a2 a3 a4 a5 a6 a7 a8 a9 a10 a11 a12 → (∀ (b1 : A1) (b2 : A2) (b3 : A3) (b4 : A4) (b5 : A5) (b6 : A6) (b7 : A7) (b8 : A8) (b9 : A9) (b10 : A10) (b11 : A11) (b12 : A12), I b1 b2 b3 b4 b5 b6 b7 b8 b9 b10 b11 b12 → μ b1 b2 b3 b4 b5 b6 b7 b8 b9 b10 b11 b12 < μ a1 a2 a3 a4 a5 a6 a7 a8 a9 a10 a11 a12 → W n b1 b2 b3 b4 b5 b6 b7 b8 b9 b10 b11 b12) → W (n + 1) a1 a2 a3 a4 a5 a6 a7 a8 a9 a10 a11 a12) (a1 : A1) (a2 : A2) (a3 : A3) (a4 : A4) (a5 : A5) (a6 : A6) (a7 : A7) (a8 : A8) (a9 : A9) (a10 : A10) (a11 : A11) (a12 : A12) (h : I a1 a2 a3 a4 a5 a6 a7 a8 a9 a10 a11 a12) : ∃ n, W n a1 a2 a3 a4 a5 a6 a7 a8 a9 a10 a11 a12 :=
  loop_m (σ := A1 × A2 × A3 × A4 × A5 × A6 × A7 × A8 × A9 × A10 × A11 × A12) (fun n s => W n s.1 s.2.1 s.2.2.1 s.2.2.2.1 s.2.2.2.2.1 s.2.2.2.2.2.1 s.2.2.2.2.2.2.1 s.2.2.2.2.2.2.2.1 s.2.2.2.2.2.2.2.2.1 s.2.2.2.2.2.2.2.2.2.1 s.2.2.2.2.2.2.2.2.2.2.1 s.2.2.2.2.2.2.2.2.2.2.2) (fun s => I s.1 s.2.1 s.2.2.1 s.2.2.2.1 s.2.2.2.2.1 s.2.2.2.2.2.1 s.2.2.2.2.2.2.1 s.2.2.2.2.2.2.2.1 s.2.2.2.2.2.2.2.2.1 s.2.2.2.2.2.2.2.2.2.1 s.2.2.2.2.2.2.2.2.2.2.1 s.2.2.2.2.2.2.2.2.2.2.2) (fun s => μ s.1 s.2.1 s.2.2.1 s.2.2.2.1 s.2.2.2.2.1 s.2.2.2.2.2.1 s.2.2.2.2.2.2.1 s.2.2.2.2.2.2.2.1 s.2.2.2.2.2.2.2.2.1 s.2.2.2.2.2.2.2.2.2.1 s.2.2.2.2.2.2.2.2.2.2.1 s.2.2.2.2.2.2.2.2.2.2.2) (fun n s hI hk => hs n s.1 s.2.1 s.2.2.1 s.2.2.2.1 s.2.2.2.2.1 s.2.2.2.2.2.1 s.2.2.2.2.2.2.1 s.2.2.2.2.2.2.2.1 s.2.2.2.2.2.2.2.2.1 s.2.2.2.2.2.2.2.2.2.1 s.2.2.2.2.2.2.2.2.2.2.1 s.2.2.2.2.2.2.2.2.2.2.2 hI (fun b1 b2 b3 b4 b5 b6 b7 b8 b9 b10 b11 b12 h9 hm => hk (b1, b2, b3, b4, b5, b6, b7, b8, b9, b10, b11, b12) h9 hm)) (a1, a2, a3, a4, a5, a6, a7, a8, a9, a10, a11, a12) h
theorem lp13 {A1 A2 A3 A4 A5 A6 A7 A8 A9 A10 A11 A12 A13 : Type} (W : Nat → A1 → A2 → A3 → A4 → A5 → A6 → A7 → A8 → A9 → A10 → A11 → A12 → A13 → Prop) (I : A1 → A2 → A3 → A4 → A5 → A6 → A7 → A8 → A9 → A10 → A11 → A12 → A13 → Prop) (μ : A1 → A2 → A3 → A4 → A5 → A6 → A7 → A8 → A9 → A10 → A11 → A12 → A13 → Nat) (hs : ∀ (n : Nat) (a1 : A1) (a2 : A2) (a3 : A3) (a4 : A4) (a5 : A5) (a6 : A6) (a7 : A7) (a8 : A8) (a9 : A9) (a10 : A10) (a11 : A11) (a12 : A12) (a13 : A13), I a1 a2 a3 a4 a5 a6 a7 a8 a9 a10 a11 a12 a13 → (∀ (b1 : A1) (b2 : A2) (b3 : A3) (b4 : A4) (b5 : A5) (b6 : A6) (b7 : A7) (b8 : A8) (b9 : A9) (b10 : A10) (b11 : A11) (b12 : A12) (b13 : A13), I b1 b2 b3 b4 b5 b6 b7 b8 b9 b10 b11 b12 b13 → μ b1 b2 b3 b4 b5 b6 b7 b8 b9 b10 b11 b12 b13 < μ a1 a2 a3 a4 a5 a6 a7 a8 a9 a10 a11 a12 a13 → W n b1 b2 b3 b4 b5 b6 b7 b8 b9 b10 b11 b12 b13) → W (n + 1) a1 a2 a3 a4 a5 a6 a7 a8 a9 a10 a11 a12 a13) (a1 : A1) (a2 : A2) (a3 : A3) (a4 : A4) (a5 : A5) (a6 : A6) (a7 : A7) (a8 : A8) (a9 : A9) (a10 : A10) (a11 : A11) (a12 : A12) (a13 : A13) (h : I a1 a2 a3 a4 a5 a6 a7 a8 a9 a10 a11 a12 a13) : ∃ n, W n a1 a2 a3 a4 a5 a6 a7 a8 a9 a10 a11 a12 a13 :=
  loop_m (σ := A1 × A2 × A3 × A4 × A5 × A6 × A7 × A8 × A9 × A10 × A11 × A12 × A13) (fun n s => W n s.1 s.2.1 s.2.2.1 s.2.2.2.1 s.2.2.2.2.1 s.2.2.2.2.2.1 s.2.2.2.2.2.2.1 s.2.2.2.2.2.2.2.1 s.2.2.2.2.2.2.2.2.1 s.2.2.2.2.2.2.2.2.2.1 s.2.2.2.2.2.2.2.2.2.2.1 s.2.2.2.2.2.2.2.2.2.2.2.1 s.2.2.2.2.2.2.2.2.2.2.2.2) (fun s => I s.1 s.2.1 s.2.2.1 s.2.2.2.1 s.2.2.2.2.1 s.2.2.2.2.2.1 s.2.2.2.2.2.2.1 s.2.2.2.2.2.2.2.1 s.2.2.2.2.2.2.2.2.1 s.2.2.2.2.2.2.2.2.2.1 s.2.2.2.2.2.2.2.2.2.2.1 s.2.2.2.2.2.2.2.2.2.2.2.1 s.2.2.2.2.2.2.2.2.2.2.2.2) (fun s => μ s.1 s.2.1 s.2.2.1 s.2.2.2.1 s.2.2.2.2.1 s.2.2.2.2.2.1 s.2.2.2.2.2.2.1 s.2.2.2.2.2.2.2.1 s.2.2.2.2.2.2.2.2.1 s.2.2.2.2.2.2.2.2.2.1 s.2.2.2.2.2.2.2.2.2.2.1 s.2.2.2.2.2.2.2.2.2.2.2.1 s.2.2.2.2.2.2.2.2.2.2.2.2) (fun n s hI hk => hs n s.1 s.2.1 s.2.2.1 s.2.2.2.1 s.2.2.2.2.1 s.2.2.2.2.2.1 s.2.2.2.2.2.2.1 s.2.2.2.2.2.2.2.1 s.2.2.2.2.2.2.2.2.1 s.2.2.2.2.2.2.2.2.2.1 s.2.2.2.2.2.2.2.2.2.2.1 s.2.2.2.2.2.2.2.2.2.2.2.1 s.2.2.2.2.2.2.2.2.2.2.2.2 hI (fun b1 b2 b3 b4 b5 b6 b7 b8 b9 b10 b11 b12 b13 h9 hm => hk (b1, b2, b3, b4, b5, b6, b7, b8, b9, b10, b11, b12, b13) h9 hm)) (a1, a2, a3, a4, a5, a6, a7, a8, a9, a10, a11, a12, a13) h
theorem lp14 {A1 A2 A3 A4 A5 A6 A7 A8 A9 A10 A11 A12 A13 A14 : Type} (W : Nat → A1 → A2 → A3 → A4 → A5 → A6 → A7 → A8 → A9 → A10 → A11 → A12 → A13 → A14 → Prop) (I : A1 → A2 → A3 → A4 → A5 → A6 → A7 → A8 → A9 → A10 → A11 → A12 → A13 → A14 → Prop) (μ : A1 → A2 → A3 → A4 → A5 → A6 → A7 → A8 → A9 → A10 → A11 → A12 → A13 → A14 → Nat) (hs : ∀ (n : Nat) (a1 : A1) (a2 : A2) (a3 : A3) (a4 : A4) (a5 : A5) (a6 : A6) (a7 : A7) (a8 : A8) (a9 : A9) (a10 : A10) (a11 : A11) (a12 : A12) (a13 : A13) (a14 : A14), I a1 a2 a3 a4 a5 a6 a7 a8 a9 a10 a11 a12 a13 a14 → (∀ (b1 : A1) (b2 : A2) (b3 : A3) (b4 : A4) (b5 : A5) (b6 : A6) (b7 : A7) (b8 : A8) (b9 : A9) (b10 : A10) (b11 : A11) (b12 : A12) (b13 : A13) (b14 : A14), I b1 b2 b3 b4 b5 b6 b7 b8 b9 b10 b11 b12 b13 b14 → μ b1 b2 b3 b4 b5 b6 b7 b8 b9 b10 b11 b12 b13 b14 < μ a1 a2 a3 a4 a5 a6 a7 a8 a9 a10 a11 a12 a13 a14 → W n b1 b2 b3 b4 b5 b6 b7 b8 b9 b10 b11 b12 b13 b14) → W (n + 1) a1 a2 a3 a4 a5 a6 a7 a8 a9 a10 a11 a12 a13 a14) (a1 : A1) (a2 : A2) (a3 : A3) (a4 : A4) (a5 : A5) (a6 : A6) (a7 : A7) (a8 : A8) (a9 : A9) (a10 : A10) (a11 : A11) (a12 : A12) (a13 : A13) (a14 : A14) (h : I a1 a2 a3 a4 a5 a6 a7 a8 a9 a10 a11 a12 a13 a14) : ∃ n, W n a1 a2 a3 a4 a5 a6 a7 a8 a9 a10 a11 a12 a13 a14 :=
  loop_m (σ := A1 × A2 × A3 × A4 × A5 × A6 × A7 × A8 × A9 × A10 × A11 × A12 × A13 × A14) (fun n s => W n s.1 s.2.1 s.2.2.1 s.2.2.2.1 s.2.2.2.2.1 s.2.2.2.2.2.1 s.2.2.2.2.2.2.1 s.2.2.2.2.2.2.2.1 s.2.2.2.2.2.2.2.2.1 s.2.2.2.2.2.2.2.2.2.1 s.2.2.2.2.2.2.2.2.2.2.1 s.2.2.2.2.2.2.2.2.2.2.2.1 s.2.2.2.2.2.2.2.2.2.2.2.2.1 s.2.2.2.2.2.2.2.2.2.2.2.2.2) (fun s => I s.1 s.2.1 s.2.2.1 s.2.2.2.1 s.2.2.2.2.1 s.2.2.2.2.2.1 s.2.2.2.2.2.2.1 s.2.2.2.2.2.2.2.1 s.2.2.2.2.2.2.2.2.1 s.2.2.2.2.2.2.2.2.2.1 s.2.2.2.2.2.2.2.2.2.2.1 s.2.2.2.2.2.2.2.2.2.2.2.1 s.2.2.2.2.2.2.2.2.2.2.2.2.1 s.2.2.2.2.2.2.2.2.2.2.2.2.2) (fun s => μ s.1 s.2.1 s.2.2.1 s.2.2.2.1 s.2.2.2.2.1 s.2.2.2.2.2.1 s.2.2.2.2.2.2.1 s.2.2.2.2.2.2.2.1 s.2.2.2.2.2.2.2.2.1 s.2.2.2.2.2.2.2.2.2.1 s.2.2.2.2.2.2.2.2.2.2.1 s.2.2.2.2.2.2.2.2.2.2.2.1 s.2.2.2.2.2.2.2.2.2.2.2.2.1 s.2.2.2.2.2.2.2.2.2.2.2.2.2) (fun n s hI hk => hs n s.1 s.2.1 s.2.2.1 s.2.2.2.1 s.2.2.2.2.1 s.2.2.2.2.2.1 s.2.2.2.2.2.2.1 s.2.2.2.2.2.2.2.1 s.2.2.2.2.2.2.2.2.1 s.2.2.2.2.2.2.2.2.2.1 s.2.2.2.2.2.2.2.2.2.2.1 s.2.2.2.2.2.2.2.2.2.2.2.1 s.2.2.2.2.2.2.2.2.2.2.2.2.1 s.2.2.2.2.2.2.2.2.2.2.2.2.2 hI (fun b1 b2 b3 b4 b5 b6 b7 b8 b9 b10 b11 b12 b13 b14 h9 hm => hk (b1, b2, b3, b4, b5, b6, b7, b8, b9, b10, b11, b12, b13, b14) h9 hm)) (a1, a2, a3, a4, a5, a6, a7, a8, a9, a10, a11, a12, a13, a14) h
theorem lp15 {A1 A2 A3 A4 A5 A6 A7 A8 A9 A10 A11 A12 A13 A14 A15 : Type} (W : Nat → A1 → A2 → A3 → A4 → A5 → A6 → A7 → A8 → A9 → A10 → A11 → A12 → A13 → A14 → A15 → Prop) (I : A1 → A2 → A3 → A4 → A5 → A6 → A7 → A8 → A9 → A10 → A11 → A12 → A13 → A14 → A15 → Prop) (μ : A1 → A2 → A3 → A4 → A5 → A6 → A7 → A8 → A9 → A10 → A11 → A12 → A13 → A14 → A15 → Nat) (hs : ∀ (n : Nat) (a1 : A1) (a2 : A2) (a3 : A3) (a4 : A4) (a5 : A5) (a6 : A6) (a7 : A7) (a8 : A8) (a9 : A9) (a10 : A10) (a11 : A11) (a12 : A12) (a13 : A13) (a14 : A14) (a15 : A15), I a1 a2 a3 a4 a5 a6 a7 a8 a9 a10 a11 a12 a13 a14 a15 → (∀ (b1 : A1) (b2 : A2) (b3 : A3) (b4 : A4) (b5 : A5) (b6 : A6) (b7 : A7) (b8 : A8) (b9 : A9) (b10 : A10) (b11 : A11) (b12 : A12) (b13 : A13) (b14 : A14) (b15 : A15), I b1 b2 b3 b4 b5 b6 b7 b8 b9 b10 b11 b12 b13 b14 b15 → μ b1 b2 b3 b4 b5 b6 b7 b8 b9 b10 b11 b12 b13 b14 b15 < μ a1 a2 a3 a4 a5 a6 a7 a8 a9 a10 a11 a12 a13 a14 a15 → W n b1 b2 b3 b4 b5 b6 b7 b8 b9 b10 b11 b12 b13 b14 b15) → W (n + 1) a1 a2 a3 a4 a5 a6 a7 a8 a9 a10 a11 a12 a13 a14 a15) (a1 : A1) (a2 : A2) (a3 : A3) (a4 : A4) (a5 : A5) (a6 : A6) (a7 : A7) (a8 : A8) (a9 : A9) (a10 : A10) (a11 : A11) (a12 : A12) (a13 : A13) (a14 : A14) (a15 : A15) (h : I a1 a2 a3 a4 a5 a6 a7 a8 a9 a10 a11 a12 a13 a14 a15) : ∃ n, W n a1 a2 a3 a4 a5 a6 a7 a8 a9 a10 a11 a12 a13 a14 a15 :=
  loop_m (σ := A1 × A2 × A3 × A4 × A5 × A6 × A7 × A8 × A9 × A10 × A11 × A12 × A13 × A14 × A15) (fun n s => W n s.1 s.2.1 s.2.2.1 s.2.2.2.1 s.2.2.2.2.1 s.2.2.2.2.2.1 s.2.2.2.2.2.2.1 s.2.2.2.2.2.2.2.1 s.2.2.2.2.2.2.2.2.1 s.2.2.2.2.2.2.2.2.2.1 s.2.2.2.2.2.2.2.2.2.2.1 s.2.2.2.2.2.2.2.2.2.2.2.1 s.2.2.2.2.2.2.2.2.2.2.2.2.1 s.2.2.2.2.2.2.2.2.2.2.2.2.2.1 s.2.2.2.2.2.2.2.2.2.2.2.2.2.2) (fun s => I s.1 s.2.1 s.2.2.1 s.2.2.2.1 s.2.2.2.2.1 s.2.2.2.2.2.1 s.2.2.2.2.2.2.1 s.2.2.2.2.2.2.2.1 s.2.2.2.2.2.2.2.2.1 s.2.2.2.2.2.2.2.2.2.1 s.2.2.2.2.2.2.2.2.2.2.1 s.2.2.2.2.2.2.2.2.2.2.2.1 s.2.2.2.2.2.2.2.2.2.2.2.2.1 s.2.2.2.2.2.2.2.2.2.2.2.2.2.1 s.2.2.2.2.2.2.2.2.2.2.2.2.2.2) (fun s => μ s.1 s.2.1 s.2.2.1 s.2.2.2.1 s.2.2.2.2.1 s.2.2.2.2.2.1 s.2.2.2.2.2.2.1 s.2.2.2.2.2.2.2.1 s.2.2.2.2.2.2.2.2.1 s.2.2.2.2.2.2.2.2.2.1 s.2.2.2.2.2.2.2.2.2.2.1 s.2.2.2.2.2.2.2.2.2.2.2.1 s.2.2.2.2.2.2.2.2.2.2.2.2.1 s.2.2.2.2.2.2.2.2.2.2.2.2.2.1 s.2.2.2.2.2.2.2.2.2.2.2.2.2.2) (fun n s hI hk => hs n s.1 s.2.1 s.2.2.1 s.2.2.2.1 s.2.2.2.2.1 s.2.2.2.2.2.1 s.2.2.2.2.2.2.1 s.2.2.2.2.2.2.2.1 s.2.2.2.2.2.2.2.2.1 s.2.2.2.2.2.2.2.2.2.1 s.2.2.2.2.2.2.2.2.2.2.1 s.2.2.2.2.2.2.2.2.2.2.2.1 s.2.2.2.2.2.2.2.2.2.2.2.2.1 s.2.2.2.2.2.2.2.2.2.2.2.2.2.1 s.2.2.2.2.2.2.2.2.2.2.2.2.2.2 hI (fun b1 b2 b3 b4 b5 b6 b7 b8 b9 b10 b11 b12 b13 b14 b15 h9 hm => hk (b1, b2, b3, b4, b5, b6, b7, b8, b9, b10, b11, b12, b13, b14, b15) h9 hm)) (a1, a2, a3, a4, a5, a6, a7, a8, a9, a10, a11, a12, a13, a14, a15) h
theorem lp16 {A1 A2 A3 A4 A5 A6 A7 A8 A9 A10 A11 A12 A13 A14 A15 A16 : Type} (W : Nat → A1 → A2 → A3 → A4 → A5 → A6 → A7 → A8 → A9 → A10 → A11 → A12 → A13 → A14 → A15 → A16 → Prop) (I : A1 → A2 → A3 → A4 → A5 → A6 → A7 → A8 → A9 → A10 → A11 → A12 → A13 → A14 → A15 → A16 → Prop) (μ : A1 → A2 → A3 → A4 → A5 → A6 → A7 → A8 → A9 → A10 → A11 → A12 → A13 → A14 → A15 → A16 → Nat) (hs : ∀ (n : Nat) (a1 : A1) (a2 : A2) (a3 : A3) (a4 : A4) (a5 : A5) (a6 : A6) (a7 : A7) (a8 : A8) (a9 : A9) (a10 : A10) (a11 : A11) (a12 : A12) (a13 : A13) (a14 : A14) (a15 : A15) (a16 : A16), I a1 a2 a3 a4 a5 a6 a7 a8 a9 a10 a11 a12 a13 a14 a15 a16 → (∀ (b1 : A1) (b2 : A2) (b3 : A3) (b4 : A4) (b5 : A5) (b6 : A6) (b7 : A7) (b8 : A8) (b9 : A9) (b10 : A10) (b11 : A11) (b12 : A12) (b13 : A13) (b14 : A14) (b15 : A15) (b16 : A16), I b1 b2 b3 b4 b5 b6 b7 b8 b9 b10 b11 b12 b13 b14 b15 b16 → μ b1 b2 b3 b4 b5 b6 b7 b8 b9 b10 b11 b12 b13 b14 b15 b16 < μ a1 a2 a3 a4 a5 a6 a7 a8 a9 a10 a11 a12 a13 a14 a15 a16 → W n b1 b2 b3 b4 b5 b6 b7 b8 b9 b10 b11 b12 b13 b14 b15 b16) → W (n + 1) a1 a2 a3 a4 a5 a6 a7 a8 a9 a10 a11 a12 a13 a14 a15 a16) (a1 : A1) (a2 : A2) (a3 : A3) (a4 : A4) (a5 : A5) (a6 : A6) (a7 : A7) (a8 : A8) (a9 : A9) (a10 : A10) (a11 : A11) (a12 : A12) (a13 : A13) (a14 : A14) (a15 : A15) (a16 : A16) (h : I a1 a2 a3 a4 a5 a6 a7 a8 a9 a10 a11 a12 a13 a14 a15 a16) : ∃ n, W n a1 a2 a3 a4 a5 a6 a7 a8 a9 a10 a11 a12 a13 a14 a15 a16 :=
  loop_m (σ := A1 × A2 × A3 × A4 × A5 × A6 × A7 × A8 × A9 × A10 × A11 × A12 × A13 × A14 × A15 × A16) (fun n s => W n s.1 s.2.1 s.2.2.1 s.2.2.2.1 s.2.2.2.2.1 s.2.2.2.2.2.1 s.2.2.2.2.2.2.1 s.2.2.2.2.2.2.2.1 s.2.2.2.2.2.2.2.2.1 s.2.2.2.2.2.2.2.2.2.1 s.2.2.2.2.2.2.2.2.2.2.1 s.2.2.2.2.2.2.2.2.2.2.2.1 s.2.2.2.2.2.2.2.2.2.2.2.2.1 s.2.2.2.2.2.2.2.2.2.2.2.2.2.1 s.2.2.2.2.2.2.2.2.2.2.2.2.2.2.1 s.2.2.2.2.2.2.2.2.2.2.2.2.2.2.2) (fun s => I s.1 s.2.1 s.2.2.1 s.2.2.2.1 s.2.2.2.2.1 s.2.2.2.2.2.1 s.2.2.2.2.2.2.1 s.2.2.2.2.2.2.2.1 s.2.2.2.2.2.2.2.2.1 s.2.2.2.2.2.2.2.2.2.1 s.2.2.2.2.2.2.2.2.2.2.1 s.2.2.2.2.2.2.2.2.2.2.2.1 s.2.2.2.2.2.2.2.2.2.2.2.2.1 s.2.2.2.2.2.2.2.2.2.2.2.2.2.1 s.2.2.2.2.2.2.2.2.2.2.2.2.2.2.1 s.2.2.2.2.2.2.2.2.2.2.2.2.2.2.2) (fun s => μ s.1 s.2.1 s.2.2.1 s.2.2.2.1 s.2.2.2.2.1 s.2.2.2.2.2.1 s.2.2.2.2.2.2.1 s.2.2.2.2.2.2.2.1 s.2.2.2.2.2.2.2.2.1 s.2.2.2.2.2.2.2.2.2.1 s.2.2.2.2.2.2.2.2.2.2.1 s.2.2.2.2.2.2.2.2.2.2.2.1 s.2.2.2.2.2.2.2.2.2.2.2.2.1 s.2.2.2.2.2.2.2.2.2.2.2.2.2.1 s.2.2.2.2.2.2.2.2.2.2.2.2.2.2.1 s.2.2.2.2.2.2.2.2.2.2.2.2.2.2.2) (fun n s hI hk => hs n s.1 s.2.1 s.2.2.1 s.2.2.2.1 s.2.2.2.2.1 s.2.2.2.2.2.1 s.2.2.2.2.2.2.1 s.2.2.2.2.2.2.2.1 s.2.2.2.2.2.2.2.2.1 s.2.2.2.2.2.2.2.2.2.1 s.2.2.2.2.2.2.2.2.2.2.1 s.2.2.2.2.2.2.2.2.2.2.2.1 s.2.2.2.2.2.2.2.2.2.2.2.2.1 s.2.2.2.2.2.2.2.2.2.2.2.2.2.1 s.2.2.2.2.2.2.2.2.2.2.2.2.2.2.1 s.2.2.2.2.2.2.2.2.2.2.2.2.2.2.2 hI (fun b1 b2 b3 b4 b5 b6 b7 b8 b9 b10 b11 b12 b13 b14 b15 b16 h9 hm => hk (b1, b2, b3, b4, b5, b6, b7, b8, b9, b10, b11, b12, b13, b14, b15, b16) h9 hm)) (a1, a2, a3, a4, a5, a6, a7, a8, a9, a10, a11, a12, a13, a14, a15, a16) h
theorem pk_least (P : Nat → Prop) (h : ∃ k, P k) : ∃ k, P k ∧ ∀ j, j < k → ¬ P j := by
  obtain ⟨k, hk⟩ := h
  induction k using Nat.strongRecOn with
  | ind k ih =>
    by_cases e : ∃ j, j < k ∧ P j
    · obtain ⟨j, hj, pj⟩ := e
      exact ih j hj pj
    · exact ⟨k, hk, fun j hj pj => e ⟨j, hj, pj⟩⟩
theorem rp1 {ρ A1 : Type} (W : Nat → (ρ → Prop) → A1 → Prop) (ok : A1 → Prop) (μ : A1 → Nat) (val : A1 → ρ)
    (hs : ∀ (d : Nat) (post : ρ → Prop) (a1 : A1), ok a1 → post (val a1) → (∀ (post' : ρ → Prop) (b1 : A1), ok b1 → μ b1 < μ a1 → post' (val b1) → W d post' b1) → W (d + 1) post a1) :
    ∀ (d : Nat) (post : ρ → Prop) (a1 : A1), ok a1 → μ a1 < d → post (val a1) → W d post a1 := by
  intro d
  induction d with
  | zero => intro post a1 _ h; omega
  | succ d ih =>
    intro post a1 ho hm hp
    exact hs d post a1 ho hp (fun post' b1 ho' hm' hp' => ih post' b1 ho' (by omega) hp')
theorem rp2 {ρ A1 A2 : Type} (W : Nat → (ρ → Prop) → A1 → A2 → Prop) (ok : A1 → A2 → Prop) (μ : A1 → A2 → Nat) (val : A1 → A2 → ρ)
    (hs : ∀ (d : Nat) (post : ρ → Prop) (a1 : A1) (a2 : A2), ok a1 a2 → post (val a1 a2) → (∀ (post' : ρ → Prop) (b1 : A1) (b2 : A2), ok b1 b2 → μ b1 b2 < μ a1 a2 → post' (val b1 b2) → W d post' b1 b2) → W (d + 1) post a1 a2) :
    ∀ (d : Nat) (post : ρ → Prop) (a1 : A1) (a2 : A2), ok a1 a2 → μ a1 a2 < d → post (val a1 a2) → W d post a1 a2 := by
  intro d
  induction d with
  | zero => intro post a1 a2 _ h; omega
  | succ d ih =>
    intro post a1 a2 ho hm hp
    exact hs d post a1 a2 ho hp (fun post' b1 b2 ho' hm' hp' => ih post' b1 b2 ho' (by omega) hp')
theorem rp3 {ρ A1 A2 A3 : Type} (W : Nat → (ρ → Prop) → A1 → A2 → A3 → Prop) (ok : A1 → A2 → A3 → Prop) (μ : A1 → A2 → A3 → Nat) (val : A1 → A2 → A3 → ρ)
    (hs : ∀ (d : Nat) (post : ρ → Prop) (a1 : A1) (a2 : A2) (a3 : A3), ok a1 a2 a3 → post (val a1 a2 a3) → (∀ (post' : ρ → Prop) (b1 : A1) (b2 : A2) (b3 : A3), ok b1 b2 b3 → μ b1 b2 b3 < μ a1 a2 a3 → post' (val b1 b2 b3) → W d post' b1 b2 b3) → W (d + 1) post a1 a2 a3) :
    ∀ (d : Nat) (post : ρ → Prop) (a1 : A1) (a2 : A2) (a3 : A3), ok a1 a2 a3 → μ a1 a2 a3 < d → post (val a1 a2 a3) → W d post a1 a2 a3 := by
  intro d
  induction d with
  | zero => intro post a1 a2 a3 _ h; omega
  | succ d ih =>
    intro post a1 a2 a3 ho hm hp
    exact hs d post a1 a2 a3 ho hp (fun post' b1 b2 b3 ho' hm' hp' => ih post' b1 b2 b3 ho' (by omega) hp')
theorem rp4 {ρ A1 A2 A3 A4 : Type} (W : Nat → (ρ → Prop) → A1 → A2 → A3 → A4 → Prop) (ok : A1 → A2 → A3 → A4 → Prop) (μ : A1 → A2 → A3 → A4 → Nat) (val : A1 → A2 → A3 → A4 → ρ)
    (hs : ∀ (d : Nat) (post : ρ → Prop) (a1 : A1) (a2 : A2) (a3 : A3) (a4 : A4), ok a1 a2 a3 a4 → post (val a1 a2 a3 a4) → (∀ (post' : ρ → Prop) (b1 : A1) (b2 : A2) (b3 : A3) (b4 : A4), ok b1 b2 b3 b4 → μ b1 b2 b3 b4 < μ a1 a2 a3 a4 → post' (val b1 b2 b3 b4) → W d post' b1 b2 b3 b4) → W (d + 1) post a1 a2 a3 a4) :
    ∀ (d : Nat) (post : ρ → Prop) (a1 : A1) (a2 : A2) (a3 : A3) (a4 : A4), ok a1 a2 a3 a4 → μ a1 a2 a3 a4 < d → post (val a1 a2 a3 a4) → W d post a1 a2 a3 a4 := by
  intro d
  induction d with
  | zero => intro post a1 a2 a3 a4 _ h; omega
  | succ d ih =>
    intro post a1 a2 a3 a4 ho hm hp
    exact hs d post a1 a2 a3 a4 ho hp (fun post' b1 b2 b3 b4 ho' hm' hp' => ih post' b1 b2 b3 b4 ho' (by omega) hp')
theorem rp5 {ρ A1 A2 A3 A4 A5 : Type} (W : Nat → (ρ → Prop) → A1 → A2 → A3 → A4 → A5 → Prop) (ok : A1 → A2 → A3 → A4 → A5 → Prop) (μ : A1 → A2 → A3 → A4 → A5 → Nat) (val : A1 → A2 → A3 → A4 → A5 → ρ)
    (hs : ∀ (d : Nat) (post : ρ → Prop) (a1 : A1) (a2 : A2) (a3 : A3) (a4 : A4) (a5 : A5), ok a1 a2 a3 a4 a5 → post (val a1 a2 a3 a4 a5) → (∀ (post' : ρ → Prop) (b1 : A1) (b2 : A2) (b3 : A3) (b4 : A4) (b5 : A5), ok b1 b2 b3 b4 b5 → μ b1 b2 b3 b4 b5 < μ a1 a2 a3 a4 a5 → post' (val b1 b2 b3 b4 b5) → W d post' b1 b2 b3 b4 b5) → W (d + 1) post a1 a2 a3 a4 a5) :
    ∀ (d : Nat) (post : ρ → Prop) (a1 : A1) (a2 : A2) (a3 : A3) (a4 : A4) (a5 : A5), ok a1 a2 a3 a4 a5 → μ a1 a2 a3 a4 a5 < d → post (val a1 a2 a3 a4 a5) → W d post a1 a2 a3 a4 a5 := by
  intro d
  induction d with
  | zero => intro post a1 a2 a3 a4 a5 _ h; omega
  | succ d ih =>
    intro post a1 a2 a3 a4 a5 ho hm hp
    exact hs d post a1 a2 a3 a4 a5 ho hp (fun post' b1 b2 b3 b4 b5 ho' hm' hp' => ih post' b1 b2 b3 b4 b5 ho' (by omega) hp')
theorem rp6 {ρ A1 A2 A3 A4 A5 A6 : Type} (W : Nat → (ρ → Prop) → A1 → A2 → A3 → A4 → A5 → A6 → Prop) (ok : A1 → A2 → A3 → A4 → A5 → A6 → Prop) (μ : A1 → A2 → A3 → A4 → A5 → A6 → Nat) (val : A1 → A2 → A3 → A4 → A5 → A6 → ρ)
    (hs : ∀ (d : Nat) (post : ρ → Prop) (a1 : A1) (a2 : A2) (a3 : A3) (a4 : A4) (a5 : A5) (a6 : A6), ok a1 a2 a3 a4 a5 a6 → post (val a1 a2 a3 a4 a5 a6) → (∀ (post' : ρ → Prop) (b1 : A1) (b2 : A2) (b3 : A3) (b4 : A4) (b5 : A5) (b6 : A6), ok b1 b2 b3 b4 b5 b6 → μ b1 b2 b3 b4 b5 b6 < μ a1 a2 a3 a4 a5 a6 → post' (val b1 b2 b3 b4 b5 b6) → W d post' b1 b2 b3 b4 b5 b6) → W (d + 1) post a1 a2 a3 a4 a5 a6) :
    ∀ (d : Nat) (post : ρ → Prop) (a1 : A1) (a2 : A2) (a3 : A3) (a4 : A4) (a5 : A5) (a6 : A6), ok a1 a2 a3 a4 a5 a6 → μ a1 a2 a3 a4 a5 a6 < d → post (val a1 a2 a3 a4 a5 a6) → W d post a1 a2 a3 a4 a5 a6 := by
  intro d
  induction d with
  | zero => intro post a1 a2 a3 a4 a5 a6 _ h; omega
  | succ d ih =>
    intro post a1 a2 a3 a4 a5 a6 ho hm hp
    exact hs d post a1 a2 a3 a4 a5 a6 ho hp (fun post' b1 b2 b3 b4 b5 b6 ho' hm' hp' => ih post' b1 b2 b3 b4 b5 b6 ho' (by omega) hp')
theorem rec_p {σ ρ : Type} (W : Nat → (ρ → Prop) → σ → Prop) (ok : σ → Prop) (μ : σ → Nat) (val : σ → ρ)
    (hs : ∀ d s post, ok s → post (val s) → (∀ s' post', ok s' → μ s' < μ s → post' (val s') → W d post' s') → W (d + 1) post s) :
    ∀ d s post, ok s → μ s < d → post (val s) → W d post s := by
  intro d
  induction d with
  | zero => intro s post _ h; omega
  | succ d ih =>
    intro s post ho hm hp
    exact hs d s post ho hp (fun s' post' ho' hm' hp' => ih s' post' ho' (by omega) hp')
theorem rec_q {σ ρ : Type} (W : Nat → (ρ → Prop) → σ → Prop) (ok : σ → Prop) (μ : σ → Nat) (Q : σ → ρ → Prop)
    (hs : ∀ d s post, ok s → (∀ r, Q s r → post r) → (∀ s' post', ok s' → μ s' < μ s → (∀ r, Q s' r → post' r) → W d post' s') → W (d + 1) post s) :
    ∀ d s post, ok s → μ s < d → (∀ r, Q s r → post r) → W d post s := by
  intro d
  induction d with
  | zero => intro s post _ h; omega
  | succ d ih =>
    intro s post ho hm hp
    exact hs d s post ho hp (fun s' post' ho' hm' hp' => ih s' post' ho' (by omega) hp')
def bx_sum (f : Nat → Int32) : Nat → Int32
  | 0 => 0
  | n + 1 => bx_sum f n + f n
theorem ek_u {A : Prop} {B : Nat → Prop} {k N : Nat} (hk : k < N) (h : B k) : (some k = none → A) ∧ (∀ y : Nat, some k = some y → (y < N ∧ B y)) :=
  ⟨fun z => absurd z (Option.some_ne_none k), fun _ e => (by cases e; exact ⟨hk, h⟩)⟩
theorem ek_nu {A : Prop} {B : Nat → Prop} (h : A) : ((none : Option Nat) = none → A) ∧ (∀ y : Nat, (none : Option Nat) = some y → B y) :=
  ⟨fun _ => h, fun _ e => (by cases e)⟩
theorem ek_if {c d A B : Prop} (e : c ↔ d) (f : d → A) (g : ¬ d → B) : (c → A) ∧ (¬ c → B) :=
  ⟨fun z => f (e.mp z), fun z => g (fun y => z (e.mpr y))⟩
theorem ek_v {α : Sort _} {P : α → Prop} {a b : α} (e : a = b) (h : P b) : P a := e ▸ h
theorem co_some {x : Option Nat} {A : Prop} {B : Nat → Prop} (i : Nat) (h : B i) (hx : x = some i := by rfl) : (x = none → A) ∧ (∀ y : Nat, x = some y → B y) := by
  subst hx
  exact ⟨fun e => (nomatch e), fun y e => Option.some.inj e ▸ h⟩
theorem co_none {x : Option Nat} {A : Prop} {B : Nat → Prop} (h : A) (hx : x = none := by rfl) : (x = none → A) ∧ (∀ y : Nat, x = some y → B y) := by
  subst hx
  exact ⟨fun _ => h, fun y e => (nomatch e)⟩
theorem co_any {x : Option Nat} {A : Prop} {B : Nat → Prop} (hn : x = none → A) (hs : ∀ i : Nat, x = some i → B i) : (x = none → A) ∧ (∀ y : Nat, x = some y → B y) := ⟨hn, hs⟩
theorem co_2 {P : Nat → Prop} (h0 : P 0) (h1 : P 1) {i : Nat} (hi : i < 2) : P i :=
  match i, hi with
  | 0, _ => h0
  | 1, _ => h1
theorem co_3 {P : Nat → Prop} (h0 : P 0) (h1 : P 1) (h2 : P 2) {i : Nat} (hi : i < 3) : P i :=
  match i, hi with
  | 0, _ => h0
  | 1, _ => h1
  | 2, _ => h2
theorem co_4 {P : Nat → Prop} (h0 : P 0) (h1 : P 1) (h2 : P 2) (h3 : P 3) {i : Nat} (hi : i < 4) : P i :=
  match i, hi with
  | 0, _ => h0
  | 1, _ => h1
  | 2, _ => h2
  | 3, _ => h3
theorem co_dec {N : Nat} {P : Nat → Prop} [DecidablePred P] (h : (List.range N).all (fun i => decide (P i)) = true) {i : Nat} (hi : i < N) : P i := by
  have := List.all_eq_true.mp h i (List.mem_range.mpr hi)
  exact of_decide_eq_true this
theorem co_tab {α : Type} {l : List α} {d : α} {P : α → Prop} (h : ∀ a, a ∈ l → P a) {i : Nat} (hi : i < l.length) : P (l.getD i d) := by
  rw [List.getD_eq_getElem?_getD, List.getElem?_eq_getElem hi]
  exact h _ (List.getElem_mem hi)
theorem pk_mu {x : Int32} {L : Nat} (h0 : ¬ x < 0) (h : ¬ nI L ≤ x) (hL : L < 2 ^ 31) : ∃ j : Nat, j < L ∧ x = nI j ∧ x + 1 = nI (j + 1) ∧ x.toNatClampNeg = j ∧ L - (x + 1).toNatClampNeg < L - x.toNatClampNeg := by
  obtain ⟨j, hj, rfl⟩ := nI_of h0
  have hl : j < L := Nat.not_le.mp fun q => h (nI_le q hj)
  refine ⟨j, hl, rfl, nI_1 j, nI_clamp hj, ?_⟩
  rw [nI_1, nI_clamp (by omega), nI_clamp hj]
  omega
theorem op_s {α : Type} {r : Option α} {A : Prop} {B : α → Prop} {y : α} (h : r = some y) (b : B y) : (r = none → A) ∧ ∀ z, r = some z → B z :=
  ⟨fun e => (by rw [h] at e; cases e), fun z e => (by rw [h] at e; cases e; exact b)⟩
def l_holds {α : Type} (a : Nat → Option Nat) (LP : List Nat) (p : Nat → α) (c : Nat) (b : Nat → α) : Prop :=
  ∀ j, j < c → ∃ y, a j = some y ∧ y ∈ LP ∧ p y = b j
theorem l_holds_0 {α : Type} {a : Nat → Option Nat} {LP : List Nat} {p b : Nat → α} : l_holds a LP p 0 b := fun j h => absurd h (Nat.not_lt_zero j)
theorem l_in_new (LP : List Nat) (q : Nat) : q ∈ LP ++ [q] := List.mem_append.mpr (Or.inr (List.mem_singleton.mpr rfl))
def l_sum (b : Nat → Int32) : Nat → Int32
  | 0 => 0
  | k + 1 => l_sum b k + b k
theorem sb_shr0 (x : Int32) : x >>> ((0 : Int32) &&& 31) = x := by
  rw [show ((0 : Int32) &&& 31) = 0 by decide]
  simp
theorem sb_shl0 (x : Int32) : x <<< ((0 : Int32) &&& 31) = x := by
  rw [show ((0 : Int32) &&& 31) = 0 by decide]
  simp
theorem sb_cl0 : (0 : Int32).toNatClampNeg = 0 := by decide
theorem sb_m1 {p : Nat} (h : 0 < p) : nI p + (-1) = nI (p - 1) := by
  obtain ⟨q, rfl⟩ : ∃ q, p = q + 1 := ⟨p - 1, by omega⟩
  exact pk_m1 q
def sb_b (c : Nat) : Int32 := (nI c).toInt8.toInt32
theorem sb_byte : ∀ c, c < 256 → sb_b c &&& 255 = nI c ∧ ((nI c).toUInt32 % 65536).toInt32 = nI c ∧ nI c ≤ 255 := by decide +kernel
def sb_Fit (a : Nat → Int32) : Prop := ∀ j, fits .byte (.int (a j)) = true
def sb_Lat (t : Nat → Nat) (n : Nat) (a : Nat → Int32) : Prop := ∀ j, j < n → t j < 256 ∧ a j = sb_b (t j)
theorem sb_fitB (c : Nat) : fits .byte (.int (sb_b c)) = true := pk_fb _
theorem sb_fit0 : sb_Fit (fun _ => 0) := fun _ => by
  show fits .byte (.int 0) = true
  decide
theorem sb_fitU {a : Nat → Int32} {k : Nat} {x : Int32} (h : sb_Fit a) (hx : fits .byte (.int x) = true) : sb_Fit (upd a k x) := by
  intro j
  by_cases e : j = k
  · subst e
    rw [pk_us]
    exact hx
  · rw [pk_un e]
    exact h j
def sb_cat (t : Nat → Nat) (n : Nat) (s : Nat → Nat) : Nat → Nat := fun j => if j < n then t j else s (j - n)
theorem sb_cat_lo {t s : Nat → Nat} {n j : Nat} (h : j < n) : sb_cat t n s j = t j := if_pos h
theorem sb_cat_hi {t s : Nat → Nat} {n j : Nat} : sb_cat t n s (n + j) = s j := by
  show (if n + j < n then t (n + j) else s (n + j - n)) = s j
  rw [if_neg (by omega), Nat.add_sub_cancel_left]
theorem sb_latPut {t s : Nat → Nat} {n w : Nat} {a a' : Nat → Int32} (h : sb_Lat t n a) (hk : ∀ j, j < n → a' j = a j) (hs : ∀ i, i < w → s i < 256 ∧ a' (n + i) = sb_b (s i)) : sb_Lat (sb_cat t n s) (n + w) a' := by
  intro j hj
  by_cases e : j < n
  · rw [sb_cat_lo e, hk j e]
    exact h j e
  · obtain ⟨i, rfl⟩ : ∃ i, j = n + i := ⟨j - n, by omega⟩
    rw [sb_cat_hi]
    exact hs i (by omega)
theorem sb_latKeep {t : Nat → Nat} {n : Nat} {a a' : Nat → Int32} (h : sb_Lat t n a) (hk : ∀ j, j < n → a' j = a j) : sb_Lat t n a' := fun j hj => by
  rw [hk j hj]
  exact h j hj
def sb_cap (q m : Nat) : Nat := if q ≤ m then m else if 2 * m + 2 < q then q else 2 * m + 2
def sb_Room (q m mc ms : Nat) : Prop := q ≤ m ∨ (1 ≤ mc ∧ sb_cap q m ≤ ms ∧ sb_cap q m ≤ 65536)
theorem sb_cap_ge (q m : Nat) : q ≤ sb_cap q m := by
  unfold sb_cap
  split
  · omega
  · split <;> omega
theorem sb_cap_gem (q m : Nat) : m ≤ sb_cap q m := by
  unfold sb_cap
  split
  · omega
  · split <;> omega
theorem sb_cap_le {q m mc ms : Nat} (hm : m ≤ 65536) (hr : sb_Room q m mc ms) : sb_cap q m ≤ 65536 := by
  rcases hr with h | h
  · rw [sb_cap, if_pos h]
    exact hm
  · exact h.2.2
theorem sb_at {P : Int32 → Prop} {x y : Int32} (e : x = y) (h : P y) : P x := e ▸ h
def sb_dg (w : Nat) : Nat := if w < 10 then 1 else if w < 100 then 2 else if w < 1000 then 3 else if w < 10000 then 4 else if w < 100000 then 5 else if w < 1000000 then 6 else if w < 10000000 then 7 else if w < 100000000 then 8 else if w < 1000000000 then 9 else 10
def sb_dec (v : Nat) : Nat → Nat := fun i => 48 + v / 10 ^ (sb_dg v - 1 - i) % 10
theorem sb_dg_in (w : Nat) : 1 ≤ sb_dg w ∧ sb_dg w ≤ 10 := by
  unfold sb_dg
  constructor <;> (repeat' split) <;> omega
theorem sb_dg100 {w : Nat} (h : 100 ≤ w) (hw : w < 2 ^ 31) : sb_dg w = sb_dg (w / 100) + 2 := by
  rw [sb_dg, sb_dg, if_neg (show ¬ w < 10 by omega), if_neg (show ¬ w < 100 by omega)]
  by_cases h3 : w < 1000
  · rw [if_pos h3, if_pos (show w / 100 < 10 by omega)]
  rw [if_neg h3, if_neg (show ¬ w / 100 < 10 by omega)]
  by_cases h4 : w < 10000
  · rw [if_pos h4, if_pos (show w / 100 < 100 by omega)]
  rw [if_neg h4, if_neg (show ¬ w / 100 < 100 by omega)]
  by_cases h5 : w < 100000
  · rw [if_pos h5, if_pos (show w / 100 < 1000 by omega)]
  rw [if_neg h5, if_neg (show ¬ w / 100 < 1000 by omega)]
  by_cases h6 : w < 1000000
  · rw [if_pos h6, if_pos (show w / 100 < 10000 by omega)]
  rw [if_neg h6, if_neg (show ¬ w / 100 < 10000 by omega)]
  by_cases h7 : w < 10000000
  · rw [if_pos h7, if_pos (show w / 100 < 100000 by omega)]
  rw [if_neg h7, if_neg (show ¬ w / 100 < 100000 by omega)]
  by_cases h8 : w < 100000000
  · rw [if_pos h8, if_pos (show w / 100 < 1000000 by omega)]
  rw [if_neg h8, if_neg (show ¬ w / 100 < 1000000 by omega)]
  by_cases h9 : w < 1000000000
  · rw [if_pos h9, if_pos (show w / 100 < 10000000 by omega)]
  rw [if_neg h9, if_neg (show ¬ w / 100 < 10000000 by omega)]
  rw [if_pos (show w / 100 < 100000000 by omega)]
theorem sb_negT {w : Nat} (h : w < 2 ^ 31) : (-nI w).toInt = -(w : Int) := by
  rw [Int32.toInt_neg, nI_toInt h]
  exact Int.bmod_eq_of_le (by omega) (by omega)
theorem sb_nle {a b : Nat} (ha : a < 2 ^ 31) (hb : b < 2 ^ 31) : -nI a ≤ -nI b ↔ b ≤ a := by
  rw [Int32.le_iff_toInt_le, sb_negT ha, sb_negT hb]
  omega
theorem sb_nlt {a b : Nat} (ha : a < 2 ^ 31) (hb : b < 2 ^ 31) : -nI a < -nI b ↔ b < a := by
  rw [Int32.lt_iff_toInt_lt, sb_negT ha, sb_negT hb]
  omega
theorem sb_cmp {A B : Prop} {x : Int32} (v c : Nat) (f : c ≤ v → A) (g : v < c → B) (hv : v < 2 ^ 31) (hx : x = -nI c := by rfl) (hc : c < 2 ^ 31 := by omega) : (-nI v ≤ x → A) ∧ (¬ -nI v ≤ x → B) := by
  subst hx
  rw [sb_nle hv hc]
  exact ⟨f, fun z => g (by omega)⟩
theorem sb_ndiv {w : Nat} (hw : w < 2 ^ 31) : (-nI w) / 100 = -nI (w / 100) := by
  apply Int32.toInt_inj.mp
  have h100 : (100 : Int32).toInt = 100 := by decide
  rw [Int32.toInt_div, sb_negT hw, h100, sb_negT (by omega), Int.neg_tdiv, Int.tdiv_eq_ediv_of_nonneg (by omega), Int.bmod_eq_of_le (by omega) (by omega)]
  omega
theorem sb_nrem {w : Nat} (hw : w < 2 ^ 31) : (-nI (w / 100)) * 100 - (-nI w) = nI (w % 100) := by
  have h := pk_rem (a := w) (d := 100) hw (by decide) (by decide)
  rw [pk_div hw (by decide) (by decide)] at h
  rw [← h]
  show (-nI (w / 100)) * nI 100 - (-nI w) = nI w - nI (w / 100) * nI 100
  rw [Int32.neg_mul, Int32.sub_neg, Int32.add_comm, ← Int32.sub_eq_add_neg]
end
section
/-! residues modulo q + 1, as elements of Fin (q + 1) -/
def ra_pr (q : Nat) : Prop := q = 4 ∨ q = 12 ∨ q = 250 ∨ q = 32748
def ra_Cn (q : Nat) (x : Int32) : Prop := 0 ≤ x.toInt ∧ x.toInt < (q : Int) + 1
theorem ra_z_lt (q : Nat) (z : Int) : (z % ((q + 1 : Nat) : Int)).toNat < q + 1 := by
  have h1 := Int.emod_nonneg z (b := ((q + 1 : Nat) : Int)) (by omega)
  have h2 := Int.emod_lt_of_pos z (b := ((q + 1 : Nat) : Int)) (by omega)
  omega
def ra_z (q : Nat) (z : Int) : Fin (q + 1) := ⟨(z % ((q + 1 : Nat) : Int)).toNat, ra_z_lt q z⟩
theorem ra_z_val (q : Nat) (z : Int) : ((ra_z q z).val : Int) = z % ((q + 1 : Nat) : Int) := by
  have h1 := Int.emod_nonneg z (b := ((q + 1 : Nat) : Int)) (by omega)
  show ((z % ((q + 1 : Nat) : Int)).toNat : Int) = _
  exact Int.toNat_of_nonneg h1
theorem ra_z_ext {q : Nat} {a b : Fin (q + 1)} (h : (a.val : Int) = (b.val : Int)) : a = b := Fin.ext (by omega)
theorem ra_z_eq {q : Nat} {a b : Int} (h : a % ((q + 1 : Nat) : Int) = b % ((q + 1 : Nat) : Int)) : ra_z q a = ra_z q b := by
  apply ra_z_ext; rw [ra_z_val, ra_z_val, h]
theorem ra_z_add (q : Nat) (a b : Int) : ra_z q (a + b) = ra_z q a + ra_z q b := by
  apply ra_z_ext
  rw [Fin.val_add, Int.natCast_emod, Int.natCast_add, ra_z_val, ra_z_val, ra_z_val, ← Int.add_emod]
theorem ra_z_mul (q : Nat) (a b : Int) : ra_z q (a * b) = ra_z q a * ra_z q b := by
  apply ra_z_ext
  rw [Fin.val_mul, Int.natCast_emod, Int.natCast_mul, ra_z_val, ra_z_val, ra_z_val, ← Int.mul_emod]
theorem ra_z_0 (q : Nat) : ra_z q 0 = 0 := by
  apply ra_z_ext; rw [ra_z_val, Int.zero_emod]; rfl
theorem ra_z_1 (q : Nat) : ra_z q 1 = 1 := by
  apply ra_z_ext
  rw [ra_z_val]
  show (1 : Int) % ((q + 1 : Nat) : Int) = ((1 % (q + 1) : Nat) : Int)
  rw [Int.natCast_emod]; rfl
theorem ra_z_p (q : Nat) : ra_z q ((q + 1 : Nat) : Int) = 0 := by
  rw [← ra_z_0]; apply ra_z_eq; rw [Int.emod_self, Int.zero_emod]
theorem ra_z_sub (q : Nat) (a b : Int) : ra_z q (a - b) = ra_z q a - ra_z q b := by
  have h := ra_z_add q (a - b) b
  rw [Int.sub_add_cancel] at h
  grind
theorem ra_z_neg (q : Nat) (a : Int) : ra_z q (-a) = - ra_z q a := by
  have h := ra_z_add q (-a) a
  rw [Int.add_left_neg, ra_z_0] at h
  grind
theorem ra_z_tmod (q : Nat) (a : Int) : ra_z q (a.tmod ((q + 1 : Nat) : Int)) = ra_z q a := by
  rw [Int.tmod_def, ra_z_sub, ra_z_mul, ra_z_p]
  grind
def ra_f (q : Nat) (x : Int32) : Fin (q + 1) := ra_z q x.toInt
theorem ra_inj {q : Nat} {x y : Int32} (hx : ra_Cn q x) (hy : ra_Cn q y) (h : ra_f q x = ra_f q y) : x = y := by
  have e := congrArg (fun a : Fin (q + 1) => (a.val : Int)) h
  have e1 : ((ra_z q x.toInt).val : Int) = ((ra_z q y.toInt).val : Int) := e
  rw [ra_z_val, ra_z_val, Int.emod_eq_of_lt hx.1 (by have := hx.2; omega), Int.emod_eq_of_lt hy.1 (by have := hy.2; omega)] at e1
  exact Int32.toInt_inj.mp e1
theorem ra_tadd {a b : Int32} (h1 : -2147483648 ≤ a.toInt + b.toInt) (h2 : a.toInt + b.toInt < 2147483648) : (a + b).toInt = a.toInt + b.toInt := by
  rw [Int32.toInt_add]; exact Int.bmod_eq_of_le (by omega) (by omega)
theorem ra_tsub {a b : Int32} (h1 : -2147483648 ≤ a.toInt - b.toInt) (h2 : a.toInt - b.toInt < 2147483648) : (a - b).toInt = a.toInt - b.toInt := by
  rw [Int32.toInt_sub]; exact Int.bmod_eq_of_le (by omega) (by omega)
theorem ra_tmul {a b : Int32} (h1 : -2147483648 ≤ a.toInt * b.toInt) (h2 : a.toInt * b.toInt < 2147483648) : (a * b).toInt = a.toInt * b.toInt := by
  rw [Int32.toInt_mul]; exact Int.bmod_eq_of_le (by omega) (by omega)
theorem ra_tneg {a : Int32} (h1 : -2147483648 < a.toInt) : (-a).toInt = -a.toInt := by
  have h2 := a.toInt_lt
  rw [Int32.toInt_neg]; exact Int.bmod_eq_of_le (by omega) (by omega)
theorem ra_mb {x y : Int} (hx : 0 ≤ x) (hx2 : x ≤ 32748) (hy : 0 ≤ y) (hy2 : y ≤ 32748) : 0 ≤ x * y ∧ x * y ≤ 1072431504 :=
  ⟨Int.mul_nonneg hx hy, by have h := Int.mul_le_mul hx2 hy2 hy (by omega); omega⟩
theorem ra_mbs {x y : Int} (hx : -32748 ≤ x) (hx2 : x ≤ 32748) (hy : 0 ≤ y) (hy2 : y ≤ 32748) : -1072431504 ≤ x * y ∧ x * y ≤ 1072431504 := by
  rcases Int.le_total 0 x with h | h
  · have := ra_mb h hx2 hy hy2; omega
  · have := ra_mb (x := -x) (by omega) (by omega) hy hy2
    rw [Int.neg_mul] at this; omega
theorem ra_pt {q : Nat} (hq : q < 32749) : (nI (q + 1)).toInt = (q : Int) + 1 := by
  rw [nI_toInt (by omega)]; omega
theorem ra_ptn {q : Nat} (hq : q < 32749) : (nI (q + 1)).toInt = ((q + 1 : Nat) : Int) := nI_toInt (by omega)
/-- the remainder keeps the class -/
theorem ra_f_rem {q : Nat} (hq : q < 32749) (x : Int32) : ra_f q (x - x / nI (q + 1) * nI (q + 1)) = ra_f q x := by
  unfold ra_f; rw [rem_toInt, ra_ptn hq, ra_z_tmod]
theorem ra_rem_b {q : Nat} (hq : q < 32749) (x : Int32) : -((q : Int) + 1) < (x - x / nI (q + 1) * nI (q + 1)).toInt ∧ (x - x / nI (q + 1) * nI (q + 1)).toInt < (q : Int) + 1 := by
  rw [rem_toInt, ra_pt hq]; exact tmod_bounds (by omega)
theorem ra_rem_nn {q : Nat} (hq : q < 32749) {x : Int32} (hx : 0 ≤ x.toInt) : ra_Cn q (x - x / nI (q + 1) * nI (q + 1)) := by
  refine ⟨?_, (ra_rem_b hq x).2⟩
  rw [rem_toInt, ra_pt hq, Int.tmod_eq_emod_of_nonneg hx]
  exact Int.emod_nonneg _ (by omega)
theorem ra_f_add {q : Nat} {a b : Int32} (h1 : -2147483648 ≤ a.toInt + b.toInt) (h2 : a.toInt + b.toInt < 2147483648) : ra_f q (a + b) = ra_f q a + ra_f q b := by
  unfold ra_f; rw [ra_tadd h1 h2, ra_z_add]
theorem ra_f_sub {q : Nat} {a b : Int32} (h1 : -2147483648 ≤ a.toInt - b.toInt) (h2 : a.toInt - b.toInt < 2147483648) : ra_f q (a - b) = ra_f q a - ra_f q b := by
  unfold ra_f; rw [ra_tsub h1 h2, ra_z_sub]
theorem ra_f_mul {q : Nat} {a b : Int32} (h1 : -2147483648 ≤ a.toInt * b.toInt) (h2 : a.toInt * b.toInt < 2147483648) : ra_f q (a * b) = ra_f q a * ra_f q b := by
  unfold ra_f; rw [ra_tmul h1 h2, ra_z_mul]
theorem ra_f_neg {q : Nat} {a : Int32} (h1 : -2147483648 < a.toInt) : ra_f q (-a) = - ra_f q a := by
  unfold ra_f; rw [ra_tneg h1, ra_z_neg]
theorem ra_f_p {q : Nat} (hq : q < 32749) : ra_f q (nI (q + 1)) = 0 := by
  unfold ra_f; rw [ra_ptn hq, ra_z_p]
theorem ra_f_0 (q : Nat) : ra_f q 0 = 0 := ra_z_0 q
theorem ra_f_1 (q : Nat) : ra_f q 1 = 1 := ra_z_1 q
theorem ra_Cn_0 (q : Nat) : ra_Cn q 0 := ⟨by decide, by show (0 : Int) < (q : Int) + 1; omega⟩
theorem ra_Cn_1 {q : Nat} (h : 1 ≤ q) : ra_Cn q 1 := ⟨by decide, by show (1 : Int) < (q : Int) + 1; omega⟩
/-! the class's operations -/
def ra_ad (P a b : Int32) : Int32 := if a + b < P then a + b else a + b - P
def ra_sb (P a b : Int32) : Int32 := if 0 ≤ a - b then a - b else a - b + P
def ra_mu (P a b : Int32) : Int32 := (a * b) - (a * b) / P * P
def ra_ng (P a : Int32) : Int32 := if a = 0 then 0 else P - a
def ra_yr (P x : Int32) : Int32 := ((x - x / P * P) + P) - ((x - x / P * P) + P) / P * P
section
variable {q : Nat} {a b : Int32}
theorem ra_ad_ok (hq : q < 32749) (ha : ra_Cn q a) (hb : ra_Cn q b) : ra_Cn q (ra_ad (nI (q + 1)) a b) ∧ ra_f q (ra_ad (nI (q + 1)) a b) = ra_f q a + ra_f q b := by
  have e := ra_pt hq
  have a1 := ha.1; have a2 := ha.2; have b1 := hb.1; have b2 := hb.2
  have s : (a + b).toInt = a.toInt + b.toInt := ra_tadd (by omega) (by omega)
  unfold ra_ad
  by_cases h : a + b < nI (q + 1)
  · rw [if_pos h]
    rw [Int32.lt_iff_toInt_lt, e, s] at h
    exact ⟨⟨by omega, by omega⟩, ra_f_add (by omega) (by omega)⟩
  · rw [if_neg h]
    rw [Int32.lt_iff_toInt_lt, e, s] at h
    have t : (a + b - nI (q + 1)).toInt = a.toInt + b.toInt - ((q : Int) + 1) := by rw [ra_tsub (by omega) (by omega), s, e]
    refine ⟨⟨by omega, by omega⟩, ?_⟩
    rw [ra_f_sub (by omega) (by omega), ra_f_add (by omega) (by omega), ra_f_p hq]; grind
theorem ra_sb_ok (hq : q < 32749) (ha : ra_Cn q a) (hb : ra_Cn q b) : ra_Cn q (ra_sb (nI (q + 1)) a b) ∧ ra_f q (ra_sb (nI (q + 1)) a b) = ra_f q a - ra_f q b := by
  have e := ra_pt hq
  have a1 := ha.1; have a2 := ha.2; have b1 := hb.1; have b2 := hb.2
  have s : (a - b).toInt = a.toInt - b.toInt := ra_tsub (by omega) (by omega)
  unfold ra_sb
  by_cases h : 0 ≤ a - b
  · rw [if_pos h]
    rw [Int32.le_iff_toInt_le, Int32.toInt_zero, s] at h
    exact ⟨⟨by omega, by omega⟩, ra_f_sub (by omega) (by omega)⟩
  · rw [if_neg h]
    rw [Int32.le_iff_toInt_le, Int32.toInt_zero, s] at h
    have t : (a - b + nI (q + 1)).toInt = a.toInt - b.toInt + ((q : Int) + 1) := by rw [ra_tadd (by omega) (by omega), s, e]
    refine ⟨⟨by omega, by omega⟩, ?_⟩
    rw [ra_f_add (by omega) (by omega), ra_f_sub (by omega) (by omega), ra_f_p hq]; grind
theorem ra_mu_ok (hq : q < 32749) (ha : ra_Cn q a) (hb : ra_Cn q b) : ra_Cn q (ra_mu (nI (q + 1)) a b) ∧ ra_f q (ra_mu (nI (q + 1)) a b) = ra_f q a * ra_f q b := by
  have a1 := ha.1; have a2 := ha.2; have b1 := hb.1; have b2 := hb.2
  have m := ra_mb (x := a.toInt) (y := b.toInt) a1 (by omega) b1 (by omega)
  have s : (a * b).toInt = a.toInt * b.toInt := ra_tmul (by omega) (by omega)
  unfold ra_mu
  refine ⟨ra_rem_nn hq (by omega), ?_⟩
  rw [ra_f_rem hq, ra_f_mul (by omega) (by omega)]
theorem ra_ng_ok (hq : q < 32749) (ha : ra_Cn q a) : ra_Cn q (ra_ng (nI (q + 1)) a) ∧ ra_f q (ra_ng (nI (q + 1)) a) = - ra_f q a := by
  have e := ra_pt hq
  have a1 := ha.1; have a2 := ha.2
  unfold ra_ng
  by_cases h : a = 0
  · rw [if_pos h, h, ra_f_0]
    exact ⟨ra_Cn_0 q, by grind⟩
  · rw [if_neg h]
    have h0 : a.toInt ≠ 0 := fun z => h (Int32.toInt_inj.mp (by rw [z]; rfl))
    have t : (nI (q + 1) - a).toInt = (q : Int) + 1 - a.toInt := by rw [ra_tsub (by omega) (by omega), e]
    refine ⟨⟨by omega, by omega⟩, ?_⟩
    rw [ra_f_sub (by omega) (by omega), ra_f_p hq]; grind
/-- the reference's residue -/
theorem ra_yr_ok (hq : q < 32749) (x : Int32) : ra_Cn q (ra_yr (nI (q + 1)) x) ∧ ra_f q (ra_yr (nI (q + 1)) x) = ra_f q x := by
  have e := ra_pt hq
  have b := ra_rem_b hq x
  have f := ra_f_rem hq x
  unfold ra_yr
  generalize x - x / nI (q + 1) * nI (q + 1) = y at b f ⊢
  have s : (y + nI (q + 1)).toInt = y.toInt + ((q : Int) + 1) := by rw [ra_tadd (by omega) (by omega), e]
  refine ⟨ra_rem_nn hq (by omega), ?_⟩
  rw [ra_f_rem hq, ra_f_add (by omega) (by omega), ra_f_p hq, f]; grind
/-- the class's residue is the reference's -/
theorem ra_xr (hq : q < 32749) (x : Int32) : (if 0 ≤ x - x / nI (q + 1) * nI (q + 1) then x - x / nI (q + 1) * nI (q + 1) else x - x / nI (q + 1) * nI (q + 1) + nI (q + 1)) = ra_yr (nI (q + 1)) x := by
  have e := ra_pt hq
  have b := ra_rem_b hq x
  have f := ra_f_rem hq x
  have y := ra_yr_ok hq x
  refine ra_inj (q := q) ?_ y.1 ?_
  · generalize x - x / nI (q + 1) * nI (q + 1) = y at b ⊢
    by_cases h : 0 ≤ y
    · rw [if_pos h]; rw [Int32.le_iff_toInt_le, Int32.toInt_zero] at h; exact ⟨h, b.2⟩
    · rw [if_neg h]; rw [Int32.le_iff_toInt_le, Int32.toInt_zero] at h
      have s : (y + nI (q + 1)).toInt = y.toInt + ((q : Int) + 1) := by rw [ra_tadd (by omega) (by omega), e]
      exact ⟨by omega, by omega⟩
  · rw [y.2]
    generalize x - x / nI (q + 1) * nI (q + 1) = y at b f ⊢
    by_cases h : 0 ≤ y
    · rw [if_pos h, f]
    · rw [if_neg h, ra_f_add (by omega) (by omega), f, ra_f_p hq]; grind
theorem ra_yr_id (hq : q < 32749) (ha : ra_Cn q a) : ra_yr (nI (q + 1)) a = a :=
  ra_inj (ra_yr_ok hq a).1 ha (ra_yr_ok hq a).2
end
end
section
/-! the two inverses: X's b^(p-2) by squaring, Y's by remainders -/
def ra_sq (p : Nat) : Nat → Nat → Nat → Nat → Nat
  | 0, _, r, _ => r
  | k + 1, e, r, s => ra_sq p k (e / 2) (cond (Nat.beq (e % 2) 1) (r * s % p) r) (s * s % p)
def ra_iv (p b : Nat) : Nat := ra_sq p 15 (p - 2) 1 b
def ra_c1 (p b : Nat) : Bool := Nat.beq (ra_iv p b * b % p) 1 && Nat.ble 1 (p % b)
/-- the range [lo, lo + 2^k) -/
def ra_ck (p : Nat) : Nat → Nat → Bool
  | 0, lo => Nat.ble p lo || Nat.ble lo 1 || ra_c1 p lo
  | k + 1, lo => ra_ck p k lo && ra_ck p k (lo + 2 ^ k)
theorem ra_ck_get {p : Nat} : ∀ (k lo b : Nat), ra_ck p k lo = true → lo ≤ b → b < lo + 2 ^ k → 1 < b → b < p → ra_c1 p b = true
  | 0, lo, b, h, h1, h2, h3, h4 => by
    have e : b = lo := by simp at h2; omega
    subst e
    unfold ra_ck at h
    have a1 : Nat.ble p b = false := by
      cases z : Nat.ble p b with
      | false => rfl
      | true => have := Nat.le_of_ble_eq_true z; omega
    have a2 : Nat.ble b 1 = false := by
      cases z : Nat.ble b 1 with
      | false => rfl
      | true => have := Nat.le_of_ble_eq_true z; omega
    rw [a1, a2] at h
    exact h
  | k + 1, lo, b, h, h1, h2, h3, h4 => by
    unfold ra_ck at h
    rw [Bool.and_eq_true] at h
    rw [Nat.pow_succ] at h2
    by_cases c : b < lo + 2 ^ k
    · exact ra_ck_get k lo b h.1 h1 c h3 h4
    · exact ra_ck_get k (lo + 2 ^ k) b h.2 (by omega) (by omega) h3 h4
theorem ra_ck5 : ra_ck 5 3 0 = true := by decide +kernel
theorem ra_ck13 : ra_ck 13 4 0 = true := by decide +kernel
theorem ra_ck251 : ra_ck 251 8 0 = true := by decide +kernel
theorem ra_ckA : ra_ck 32749 12 0 = true := by decide +kernel
theorem ra_ckB : ra_ck 32749 12 4096 = true := by decide +kernel
theorem ra_ckC : ra_ck 32749 12 8192 = true := by decide +kernel
theorem ra_ckD : ra_ck 32749 12 12288 = true := by decide +kernel
theorem ra_ckE : ra_ck 32749 12 16384 = true := by decide +kernel
theorem ra_ckF : ra_ck 32749 12 20480 = true := by decide +kernel
theorem ra_ckG : ra_ck 32749 12 24576 = true := by decide +kernel
theorem ra_ckH : ra_ck 32749 12 28672 = true := by decide +kernel
theorem ra_ckall {q b : Nat} (hp : ra_pr q) (h1 : 1 < b) (h2 : b < q + 1) : ra_c1 (q + 1) b = true := by
  rcases hp with rfl | rfl | rfl | rfl
  · exact ra_ck_get 3 0 b ra_ck5 (by omega) (by omega) h1 h2
  · exact ra_ck_get 4 0 b ra_ck13 (by omega) (by omega) h1 h2
  · exact ra_ck_get 8 0 b ra_ck251 (by omega) (by omega) h1 h2
  · by_cases c1 : b < 4096
    · exact ra_ck_get 12 0 b ra_ckA (by omega) (by omega) h1 h2
    by_cases c2 : b < 8192
    · exact ra_ck_get 12 4096 b ra_ckB (by omega) (by omega) h1 h2
    by_cases c3 : b < 12288
    · exact ra_ck_get 12 8192 b ra_ckC (by omega) (by omega) h1 h2
    by_cases c4 : b < 16384
    · exact ra_ck_get 12 12288 b ra_ckD (by omega) (by omega) h1 h2
    by_cases c5 : b < 20480
    · exact ra_ck_get 12 16384 b ra_ckE (by omega) (by omega) h1 h2
    by_cases c6 : b < 24576
    · exact ra_ck_get 12 20480 b ra_ckF (by omega) (by omega) h1 h2
    by_cases c7 : b < 28672
    · exact ra_ck_get 12 24576 b ra_ckG (by omega) (by omega) h1 h2
    · exact ra_ck_get 12 28672 b ra_ckH (by omega) (by omega) h1 h2
theorem ra_iv1 {q : Nat} (hp : ra_pr q) : ra_iv (q + 1) 1 * 1 % (q + 1) = 1 := by
  rcases hp with rfl | rfl | rfl | rfl <;> decide +kernel
/-- X's inverse is an inverse -/
theorem ra_iv_ok {q b : Nat} (hp : ra_pr q) (h1 : 0 < b) (h2 : b < q + 1) : ra_iv (q + 1) b * b % (q + 1) = 1 := by
  by_cases c : b = 1
  · subst c; exact ra_iv1 hp
  · have h := ra_ckall hp (by omega) h2
    unfold ra_c1 at h
    rw [Bool.and_eq_true] at h
    exact Nat.eq_of_beq_eq_true h.1
theorem ra_prime {q b : Nat} (hp : ra_pr q) (h1 : 1 < b) (h2 : b < q + 1) : 0 < (q + 1) % b := by
  have h := ra_ckall hp h1 h2
  unfold ra_c1 at h
  rw [Bool.and_eq_true] at h
  exact Nat.le_of_ble_eq_true h.2
theorem ra_pr_lt {q : Nat} (hp : ra_pr q) : q < 32749 ∧ 4 ≤ q := by
  rcases hp with rfl | rfl | rfl | rfl <;> omega
theorem ra_sq_lt {p : Nat} (h : 0 < p) : ∀ (k e r s : Nat), r < p → ra_sq p k e r s < p
  | 0, _, _, _, hr => hr
  | k + 1, e, r, s, hr => by
    unfold ra_sq
    apply ra_sq_lt h
    cases Nat.beq (e % 2) 1
    · exact hr
    · exact Nat.mod_lt _ h
theorem ra_f_nI {q n : Nat} (h : n < 2 ^ 31) : ra_f q (nI n) = ra_z q (n : Int) := by
  unfold ra_f; rw [nI_toInt h]
theorem ra_Cn_nI {q n : Nat} (hq : q < 32749) (h : n < q + 1) : ra_Cn q (nI n) := by
  unfold ra_Cn; rw [nI_toInt (by omega)]; omega
theorem ra_Cn_get {q : Nat} {x : Int32} (h : ra_Cn q x) (hq : q < 32749) : ∃ n : Nat, n < q + 1 ∧ x = nI n := by
  have h1 := h.1; have h2 := h.2
  refine ⟨x.toInt.toNat, by omega, Int32.toInt_inj.mp ?_⟩
  rw [nI_toInt (by omega), Int.toNat_of_nonneg h1]
theorem ra_iv_f {q b : Nat} (hp : ra_pr q) (h1 : 0 < b) (h2 : b < q + 1) : ra_f q (nI (ra_iv (q + 1) b)) * ra_f q (nI b) = 1 := by
  have hq := (ra_pr_lt hp).1
  have hl : ra_iv (q + 1) b < q + 1 := ra_sq_lt (by omega) _ _ _ _ (by have := (ra_pr_lt hp).2; omega)
  have e := ra_iv_ok hp h1 h2
  rw [ra_f_nI (by omega), ra_f_nI (by omega), ← ra_z_mul, ← ra_z_1]
  apply ra_z_eq
  rw [← Int.natCast_mul, ← Int.natCast_emod, e]
  have : (1 : Int) % ((q + 1 : Nat) : Int) = ((1 % (q + 1) : Nat) : Int) := by rw [Int.natCast_emod]; rfl
  rw [this, Nat.mod_eq_of_lt (by have := (ra_pr_lt hp).2; omega)]
/-- one round of Y's inverse keeps r * b = x -/
theorem ra_inv_rd {q x : Nat} (hp : ra_pr q) (h1 : 1 < x) (h2 : x < q + 1) : ra_z q (((q + 1 - (q + 1) / x : Nat)) : Int) * ra_z q (x : Int) = ra_z q (((q + 1) % x : Nat) : Int) := by
  have hd : (q + 1) / x ≤ q + 1 := Nat.div_le_self _ _
  have e : (((q + 1 - (q + 1) / x : Nat)) : Int) * (x : Int) = (((q + 1) % x : Nat) : Int) + ((q + 1 : Nat) : Int) * ((x : Int) - 1) := by
    have h3 := Nat.div_add_mod (q + 1) x
    have h4 : ((x * ((q + 1) / x) + (q + 1) % x : Nat) : Int) = ((q + 1 : Nat) : Int) := by rw [h3]
    rw [Int.natCast_add, Int.natCast_mul] at h4
    rw [Int.natCast_sub hd]
    grind
  rw [← ra_z_mul, e, ra_z_add, ra_z_mul, ra_z_p]
  grind
theorem ra_uniq {q : Nat} {a b c : Fin (q + 1)} (h1 : a * b = 1) (h2 : c * b = 1) : a = c := by
  have e : a = a * (c * b) := by rw [h2]; grind
  rw [e, show a * (c * b) = c * (a * b) from by grind, h1]; grind
end
section
/-! the tape of linear actions, read forward and backward -/
def rt_h (S : List Int32) : Int32 := S.headD 0
/-- one action forward on (tangents, flow) -/
def rt_fw (P c l r : Int32) (w : (Nat → Int32) × List Int32) : (Nat → Int32) × List Int32 :=
  if c = 0 then (w.1, 0 :: w.2)
  else if c = 1 then (w.1, w.1 l.toNatClampNeg :: w.2)
  else if c = 2 then (upd w.1 l.toNatClampNeg (rt_h w.2), w.2.tail)
  else if c = 4 then (w.1, ra_ad P (ra_mu P l (rt_h w.2.tail)) (ra_mu P r (rt_h w.2)) :: w.2.tail.tail)
  else if c = 5 then (w.1, ra_ng P (rt_h w.2) :: w.2.tail)
  else if c = 6 then (w.1, rt_h w.2 :: rt_h w.2 :: w.2.tail)
  else if c = 7 then (w.1, rt_h w.2.tail :: rt_h w.2 :: w.2.tail.tail)
  else (w.1, w.2.tail)
/-- one action backward on (adjoints, flow) -/
def rt_bw (P c l r : Int32) (w : (Nat → Int32) × List Int32) : (Nat → Int32) × List Int32 :=
  if c = 2 then (upd w.1 l.toNatClampNeg 0, w.1 l.toNatClampNeg :: w.2)
  else if c = 3 then (w.1, 0 :: w.2)
  else if c = 1 then (upd w.1 l.toNatClampNeg (ra_ad P (w.1 l.toNatClampNeg) (rt_h w.2)), w.2.tail)
  else if c = 4 then (w.1, ra_mu P r (rt_h w.2) :: ra_mu P l (rt_h w.2) :: w.2.tail)
  else if c = 5 then (w.1, ra_ng P (rt_h w.2) :: w.2.tail)
  else if c = 6 then (w.1, ra_ad P (rt_h w.2.tail) (rt_h w.2) :: w.2.tail.tail)
  else if c = 7 then (w.1, rt_h w.2.tail :: rt_h w.2 :: w.2.tail.tail)
  else (w.1, w.2.tail)
/-- what an action takes from and lays onto the stack -/
def rt_po (c : Int32) : Nat := if c = 0 ∨ c = 1 then 0 else if c = 4 ∨ c = 7 then 2 else 1
def rt_pu (c : Int32) : Nat := if c = 2 ∨ c = 3 then 0 else if c = 6 ∨ c = 7 then 2 else 1
def rt_dp (AC : Nat → Int32) : Nat → Nat
  | 0 => 0
  | t + 1 => rt_dp AC t - rt_po (AC t) + rt_pu (AC t)
/-- an action that may stand on the tape at depth d -/
def rt_ok (q n : Nat) (c l r : Int32) (d : Nat) : Prop :=
  ((c = 0 ∧ d < 8) ∨ (c = 1 ∧ d < 8 ∧ ∃ i, i < n ∧ l = nI i) ∨ (c = 2 ∧ 1 ≤ d ∧ ∃ i, i < n ∧ l = nI i) ∨ (c = 3 ∧ 1 ≤ d)
    ∨ (c = 4 ∧ 2 ≤ d ∧ ra_Cn q l ∧ ra_Cn q r) ∨ (c = 5 ∧ 1 ≤ d) ∨ (c = 6 ∧ 1 ≤ d ∧ d < 8) ∨ (c = 7 ∧ 2 ≤ d)) ∧ d ≤ 8
def rt_TW (q n : Nat) (AC AL AR : Nat → Int32) (na : Nat) : Prop := ∀ t, t < na → rt_ok q n (AC t) (AL t) (AR t) (rt_dp AC t)
def rt_Cl (q : Nat) (S : List Int32) : Prop := ∀ x, x ∈ S → ra_Cn q x
def rt_Cf (q n : Nat) (T : Nat → Int32) : Prop := ∀ i, i < n → ra_Cn q (T i)
/-- the tape from lo, d actions -/
def rt_fR (P : Int32) (AC AL AR : Nat → Int32) (lo : Nat) (w : (Nat → Int32) × List Int32) : Nat → (Nat → Int32) × List Int32
  | 0 => w
  | d + 1 => rt_fw P (AC (lo + d)) (AL (lo + d)) (AR (lo + d)) (rt_fR P AC AL AR lo w d)
/-- the tape from hi backward, d actions -/
def rt_bR (P : Int32) (AC AL AR : Nat → Int32) (hi : Nat) (w : (Nat → Int32) × List Int32) : Nat → (Nat → Int32) × List Int32
  | 0 => w
  | d + 1 => rt_bw P (AC (hi - 1 - d)) (AL (hi - 1 - d)) (AR (hi - 1 - d)) (rt_bR P AC AL AR hi w d)
section
variable {P l r : Int32} {w : (Nat → Int32) × List Int32}
theorem rt_fw0 : rt_fw P 0 l r w = (w.1, 0 :: w.2) := rfl
theorem rt_fw1 : rt_fw P 1 l r w = (w.1, w.1 l.toNatClampNeg :: w.2) := rfl
theorem rt_fw2 : rt_fw P 2 l r w = (upd w.1 l.toNatClampNeg (rt_h w.2), w.2.tail) := rfl
theorem rt_fw3 : rt_fw P 3 l r w = (w.1, w.2.tail) := rfl
theorem rt_fw4 : rt_fw P 4 l r w = (w.1, ra_ad P (ra_mu P l (rt_h w.2.tail)) (ra_mu P r (rt_h w.2)) :: w.2.tail.tail) := rfl
theorem rt_fw5 : rt_fw P 5 l r w = (w.1, ra_ng P (rt_h w.2) :: w.2.tail) := rfl
theorem rt_fw6 : rt_fw P 6 l r w = (w.1, rt_h w.2 :: rt_h w.2 :: w.2.tail) := rfl
theorem rt_fw7 : rt_fw P 7 l r w = (w.1, rt_h w.2.tail :: rt_h w.2 :: w.2.tail.tail) := rfl
theorem rt_bw0 : rt_bw P 0 l r w = (w.1, w.2.tail) := rfl
theorem rt_bw1 : rt_bw P 1 l r w = (upd w.1 l.toNatClampNeg (ra_ad P (w.1 l.toNatClampNeg) (rt_h w.2)), w.2.tail) := rfl
theorem rt_bw2 : rt_bw P 2 l r w = (upd w.1 l.toNatClampNeg 0, w.1 l.toNatClampNeg :: w.2) := rfl
theorem rt_bw3 : rt_bw P 3 l r w = (w.1, 0 :: w.2) := rfl
theorem rt_bw4 : rt_bw P 4 l r w = (w.1, ra_mu P r (rt_h w.2) :: ra_mu P l (rt_h w.2) :: w.2.tail) := rfl
theorem rt_bw5 : rt_bw P 5 l r w = (w.1, ra_ng P (rt_h w.2) :: w.2.tail) := rfl
theorem rt_bw6 : rt_bw P 6 l r w = (w.1, ra_ad P (rt_h w.2.tail) (rt_h w.2) :: w.2.tail.tail) := rfl
theorem rt_bw7 : rt_bw P 7 l r w = (w.1, rt_h w.2.tail :: rt_h w.2 :: w.2.tail.tail) := rfl
end
/-! the inner product -/
def rt_ds (q : Nat) : List Int32 → List Int32 → Fin (q + 1)
  | x :: F, y :: S => ra_f q x * ra_f q y + rt_ds q F S
  | _, _ => 0
def rt_dc (q : Nat) (A T : Nat → Int32) : Nat → Fin (q + 1)
  | 0 => 0
  | n + 1 => rt_dc q A T n + ra_f q (A n) * ra_f q (T n)
theorem rt_dc_off {q : Nat} {A T A' T' : Nat → Int32} : ∀ {n : Nat}, (∀ i, i < n → ra_f q (A i) * ra_f q (T i) = ra_f q (A' i) * ra_f q (T' i)) → rt_dc q A T n = rt_dc q A' T' n
  | 0, _ => rfl
  | n + 1, h => by
    unfold rt_dc
    rw [rt_dc_off (n := n) (fun i hi => h i (by omega)), h n (by omega)]
theorem rt_dc_one {q : Nat} {A T A' T' : Nat → Int32} {c : Nat} : ∀ {n : Nat}, c < n → (∀ i, i < n → i ≠ c → ra_f q (A i) * ra_f q (T i) = ra_f q (A' i) * ra_f q (T' i)) → rt_dc q A T n + ra_f q (A' c) * ra_f q (T' c) = rt_dc q A' T' n + ra_f q (A c) * ra_f q (T c)
  | 0, h, _ => by omega
  | n + 1, hc, h => by
    unfold rt_dc
    by_cases e : c = n
    · subst e
      rw [rt_dc_off (n := c) (fun i hi => h i (by omega) (by omega))]; grind
    · have a := rt_dc_one (n := n) (c := c) (by omega) (fun i hi => h i (by omega))
      have b := h n (by omega) (by omega)
      grind
/-- the inner product is kept by an action and its transpose -/
theorem rt_adj {q n : Nat} (hq : q < 32749) (hn : n ≤ 8) {c l r : Int32} {d : Nat} (ok : rt_ok q n c l r d)
    {A F T S} (cA : rt_Cf q n A) (cF : rt_Cl q F) (cT : rt_Cf q n T) (cS : rt_Cl q S)
    (hS : S.length = d) (hF : F.length = d - rt_po c + rt_pu c) :
    rt_dc q (rt_bw (nI (q + 1)) c l r (A, F)).1 T n + rt_ds q (rt_bw (nI (q + 1)) c l r (A, F)).2 S
      = rt_dc q A (rt_fw (nI (q + 1)) c l r (T, S)).1 n + rt_ds q F (rt_fw (nI (q + 1)) c l r (T, S)).2 := by
  rcases ok.1 with ⟨rfl, _⟩ | ⟨rfl, _, i, hi, rfl⟩ | ⟨rfl, h1, i, hi, rfl⟩ | ⟨rfl, h1⟩ | ⟨rfl, h2, cl, cr⟩ | ⟨rfl, h1⟩ | ⟨rfl, h1, _⟩ | ⟨rfl, h2⟩
  · rw [rt_bw0, rt_fw0]
    have e : F.length = d + 1 := hF
    match F, e with
    | x :: F', _ =>
      show rt_dc q A T n + rt_ds q F' S = rt_dc q A T n + (ra_f q x * ra_f q 0 + rt_ds q F' S)
      rw [ra_f_0]; grind
  · rw [rt_bw1, rt_fw1, nI_clamp (by omega)]
    have e : F.length = d + 1 := hF
    match F, e, cF with
    | x :: F', _, cF =>
      show rt_dc q (upd A i (ra_ad (nI (q + 1)) (A i) x)) T n + rt_ds q F' S = rt_dc q A T n + (ra_f q x * ra_f q (T i) + rt_ds q F' S)
      have k := rt_dc_one (q := q) (A := upd A i (ra_ad (nI (q + 1)) (A i) x)) (T := T) (A' := A) (T' := T) (c := i) hi (fun j hj hji => by rw [pk_un hji])
      rw [pk_us, (ra_ad_ok hq (cA i hi) (cF x (List.mem_cons_self ..))).2] at k
      grind
  · rw [rt_bw2, rt_fw2, nI_clamp (by omega)]
    match S, hS with
    | [], hS => simp at hS; omega
    | y :: S', _ =>
      show rt_dc q (upd A i 0) T n + (ra_f q (A i) * ra_f q y + rt_ds q F S') = rt_dc q A (upd T i y) n + rt_ds q F S'
      have k := rt_dc_one (q := q) (A := upd A i 0) (T := T) (A' := A) (T' := upd T i y) (c := i) hi (fun j hj hji => by rw [pk_un hji, pk_un hji])
      rw [pk_us, pk_us, ra_f_0] at k
      grind
  · rw [rt_bw3, rt_fw3]
    match S, hS with
    | [], hS => simp at hS; omega
    | y :: S', _ =>
      show rt_dc q A T n + (ra_f q 0 * ra_f q y + rt_ds q F S') = rt_dc q A T n + rt_ds q F S'
      rw [ra_f_0]; grind
  · rw [rt_bw4, rt_fw4]
    have e : F.length = d - 2 + 1 := hF
    match F, e, cF, S, hS, cS with
    | x :: F', _, cF, y :: z :: S', _, cS =>
      have hx := cF x (List.mem_cons_self ..)
      have hy := cS y (List.mem_cons_self ..)
      have hz := cS z (List.mem_cons_of_mem _ (List.mem_cons_self ..))
      show rt_dc q A T n + (ra_f q (ra_mu (nI (q + 1)) r x) * ra_f q y + (ra_f q (ra_mu (nI (q + 1)) l x) * ra_f q z + rt_ds q F' S'))
        = rt_dc q A T n + (ra_f q x * ra_f q (ra_ad (nI (q + 1)) (ra_mu (nI (q + 1)) l z) (ra_mu (nI (q + 1)) r y)) + rt_ds q F' S')
      rw [(ra_ad_ok hq (ra_mu_ok hq cl hz).1 (ra_mu_ok hq cr hy).1).2, (ra_mu_ok hq cl hz).2, (ra_mu_ok hq cr hy).2, (ra_mu_ok hq cr hx).2, (ra_mu_ok hq cl hx).2]
      grind
    | _ :: _, _, _, [], hS, _ => simp at hS; omega
    | _ :: _, _, _, [_], hS, _ => simp at hS; omega
  · rw [rt_bw5, rt_fw5]
    have e : F.length = d - 1 + 1 := hF
    match F, e, cF, S, hS, cS with
    | x :: F', _, cF, y :: S', _, cS =>
      have hx := cF x (List.mem_cons_self ..)
      have hy := cS y (List.mem_cons_self ..)
      show rt_dc q A T n + (ra_f q (ra_ng (nI (q + 1)) x) * ra_f q y + rt_ds q F' S') = rt_dc q A T n + (ra_f q x * ra_f q (ra_ng (nI (q + 1)) y) + rt_ds q F' S')
      rw [(ra_ng_ok hq hx).2, (ra_ng_ok hq hy).2]; grind
    | _ :: _, _, _, [], hS, _ => simp at hS; omega
  · rw [rt_bw6, rt_fw6]
    have e : F.length = d - 1 + 2 := hF
    match F, e, cF, S, hS, cS with
    | x :: x' :: F', _, cF, y :: S', _, cS =>
      have hx := cF x (List.mem_cons_self ..)
      have hx' := cF x' (List.mem_cons_of_mem _ (List.mem_cons_self ..))
      show rt_dc q A T n + (ra_f q (ra_ad (nI (q + 1)) x' x) * ra_f q y + rt_ds q F' S') = rt_dc q A T n + (ra_f q x * ra_f q y + (ra_f q x' * ra_f q y + rt_ds q F' S'))
      rw [(ra_ad_ok hq hx' hx).2]; grind
    | [_], e, _, _, _, _ => simp at e
    | _ :: _ :: _, _, _, [], hS, _ => simp at hS; omega
  · rw [rt_bw7, rt_fw7]
    have e : F.length = d - 2 + 2 := hF
    match F, e, S, hS with
    | x :: x' :: F', _, y :: z :: S', _ =>
      show rt_dc q A T n + (ra_f q x' * ra_f q y + (ra_f q x * ra_f q z + rt_ds q F' S')) = rt_dc q A T n + (ra_f q x * ra_f q z + (ra_f q x' * ra_f q y + rt_ds q F' S'))
      grind
    | [_], e, _, _ => simp at e
    | _ :: _ :: _, _, [], hS => simp at hS; omega
    | _ :: _ :: _, _, [_], hS => simp at hS; omega
end
section
/-! the tape, whole ranges -/
theorem rt_Cl_tail {q : Nat} {S : List Int32} (h : rt_Cl q S) : rt_Cl q S.tail := fun x hx => h x (List.mem_of_mem_tail hx)
theorem rt_Cl_cons {q : Nat} {S : List Int32} {x : Int32} (hx : ra_Cn q x) (h : rt_Cl q S) : rt_Cl q (x :: S) := by
  intro y hy
  rcases List.mem_cons.mp hy with e | e
  · rw [e]; exact hx
  · exact h y e
theorem rt_Cl_h {q : Nat} {S : List Int32} (h : rt_Cl q S) : ra_Cn q (rt_h S) := by
  match S, h with
  | [], _ => exact ra_Cn_0 q
  | x :: _, h => exact h x (List.mem_cons_self ..)
theorem rt_Cf_upd {q n i : Nat} {T : Nat → Int32} {x : Int32} (h : rt_Cf q n T) (hx : ra_Cn q x) : rt_Cf q n (upd T i x) := by
  intro j hj
  by_cases e : j = i
  · rw [e, pk_us]; exact hx
  · rw [pk_un e]; exact h j hj
theorem rt_fw_inv {q n : Nat} (hq : q < 32749) (hn : n ≤ 8) {c l r : Int32} {d : Nat} (ok : rt_ok q n c l r d) {T S}
    (cT : rt_Cf q n T) (cS : rt_Cl q S) (hS : S.length = d) :
    rt_Cf q n (rt_fw (nI (q + 1)) c l r (T, S)).1 ∧ rt_Cl q (rt_fw (nI (q + 1)) c l r (T, S)).2 ∧ (rt_fw (nI (q + 1)) c l r (T, S)).2.length = d - rt_po c + rt_pu c := by
  have ch := rt_Cl_h cS
  have ct := rt_Cl_tail cS
  have cth := rt_Cl_h ct
  have ctt := rt_Cl_tail ct
  rcases ok.1 with ⟨rfl, _⟩ | ⟨rfl, _, i, hi, rfl⟩ | ⟨rfl, h1, i, hi, rfl⟩ | ⟨rfl, h1⟩ | ⟨rfl, h2, cl, cr⟩ | ⟨rfl, h1⟩ | ⟨rfl, h1, _⟩ | ⟨rfl, h2⟩
  · rw [rt_fw0]; exact ⟨cT, rt_Cl_cons (ra_Cn_0 q) cS, by show S.length + 1 = d - 0 + 1; omega⟩
  · rw [rt_fw1, nI_clamp (by omega)]; exact ⟨cT, rt_Cl_cons (cT i hi) cS, by show S.length + 1 = d - 0 + 1; omega⟩
  · rw [rt_fw2]; exact ⟨rt_Cf_upd cT ch, ct, by show S.tail.length = d - 1 + 0; rw [List.length_tail]; omega⟩
  · rw [rt_fw3]; exact ⟨cT, ct, by show S.tail.length = d - 1 + 0; rw [List.length_tail]; omega⟩
  · rw [rt_fw4]
    refine ⟨cT, rt_Cl_cons (ra_ad_ok hq (ra_mu_ok hq cl cth).1 (ra_mu_ok hq cr ch).1).1 ctt, ?_⟩
    show S.tail.tail.length + 1 = d - 2 + 1; rw [List.length_tail, List.length_tail]; omega
  · rw [rt_fw5]
    refine ⟨cT, rt_Cl_cons (ra_ng_ok hq ch).1 ct, ?_⟩
    show S.tail.length + 1 = d - 1 + 1; rw [List.length_tail]; omega
  · rw [rt_fw6]
    refine ⟨cT, rt_Cl_cons ch (rt_Cl_cons ch ct), ?_⟩
    show S.tail.length + 1 + 1 = d - 1 + 2; rw [List.length_tail]; omega
  · rw [rt_fw7]
    refine ⟨cT, rt_Cl_cons cth (rt_Cl_cons ch ctt), ?_⟩
    show S.tail.tail.length + 1 + 1 = d - 2 + 2; rw [List.length_tail, List.length_tail]; omega
theorem rt_bw_inv {q n : Nat} (hq : q < 32749) (hn : n ≤ 8) {c l r : Int32} {d : Nat} (ok : rt_ok q n c l r d) {A F}
    (cA : rt_Cf q n A) (cF : rt_Cl q F) (hF : F.length = d - rt_po c + rt_pu c) :
    rt_Cf q n (rt_bw (nI (q + 1)) c l r (A, F)).1 ∧ rt_Cl q (rt_bw (nI (q + 1)) c l r (A, F)).2 ∧ (rt_bw (nI (q + 1)) c l r (A, F)).2.length = d := by
  have ch := rt_Cl_h cF
  have ct := rt_Cl_tail cF
  have cth := rt_Cl_h ct
  have ctt := rt_Cl_tail ct
  rcases ok.1 with ⟨rfl, _⟩ | ⟨rfl, _, i, hi, rfl⟩ | ⟨rfl, h1, i, hi, rfl⟩ | ⟨rfl, h1⟩ | ⟨rfl, h2, cl, cr⟩ | ⟨rfl, h1⟩ | ⟨rfl, h1, _⟩ | ⟨rfl, h2⟩
  · have e : F.length = d - 0 + 1 := hF
    rw [rt_bw0]; exact ⟨cA, ct, by show F.tail.length = d; rw [List.length_tail]; omega⟩
  · have e : F.length = d - 0 + 1 := hF
    rw [rt_bw1, nI_clamp (by omega)]; exact ⟨rt_Cf_upd cA (ra_ad_ok hq (cA i hi) ch).1, ct, by show F.tail.length = d; rw [List.length_tail]; omega⟩
  · have e : F.length = d - 1 + 0 := hF
    rw [rt_bw2, nI_clamp (by omega)]; exact ⟨rt_Cf_upd cA (ra_Cn_0 q), rt_Cl_cons (cA i hi) cF, by show F.length + 1 = d; omega⟩
  · have e : F.length = d - 1 + 0 := hF
    rw [rt_bw3]; exact ⟨cA, rt_Cl_cons (ra_Cn_0 q) cF, by show F.length + 1 = d; omega⟩
  · have e : F.length = d - 2 + 1 := hF
    rw [rt_bw4]
    refine ⟨cA, rt_Cl_cons (ra_mu_ok hq cr ch).1 (rt_Cl_cons (ra_mu_ok hq cl ch).1 ct), ?_⟩
    show F.tail.length + 1 + 1 = d; rw [List.length_tail]; omega
  · have e : F.length = d - 1 + 1 := hF
    rw [rt_bw5]
    refine ⟨cA, rt_Cl_cons (ra_ng_ok hq ch).1 ct, ?_⟩
    show F.tail.length + 1 = d; rw [List.length_tail]; omega
  · have e : F.length = d - 1 + 2 := hF
    rw [rt_bw6]
    refine ⟨cA, rt_Cl_cons (ra_ad_ok hq cth ch).1 ctt, ?_⟩
    show F.tail.tail.length + 1 = d; rw [List.length_tail, List.length_tail]; omega
  · have e : F.length = d - 2 + 2 := hF
    rw [rt_bw7]
    refine ⟨cA, rt_Cl_cons cth (rt_Cl_cons ch ctt), ?_⟩
    show F.tail.tail.length + 1 + 1 = d; rw [List.length_tail, List.length_tail]; omega
section
variable {q n na : Nat} {AC AL AR : Nat → Int32}
theorem rt_fR_inv (hq : q < 32749) (hn : n ≤ 8) (tw : rt_TW q n AC AL AR na) {lo : Nat} {T : Nat → Int32} {S : List Int32} (cT : rt_Cf q n T) (cS : rt_Cl q S) (h0 : S.length = rt_dp AC lo) :
    ∀ d, lo + d ≤ na → rt_Cf q n (rt_fR (nI (q + 1)) AC AL AR lo (T, S) d).1 ∧ rt_Cl q (rt_fR (nI (q + 1)) AC AL AR lo (T, S) d).2 ∧ (rt_fR (nI (q + 1)) AC AL AR lo (T, S) d).2.length = rt_dp AC (lo + d)
  | 0, _ => ⟨cT, cS, h0⟩
  | d + 1, h => by
    have ih := rt_fR_inv hq hn tw cT cS h0 d (by omega)
    exact rt_fw_inv hq hn (tw (lo + d) (by omega)) ih.1 ih.2.1 ih.2.2
theorem rt_bR_inv (hq : q < 32749) (hn : n ≤ 8) (tw : rt_TW q n AC AL AR na) {hi : Nat} (hh : hi ≤ na) {A : Nat → Int32} {F : List Int32} (cA : rt_Cf q n A) (cF : rt_Cl q F) (h0 : F.length = rt_dp AC hi) :
    ∀ d, d ≤ hi → rt_Cf q n (rt_bR (nI (q + 1)) AC AL AR hi (A, F) d).1 ∧ rt_Cl q (rt_bR (nI (q + 1)) AC AL AR hi (A, F) d).2 ∧ (rt_bR (nI (q + 1)) AC AL AR hi (A, F) d).2.length = rt_dp AC (hi - d)
  | 0, _ => ⟨cA, cF, h0⟩
  | d + 1, h => by
    have ih := rt_bR_inv hq hn tw hh cA cF h0 d (by omega)
    have e : hi - d = (hi - 1 - d) + 1 := by omega
    have l := ih.2.2
    rw [e] at l
    have e2 : hi - (d + 1) = hi - 1 - d := by omega
    rw [e2]
    exact rt_bw_inv hq hn (tw (hi - 1 - d) (by omega)) ih.1 ih.2.1 l
/-- transposition over a range -/
theorem rt_main (hq : q < 32749) (hn : n ≤ 8) (tw : rt_TW q n AC AL AR na) {lo hi : Nat} (hl : lo ≤ hi) (hh : hi ≤ na) {T A : Nat → Int32} (cT : rt_Cf q n T) (cA : rt_Cf q n A)
    (h0 : rt_dp AC lo = 0) (h1 : rt_dp AC hi = 0) :
    rt_dc q (rt_bR (nI (q + 1)) AC AL AR hi (A, []) (hi - lo)).1 T n = rt_dc q A (rt_fR (nI (q + 1)) AC AL AR lo (T, []) (hi - lo)).1 n := by
  have c0 : rt_Cl q [] := fun x hx => absurd hx (List.not_mem_nil)
  have key : ∀ d, d ≤ hi - lo →
      rt_dc q (rt_bR (nI (q + 1)) AC AL AR hi (A, []) d).1 (rt_fR (nI (q + 1)) AC AL AR lo (T, []) (hi - lo - d)).1 n + rt_ds q (rt_bR (nI (q + 1)) AC AL AR hi (A, []) d).2 (rt_fR (nI (q + 1)) AC AL AR lo (T, []) (hi - lo - d)).2
       = rt_dc q A (rt_fR (nI (q + 1)) AC AL AR lo (T, []) (hi - lo)).1 n := by
    intro d
    induction d with
    | zero =>
      intro _
      show rt_dc q A _ n + rt_ds q [] _ = _
      rw [show ∀ S, rt_ds q [] S = 0 from fun S => rfl]; grind
    | succ d ih =>
      intro hd
      rw [← ih (by omega)]
      have e : hi - lo - d = (hi - lo - (d + 1)) + 1 := by omega
      have e2 : lo + (hi - lo - (d + 1)) = hi - 1 - d := by omega
      have fi := rt_fR_inv hq hn tw cT c0 h0.symm (hi - lo - (d + 1)) (by omega)
      have bi := rt_bR_inv hq hn tw hh cA c0 h1.symm d (by omega)
      rw [e2] at fi
      have e3 : hi - d = (hi - 1 - d) + 1 := by omega
      rw [e3] at bi
      rw [e]
      have k := rt_adj hq hn (tw (hi - 1 - d) (by omega)) bi.1 bi.2.1 fi.1 fi.2.1 fi.2.2 bi.2.2
      show rt_dc q (rt_bw _ (AC (hi - 1 - d)) (AL (hi - 1 - d)) (AR (hi - 1 - d)) _).1 _ n + rt_ds q (rt_bw _ (AC (hi - 1 - d)) (AL (hi - 1 - d)) (AR (hi - 1 - d)) _).2 _
        = rt_dc q _ (rt_fw _ (AC (lo + (hi - lo - (d + 1)))) (AL (lo + (hi - lo - (d + 1)))) (AR (lo + (hi - lo - (d + 1)))) _).1 n + rt_ds q _ (rt_fw _ (AC (lo + (hi - lo - (d + 1)))) (AL (lo + (hi - lo - (d + 1)))) (AR (lo + (hi - lo - (d + 1)))) _).2
      rw [e2]
      exact k
  have k := key (hi - lo) (Nat.le_refl _)
  have bi := rt_bR_inv hq hn tw hh cA c0 h1.symm (hi - lo) (by omega)
  rw [show hi - (hi - lo) = lo by omega, h0] at bi
  rw [Nat.sub_self, List.eq_nil_of_length_eq_zero bi.2.2] at k
  rw [← k]
  show rt_dc q _ T n = rt_dc q _ T n + 0
  grind
/-- no write, no change of the tangents -/
theorem rt_fR_nw {P : Int32} {lo : Nat} {w : (Nat → Int32) × List Int32} (k : Nat) : ∀ d, k ≤ d → (∀ t, lo + k ≤ t → t < lo + d → AC t ≠ 2) → (rt_fR P AC AL AR lo w d).1 = (rt_fR P AC AL AR lo w k).1
  | 0, hk, _ => by rw [show k = 0 by omega]
  | d + 1, hk, h => by
    by_cases e : k = d + 1
    · rw [e]
    · have ih := rt_fR_nw (w := w) (P := P) k d (by omega) (fun t h1 h2 => h t h1 (by omega))
      have c2 := h (lo + d) (by omega) (by omega)
      show (rt_fw P (AC (lo + d)) _ _ _).1 = _
      rw [← ih]
      unfold rt_fw
      rw [if_neg c2]
      repeat' split
      all_goals rfl
theorem rt_fR_cg {P : Int32} {lo : Nat} {w : (Nat → Int32) × List Int32} {AC' AL' AR' : Nat → Int32} : ∀ d, (∀ t, t < lo + d → AC' t = AC t ∧ AL' t = AL t ∧ AR' t = AR t) → rt_fR P AC' AL' AR' lo w d = rt_fR P AC AL AR lo w d
  | 0, _ => rfl
  | d + 1, h => by
    have ih := rt_fR_cg (P := P) (lo := lo) (w := w) d (fun t ht => h t (by omega))
    have e := h (lo + d) (by omega)
    unfold rt_fR
    rw [ih, e.1, e.2.1, e.2.2]
theorem rt_dp_cg {AC' : Nat → Int32} : ∀ t, (∀ s, s < t → AC' s = AC s) → rt_dp AC' t = rt_dp AC t
  | 0, _ => rfl
  | t + 1, h => by
    unfold rt_dp
    rw [rt_dp_cg t (fun s hs => h s (by omega)), h t (by omega)]
end
/-! unit tangents and weighted sums -/
def rt_e (j : Nat) : Nat → Int32 := fun i => if i = j then 1 else 0
theorem rt_e_C {q n j : Nat} (h : 1 ≤ q) : rt_Cf q n (rt_e j) := by
  intro i _
  unfold rt_e
  by_cases e : i = j
  · rw [if_pos e]; exact ra_Cn_1 h
  · rw [if_neg e]; exact ra_Cn_0 q
theorem rt_dc_e0 {q : Nat} {A : Nat → Int32} {j : Nat} : ∀ {n}, n ≤ j → rt_dc q A (rt_e j) n = 0
  | 0, _ => rfl
  | n + 1, h => by
    unfold rt_dc
    rw [rt_dc_e0 (n := n) (by omega)]
    unfold rt_e; rw [if_neg (by omega), ra_f_0]; grind
theorem rt_dc_e {q : Nat} {A : Nat → Int32} {j : Nat} : ∀ {n}, j < n → rt_dc q A (rt_e j) n = ra_f q (A j)
  | 0, h => by omega
  | n + 1, h => by
    unfold rt_dc
    by_cases e : j = n
    · subst e
      rw [rt_dc_e0 (n := j) (by omega)]
      unfold rt_e; rw [if_pos rfl, ra_f_1]; grind
    · rw [rt_dc_e (n := n) (by omega)]
      unfold rt_e; rw [if_neg (by omega), ra_f_0]; grind
def rt_sm (P : Int32) (W T : Nat → Int32) : Nat → Int32
  | 0 => 0
  | n + 1 => ra_ad P (rt_sm P W T n) (ra_mu P (W n) (T n))
theorem rt_sm_ok {q : Nat} (hq : q < 32749) {W T : Nat → Int32} : ∀ {n}, rt_Cf q n W → rt_Cf q n T → ra_Cn q (rt_sm (nI (q + 1)) W T n) ∧ ra_f q (rt_sm (nI (q + 1)) W T n) = rt_dc q W T n
  | 0, _, _ => ⟨ra_Cn_0 q, ra_f_0 q⟩
  | n + 1, hW, hT => by
    have ih := rt_sm_ok hq (n := n) (fun i hi => hW i (by omega)) (fun i hi => hT i (by omega))
    have m := ra_mu_ok hq (hW n (by omega)) (hT n (by omega))
    have a := ra_ad_ok hq ih.1 m.1
    unfold rt_sm rt_dc
    exact ⟨a.1, by rw [a.2, ih.2, m.2]⟩
theorem rt_sm_cg {P : Int32} {W T W' T' : Nat → Int32} : ∀ {n}, (∀ i, i < n → W' i = W i) → (∀ i, i < n → T' i = T i) → rt_sm P W' T' n = rt_sm P W T n
  | 0, _, _ => rfl
  | n + 1, hW, hT => by
    unfold rt_sm
    rw [rt_sm_cg (n := n) (fun i hi => hW i (by omega)) (fun i hi => hT i (by omega)), hW n (by omega), hT n (by omega)]
/-- one term of the reference's sum -/
theorem rt_sm_y {q : Nat} (hq : q < 32749) {s w t : Int32} (hs : ra_Cn q s) (hw : ra_Cn q w) (ht : ra_Cn q t) :
    (s + w * t) - (s + w * t) / nI (q + 1) * nI (q + 1) = ra_ad (nI (q + 1)) s (ra_mu (nI (q + 1)) w t) := by
  have a1 := hs.1; have a2 := hs.2; have w1 := hw.1; have w2 := hw.2; have t1 := ht.1; have t2 := ht.2
  have b := ra_mb (x := w.toInt) (y := t.toInt) w1 (by omega) t1 (by omega)
  have m := ra_mu_ok hq hw ht
  have a := ra_ad_ok hq hs m.1
  have e : (w * t).toInt = w.toInt * t.toInt := ra_tmul (by omega) (by omega)
  have e2 : (s + w * t).toInt = s.toInt + w.toInt * t.toInt := by rw [ra_tadd (by omega) (by omega), e]
  refine ra_inj (ra_rem_nn hq (by omega)) a.1 ?_
  rw [a.2, m.2, ra_f_rem hq, ra_f_add (by omega) (by omega), ra_f_mul (by omega) (by omega)]
/-- the adjoint at lo is the weighted sum of the tangents -/
theorem rt_adjoint {q n na : Nat} {AC AL AR : Nat → Int32} (hq : q < 32749) (hn : n ≤ 8) (h1q : 1 ≤ q) (tw : rt_TW q n AC AL AR na) {lo hi : Nat} (hl : lo ≤ hi) (hh : hi ≤ na) {W : Nat → Int32} (cW : rt_Cf q n W)
    (h0 : rt_dp AC lo = 0) (h1 : rt_dp AC hi = 0) (nw : ∀ t, hi ≤ t → t < na → AC t ≠ 2) {j : Nat} (hj : j < n) :
    (rt_bR (nI (q + 1)) AC AL AR hi (W, []) (hi - lo)).1 j = rt_sm (nI (q + 1)) W (rt_fR (nI (q + 1)) AC AL AR lo (rt_e j, []) (na - lo)).1 n := by
  have c0 : rt_Cl q [] := fun x hx => absurd hx (List.not_mem_nil)
  have bi := rt_bR_inv hq hn tw hh cW c0 h1.symm (hi - lo) (by omega)
  have fi := rt_fR_inv hq hn tw (rt_e_C (j := j) h1q) c0 h0.symm (na - lo) (by omega)
  have s := rt_sm_ok hq cW fi.1
  refine ra_inj (bi.1 j hj) s.1 ?_
  rw [s.2, ← rt_dc_e hj, rt_main hq hn tw hl hh (rt_e_C h1q) cW h0 h1, rt_fR_nw (k := hi - lo) (na - lo) (by omega) (fun t h1 h2 => nw t (by omega) (by omega))]
end
section
/-! the static structure of a program: kinds kd, arguments ar -/
/-- open blocks ahead of item i, the innermost first: (opener, mark); the mark is the else once there is one -/
def rs_sk (kd : Nat → Int32) : Nat → List (Nat × Nat)
  | 0 => []
  | i + 1 => if kd i = 7 ∨ kd i = 8 ∨ kd i = 9 then (i, i) :: rs_sk kd i
             else if kd i = 10 then ((rs_sk kd i).headD (0, 0)).1 |> fun o => (o, i) :: (rs_sk kd i).tail
             else if kd i = 11 then (rs_sk kd i).tail
             else rs_sk kd i
def rs_p1 (k a : Int32) (d : Nat) : Nat :=
  if k = 0 ∨ k = 1 ∨ k = 2 ∨ k = 3 ∨ (k = 6 ∧ a = 5) then d + 1
  else if k = 4 ∨ k = 5 ∨ k = 8 ∨ k = 9 ∨ (k = 6 ∧ (a = 0 ∨ a = 1 ∨ a = 2 ∨ a = 3)) then d - 1
  else d
def rs_pd (kd ar : Nat → Int32) : Nat → Nat
  | 0 => 0
  | i + 1 => rs_p1 (kd i) (ar i) (rs_pd kd ar i)
def rs_fac (kd ar : Nat → Int32) : List (Nat × Nat) → Int32
  | [] => 1
  | x :: l => if kd x.2 = 7 ∨ kd x.2 = 8 then rs_fac kd ar l * ar x.2 else rs_fac kd ar l
/-- the open loops, the innermost first -/
def rs_lp (kd : Nat → Int32) : List (Nat × Nat) → List Nat
  | [] => []
  | x :: l => if kd x.2 = 7 ∨ kd x.2 = 8 then x.2 :: rs_lp kd l else rs_lp kd l
def rs_s1 (k : Int32) : Nat := if k = 7 ∨ k = 8 ∨ k = 9 then 3 else if k = 10 ∨ k = 11 then 0 else 1
def rs_sz (kd : Nat → Int32) : Nat → Nat
  | 0 => 0
  | i + 1 => rs_sz kd i + rs_s1 (kd i)
def rs_w1 (k a f : Int32) : Int32 := if k = 7 ∨ k = 8 then f * (a + 1) else if k = 9 then 3 * f else if k = 10 ∨ k = 11 then 0 else f
def rs_wk (kd ar : Nat → Int32) : Nat → Int32
  | 0 => 0
  | i + 1 => rs_wk kd ar i + rs_w1 (kd i) (ar i) (rs_fac kd ar (rs_sk kd i))
def rs_re : List (Nat × Nat) → Nat
  | [] => 0
  | x :: l => (if x.2 = x.1 then 2 else 1) + rs_re l
/-- item i may stand where it stands -/
def rs_ok (q n : Nat) (kd ar : Nat → Int32) (i : Nat) : Prop :=
  (kd i = 0 ∧ rs_pd kd ar i < 8 ∧ ra_Cn q (ar i))
  ∨ ((kd i = 1 ∨ kd i = 2) ∧ rs_pd kd ar i < 8 ∧ ∃ c, c < n ∧ ar i = nI c)
  ∨ (kd i = 3 ∧ rs_pd kd ar i < 8 ∧ ∃ c, c < (rs_lp kd (rs_sk kd i)).length ∧ ar i = nI c)
  ∨ ((kd i = 4 ∨ kd i = 5) ∧ rs_pd kd ar i = 1 ∧ ∃ c, c < n ∧ ar i = nI c)
  ∨ (kd i = 6 ∧ (ar i = 0 ∨ ar i = 1 ∨ ar i = 2 ∨ ar i = 3 ∨ ar i = 6) ∧ 2 ≤ rs_pd kd ar i)
  ∨ (kd i = 6 ∧ ar i = 4 ∧ 1 ≤ rs_pd kd ar i)
  ∨ (kd i = 6 ∧ ar i = 5 ∧ 1 ≤ rs_pd kd ar i ∧ rs_pd kd ar i < 8)
  ∨ (kd i = 7 ∧ rs_pd kd ar i = 0 ∧ (rs_sk kd i).length < 6 ∧ ∃ c, 1 ≤ c ∧ c ≤ 16 ∧ ar i = nI c)
  ∨ (kd i = 8 ∧ rs_pd kd ar i = 1 ∧ (rs_sk kd i).length < 6 ∧ ∃ c, 1 ≤ c ∧ c ≤ 16 ∧ ar i = nI c)
  ∨ (kd i = 9 ∧ rs_pd kd ar i = 1 ∧ (rs_sk kd i).length < 6 ∧ ∃ c, c ≤ 3 ∧ ar i = nI c)
  ∨ (kd i = 10 ∧ rs_pd kd ar i = 0 ∧ ∃ o l, rs_sk kd i = (o, o) :: l ∧ kd o = 9)
  ∨ (kd i = 11 ∧ rs_pd kd ar i = 0 ∧ ∃ o m l, rs_sk kd i = (o, m) :: l)
def rs_PV (q n : Nat) (kd ar : Nat → Int32) (N : Nat) : Prop := ∀ i, i < N → rs_ok q n kd ar i
/-! what an item does to the open blocks -/
section
variable {q n N : Nat} {kd ar kd' ar' : Nat → Int32}
theorem rs_skN {i : Nat} (h : kd i ≠ 7) (h8 : kd i ≠ 8) (h9 : kd i ≠ 9) (h10 : kd i ≠ 10) (h11 : kd i ≠ 11) : rs_sk kd (i + 1) = rs_sk kd i := by
  show (if kd i = 7 ∨ kd i = 8 ∨ kd i = 9 then _ else _) = _
  rw [if_neg (by intro z; rcases z with z | z | z <;> contradiction), if_neg h10, if_neg h11]
theorem rs_skO {i : Nat} (h : kd i = 7 ∨ kd i = 8 ∨ kd i = 9) : rs_sk kd (i + 1) = (i, i) :: rs_sk kd i := by
  show (if kd i = 7 ∨ kd i = 8 ∨ kd i = 9 then _ else _) = _
  rw [if_pos h]
theorem rs_skE {i : Nat} (h : kd i = 10) {o m : Nat} {l : List (Nat × Nat)} (e : rs_sk kd i = (o, m) :: l) : rs_sk kd (i + 1) = (o, i) :: l := by
  show (if kd i = 7 ∨ kd i = 8 ∨ kd i = 9 then _ else _) = _
  rw [if_neg (by rw [h]; decide), if_pos h, e]; rfl
theorem rs_skX {i : Nat} (h : kd i = 11) : rs_sk kd (i + 1) = (rs_sk kd i).tail := by
  show (if kd i = 7 ∨ kd i = 8 ∨ kd i = 9 then _ else _) = _
  rw [if_neg (by rw [h]; decide), if_neg (by rw [h]; decide), if_pos h]
theorem rs_cs {i : Nat} (h : rs_ok q n kd ar i) :
    ((kd i < 7 ∧ kd i ≠ 7 ∧ kd i ≠ 8 ∧ kd i ≠ 9 ∧ kd i ≠ 10 ∧ kd i ≠ 11) ∧ rs_sk kd (i + 1) = rs_sk kd i)
    ∨ ((kd i = 7 ∨ kd i = 8 ∨ kd i = 9) ∧ (rs_sk kd i).length < 6 ∧ rs_sk kd (i + 1) = (i, i) :: rs_sk kd i)
    ∨ (kd i = 10 ∧ ∃ o l, rs_sk kd i = (o, o) :: l ∧ kd o = 9 ∧ rs_sk kd (i + 1) = (o, i) :: l)
    ∨ (kd i = 11 ∧ ∃ o m l, rs_sk kd i = (o, m) :: l ∧ rs_sk kd (i + 1) = l) := by
  have plain : ∀ k : Int32, kd i = k → k < 7 → k ≠ 7 → k ≠ 8 → k ≠ 9 → k ≠ 10 → k ≠ 11 → ((kd i < 7 ∧ kd i ≠ 7 ∧ kd i ≠ 8 ∧ kd i ≠ 9 ∧ kd i ≠ 10 ∧ kd i ≠ 11) ∧ rs_sk kd (i + 1) = rs_sk kd i) := by
    intro k e h6 h7 h8 h9 h10 h11
    rw [← e] at h6 h7 h8 h9 h10 h11
    exact ⟨⟨h6, h7, h8, h9, h10, h11⟩, rs_skN h7 h8 h9 h10 h11⟩
  rcases h with ⟨e, _⟩ | ⟨e | e, _⟩ | ⟨e, _⟩ | ⟨e | e, _⟩ | ⟨e, _⟩ | ⟨e, _⟩ | ⟨e, _⟩ | ⟨e, _, l6, _⟩ | ⟨e, _, l6, _⟩ | ⟨e, _, l6, _⟩ | ⟨e, _, o, l, h1, h2⟩ | ⟨e, _, o, m, l, h1⟩
  · exact Or.inl (plain _ e (by decide) (by decide) (by decide) (by decide) (by decide) (by decide))
  · exact Or.inl (plain _ e (by decide) (by decide) (by decide) (by decide) (by decide) (by decide))
  · exact Or.inl (plain _ e (by decide) (by decide) (by decide) (by decide) (by decide) (by decide))
  · exact Or.inl (plain _ e (by decide) (by decide) (by decide) (by decide) (by decide) (by decide))
  · exact Or.inl (plain _ e (by decide) (by decide) (by decide) (by decide) (by decide) (by decide))
  · exact Or.inl (plain _ e (by decide) (by decide) (by decide) (by decide) (by decide) (by decide))
  · exact Or.inl (plain _ e (by decide) (by decide) (by decide) (by decide) (by decide) (by decide))
  · exact Or.inl (plain _ e (by decide) (by decide) (by decide) (by decide) (by decide) (by decide))
  · exact Or.inl (plain _ e (by decide) (by decide) (by decide) (by decide) (by decide) (by decide))
  · exact Or.inr (Or.inl ⟨Or.inl e, l6, rs_skO (Or.inl e)⟩)
  · exact Or.inr (Or.inl ⟨Or.inr (Or.inl e), l6, rs_skO (Or.inr (Or.inl e))⟩)
  · exact Or.inr (Or.inl ⟨Or.inr (Or.inr e), l6, rs_skO (Or.inr (Or.inr e))⟩)
  · exact Or.inr (Or.inr (Or.inl ⟨e, o, l, h1, h2, rs_skE e h1⟩))
  · exact Or.inr (Or.inr (Or.inr ⟨e, o, m, l, h1, by rw [rs_skX e, h1]; rfl⟩))
/-- the open blocks' numbers are below -/
theorem rs_lt : ∀ i, rs_PV q n kd ar i → ∀ x, x ∈ rs_sk kd i → x.1 < i ∧ x.2 < i
  | 0, _, x, hx => absurd hx (List.not_mem_nil)
  | i + 1, pv, x, hx => by
    have ih := rs_lt i (fun j hj => pv j (by omega))
    rcases rs_cs (pv i (by omega)) with ⟨_, e⟩ | ⟨_, _, e⟩ | ⟨_, o, l, h1, _, e⟩ | ⟨_, o, m, l, h1, e⟩
    · rw [e] at hx; have := ih x hx; omega
    · rw [e] at hx
      rcases List.mem_cons.mp hx with z | z
      · subst z; exact ⟨Nat.lt_succ_self i, Nat.lt_succ_self i⟩
      · have := ih x z; omega
    · rw [e] at hx
      rcases List.mem_cons.mp hx with z | z
      · have := ih (o, o) (by rw [h1]; exact List.mem_cons_self ..)
        subst z; exact ⟨by have := this.1; show o < i + 1; omega, Nat.lt_succ_self i⟩
      · have := ih x (by rw [h1]; exact List.mem_cons_of_mem _ z); omega
    · rw [e] at hx
      have := ih x (by rw [h1]; exact List.mem_cons_of_mem _ hx); omega
theorem rs_len : ∀ i, rs_PV q n kd ar i → (rs_sk kd i).length ≤ 6
  | 0, _ => by show (0 : Nat) ≤ 6; omega
  | i + 1, pv => by
    have ih := rs_len i (fun j hj => pv j (by omega))
    rcases rs_cs (pv i (by omega)) with ⟨_, e⟩ | ⟨_, h, e⟩ | ⟨_, o, l, h1, _, e⟩ | ⟨_, o, m, l, h1, e⟩
    · rw [e]; exact ih
    · rw [e, List.length_cons]; omega
    · rw [e, List.length_cons]; rw [h1, List.length_cons] at ih; exact ih
    · rw [e]; rw [h1, List.length_cons] at ih; omega
theorem rs_lpl : ∀ l : List (Nat × Nat), (rs_lp kd l).length ≤ l.length
  | [] => Nat.le_refl _
  | x :: l => by
    have ih := rs_lpl l
    unfold rs_lp
    split
    · rw [List.length_cons, List.length_cons]; omega
    · rw [List.length_cons]; omega
theorem rs_pd8 : ∀ i, rs_PV q n kd ar i → rs_pd kd ar i ≤ 8
  | 0, _ => by show (0 : Nat) ≤ 8; omega
  | i + 1, pv => by
    have ih := rs_pd8 i (fun j hj => pv j (by omega))
    have ok := pv i (by omega)
    show rs_p1 (kd i) (ar i) (rs_pd kd ar i) ≤ 8
    unfold rs_p1
    split
    · rename_i h
      have : rs_pd kd ar i < 8 := by
        rcases h with z | z | z | z | ⟨z, z2⟩ <;> rcases ok with ⟨e, k, _⟩ | ⟨e | e, k, _⟩ | ⟨e, k, _⟩ | ⟨e | e, k, _⟩ | ⟨e, e1 | e1 | e1 | e1 | e1, k⟩ | ⟨e, e1, k⟩ | ⟨e, _, _, k⟩ | ⟨e, k, _⟩ | ⟨e, k, _⟩ | ⟨e, k, _⟩ | ⟨e, k, _⟩ | ⟨e, k, _⟩ <;> first | omega | (rw [z] at e; exact absurd e (by decide)) | (rw [z2] at e1; exact absurd e1 (by decide))
      omega
    · split <;> omega
/-! changes beyond -/
theorem rs_sk_cg : ∀ i, (∀ j, j < i → kd' j = kd j) → rs_sk kd' i = rs_sk kd i
  | 0, _ => rfl
  | i + 1, h => by
    have ih := rs_sk_cg i (fun j hj => h j (by omega))
    unfold rs_sk
    rw [ih, h i (by omega)]
theorem rs_pd_cg : ∀ i, (∀ j, j < i → kd' j = kd j) → (∀ j, j < i → ar' j = ar j) → rs_pd kd' ar' i = rs_pd kd ar i
  | 0, _, _ => rfl
  | i + 1, h, h2 => by
    have ih := rs_pd_cg i (fun j hj => h j (by omega)) (fun j hj => h2 j (by omega))
    unfold rs_pd
    rw [ih, h i (by omega), h2 i (by omega)]
theorem rs_fac_cg : ∀ l : List (Nat × Nat), (∀ x, x ∈ l → kd' x.2 = kd x.2 ∧ ar' x.2 = ar x.2) → rs_fac kd' ar' l = rs_fac kd ar l
  | [], _ => rfl
  | x :: l, h => by
    have ih := rs_fac_cg l (fun y hy => h y (List.mem_cons_of_mem _ hy))
    have e := h x (List.mem_cons_self ..)
    unfold rs_fac
    rw [ih, e.1, e.2]
theorem rs_lp_cg : ∀ l : List (Nat × Nat), (∀ x, x ∈ l → kd' x.2 = kd x.2) → rs_lp kd' l = rs_lp kd l
  | [], _ => rfl
  | x :: l, h => by
    have ih := rs_lp_cg l (fun y hy => h y (List.mem_cons_of_mem _ hy))
    have e := h x (List.mem_cons_self ..)
    unfold rs_lp
    rw [ih, e]
theorem rs_sz_cg : ∀ i, (∀ j, j < i → kd' j = kd j) → rs_sz kd' i = rs_sz kd i
  | 0, _ => rfl
  | i + 1, h => by
    have ih := rs_sz_cg i (fun j hj => h j (by omega))
    unfold rs_sz
    rw [ih, h i (by omega)]
theorem rs_wk_cg : ∀ i, rs_PV q n kd ar i → (∀ j, j < i → kd' j = kd j) → (∀ j, j < i → ar' j = ar j) → rs_wk kd' ar' i = rs_wk kd ar i
  | 0, _, _, _ => rfl
  | i + 1, pv, h, h2 => by
    have pv' : rs_PV q n kd ar i := fun j hj => pv j (by omega)
    have ih := rs_wk_cg i pv' (fun j hj => h j (by omega)) (fun j hj => h2 j (by omega))
    have lt := rs_lt i pv'
    unfold rs_wk
    rw [ih, h i (by omega), h2 i (by omega), rs_sk_cg i (fun j hj => h j (by omega)), rs_fac_cg _ (fun x hx => ⟨h _ (by have := lt x hx; omega), h2 _ (by have := lt x hx; omega)⟩)]
theorem rs_ok_cg {i : Nat} (pv : rs_PV q n kd ar i) (h : ∀ j, j ≤ i → kd' j = kd j) (h2 : ∀ j, j ≤ i → ar' j = ar j) (ok : rs_ok q n kd ar i) : rs_ok q n kd' ar' i := by
  have lt := rs_lt i pv
  unfold rs_ok
  rw [h i (Nat.le_refl _), h2 i (Nat.le_refl _), rs_sk_cg i (fun j hj => h j (by omega)), rs_pd_cg i (fun j hj => h j (by omega)) (fun j hj => h2 j (by omega)), rs_lp_cg _ (fun x hx => h _ (by have := lt x hx; omega))]
  rcases ok with z | z | z | z | z | z | z | z | z | z | ⟨z, z1, o, l, e, z2⟩ | z
  · exact Or.inl z
  · exact Or.inr (Or.inl z)
  · exact Or.inr (Or.inr (Or.inl z))
  · exact Or.inr (Or.inr (Or.inr (Or.inl z)))
  · exact Or.inr (Or.inr (Or.inr (Or.inr (Or.inl z))))
  · exact Or.inr (Or.inr (Or.inr (Or.inr (Or.inr (Or.inl z)))))
  · exact Or.inr (Or.inr (Or.inr (Or.inr (Or.inr (Or.inr (Or.inl z))))))
  · exact Or.inr (Or.inr (Or.inr (Or.inr (Or.inr (Or.inr (Or.inr (Or.inl z)))))))
  · exact Or.inr (Or.inr (Or.inr (Or.inr (Or.inr (Or.inr (Or.inr (Or.inr (Or.inl z))))))))
  · exact Or.inr (Or.inr (Or.inr (Or.inr (Or.inr (Or.inr (Or.inr (Or.inr (Or.inr (Or.inl z)))))))))
  · refine Or.inr (Or.inr (Or.inr (Or.inr (Or.inr (Or.inr (Or.inr (Or.inr (Or.inr (Or.inr (Or.inl ⟨z, z1, o, l, e, ?_⟩))))))))))
    rw [h o (by have := lt (o, o) (by rw [e]; exact List.mem_cons_self ..); omega)]; exact z2
  · exact Or.inr (Or.inr (Or.inr (Or.inr (Or.inr (Or.inr (Or.inr (Or.inr (Or.inr (Or.inr (Or.inr z))))))))))
theorem rs_PV_cg (pv : rs_PV q n kd ar N) (h : ∀ j, j < N → kd' j = kd j) (h2 : ∀ j, j < N → ar' j = ar j) : rs_PV q n kd' ar' N :=
  fun i hi => rs_ok_cg (fun j hj => pv j (by omega)) (fun j hj => h j (by omega)) (fun j hj => h2 j (by omega)) (pv i hi)
end
end
section
/-! nesting and jumps -/
def rs_SI (kd : Nat → Int32) (i : Nat) : Prop := ∀ o m l, (o, m) :: l <:+ rs_sk kd i →
  o ≤ m ∧ m < i ∧ rs_sk kd o = l ∧ (kd o = 7 ∨ kd o = 8 ∨ kd o = 9) ∧ (m = o ∨ (kd m = 10 ∧ kd o = 9)) ∧ ∀ j, m < j → j ≤ i → (o, m) :: l <:+ rs_sk kd j
section
variable {q n N : Nat} {kd ar : Nat → Int32}
theorem rs_si : ∀ i, rs_PV q n kd ar i → rs_SI kd i
  | 0, _ => fun o m l h => by
    have := h.length_le
    have e : rs_sk kd 0 = [] := rfl
    rw [e] at this; simp at this
  | i + 1, pv => by
    have ih := rs_si i (fun j hj => pv j (by omega))
    -- a block that was open before i and is open after it
    have old : ∀ o m l, (o, m) :: l <:+ rs_sk kd i → (o, m) :: l <:+ rs_sk kd (i + 1) → o ≤ m ∧ m < i + 1 ∧ rs_sk kd o = l ∧ (kd o = 7 ∨ kd o = 8 ∨ kd o = 9) ∧ (m = o ∨ (kd m = 10 ∧ kd o = 9)) ∧ ∀ j, m < j → j ≤ i + 1 → (o, m) :: l <:+ rs_sk kd j := by
      intro o m l h h'
      obtain ⟨a1, a2, a3, a4, a5, a6⟩ := ih o m l h
      refine ⟨a1, by omega, a3, a4, a5, fun j h1 h2 => ?_⟩
      by_cases e : j = i + 1
      · rw [e]; exact h'
      · exact a6 j h1 (by omega)
    rcases rs_cs (pv i (by omega)) with ⟨_, e⟩ | ⟨ho, _, e⟩ | ⟨h10, o0, l0, h1, h9, e⟩ | ⟨h11, o0, m0, l0, h1, e⟩
    · intro o m l h
      exact old o m l (by rw [← e]; exact h) h
    · intro o m l h
      have h' := h
      rw [e] at h
      rcases List.suffix_cons_iff.mp h with z | z
      · injection z with z1 z2
        injection z1 with z3 z4
        subst z3; subst z4; subst z2
        refine ⟨Nat.le_refl _, Nat.lt_succ_self _, rfl, ho, Or.inl rfl, fun j h1 h2 => ?_⟩
        rw [show j = m + 1 by omega]; exact h'
      · exact old o m l z h'
    · intro o m l h
      have h' := h
      rw [e] at h
      rcases List.suffix_cons_iff.mp h with z | z
      · injection z with z1 z2
        injection z1 with z3 z4
        subst z3; subst z4; subst z2
        obtain ⟨a1, a2, a3, a4, a5, a6⟩ := ih o o l (by rw [h1]; exact List.suffix_refl _)
        refine ⟨by omega, Nat.lt_succ_self _, a3, a4, Or.inr ⟨h10, h9⟩, fun j h1 h2 => ?_⟩
        rw [show j = m + 1 by omega]; exact h'
      · exact old o m l (by rw [h1]; exact z.trans (List.suffix_cons _ _)) h'
    · intro o m l h
      exact old o m l (by rw [h1]; rw [e] at h; exact h.trans (List.suffix_cons _ _)) h
/-- blocks that ended or got their else before are not the one that is open now -/
theorem rs_jd (pv : rs_PV q n kd ar N) {o m : Nat} {l : List (Nat × Nat)} (h : rs_sk kd N = (o, m) :: l) {i : Nat} (hi : i < N) (hk : kd i = 10 ∨ kd i = 11)
    {o' m' : Nat} {l' : List (Nat × Nat)} (h' : rs_sk kd i = (o', m') :: l') : o' ≠ m ∧ m' ≠ m := by
  have sub : ∀ j, j ≤ N → rs_SI kd j := fun j hj => rs_si j (fun t ht => pv t (by omega))
  obtain ⟨a1, a2, a3, a4, a5, a6⟩ := sub N (Nat.le_refl _) o m l (by rw [h]; exact List.suffix_refl _)
  obtain ⟨b1, b2, b3, b4, b5, b6⟩ := sub i (by omega) o' m' l' (by rw [h']; exact List.suffix_refl _)
  by_cases c : i ≤ m
  · omega
  · have s1 := a6 i (by omega) (by omega)
    have s2 := a6 (i + 1) (by omega) (by omega)
    rw [h'] at s1
    rcases List.suffix_cons_iff.mp s1 with z | z
    · exfalso
      rcases rs_cs (pv i hi) with ⟨⟨_, _, _, _, n10, n11⟩, _⟩ | ⟨ho, _, _⟩ | ⟨_, o1, l1, g1, _, e⟩ | ⟨_, o1, m1, l1, g1, e⟩
      · rcases hk with k | k <;> contradiction
      · rcases hk with k | k <;> rw [k] at ho <;> exact absurd ho (by decide)
      · rw [e] at s2
        rw [h'] at g1
        rw [g1] at z
        injection z with z1 z2
        injection z1 with z3 z4
        rcases List.suffix_cons_iff.mp s2 with y | y
        · injection y with y1 y2
          injection y1 with y3 y4
          omega
        · have := y.length_le
          rw [z2, List.length_cons] at this; omega
      · rw [e] at s2
        rw [h'] at g1
        rw [g1] at z
        injection z with z1 z2
        have := s2.length_le
        rw [z2, List.length_cons] at this; omega
    · have s3 : (o, m) :: l <:+ rs_sk kd o' := by rw [b3]; exact z
      have := (sub o' (by omega) o m l s3).2.1
      omega
/-- the class's jumps -/
def rs_JW (kd jm : Nat → Int32) (N : Nat) : Prop := ∀ i, i < N → ∀ o m l, rs_sk kd i = (o, m) :: l →
  (kd i = 10 → jm o = nI i) ∧ (kd i = 11 → jm i = nI o ∧ jm m = nI i)
theorem rs_JW0 (kd jm : Nat → Int32) : rs_JW kd jm 0 := fun i hi => absurd hi (Nat.not_lt_zero i)
theorem rs_u {f : Nat → Int32} {k : Int32} : ∀ j, j < N → upd f N k j = f j := fun j hj => pk_un (by omega)
/-- a plain item or an opener -/
theorem rs_JW1 {jm : Nat → Int32} {k v : Int32} (pv : rs_PV q n kd ar N) (jw : rs_JW kd jm N) (h10 : k ≠ 10) (h11 : k ≠ 11) : rs_JW (upd kd N k) (upd jm N v) (N + 1) := by
  intro i hi o m l h
  rw [rs_sk_cg i (fun j hj => rs_u (N := N) j (by omega))] at h
  by_cases e : i = N
  · subst e
    rw [pk_us]
    exact ⟨fun z => absurd z h10, fun z => absurd z h11⟩
  · have lt := rs_lt i (fun j hj => pv j (by omega)) (o, m) (by rw [h]; exact List.mem_cons_self ..)
    have l1 : o < i := lt.1
    have l2 : m < i := lt.2
    rw [rs_u i (by omega), rs_u o (by omega), rs_u i (by omega), rs_u m (by omega)]
    exact jw i (by omega) o m l h
theorem rs_JWE {jm : Nat → Int32} {v : Int32} (pv : rs_PV q n kd ar N) (jw : rs_JW kd jm N) {o : Nat} {l : List (Nat × Nat)} (h : rs_sk kd N = (o, o) :: l) : rs_JW (upd kd N 10) (upd (upd jm N v) o (nI N)) (N + 1) := by
  intro i hi o' m' l' h'
  rw [rs_sk_cg i (fun j hj => rs_u (N := N) j (by omega))] at h'
  have lo : o < N := (rs_lt N pv (o, o) (by rw [h]; exact List.mem_cons_self ..)).1
  have si := rs_si N pv o o l (by rw [h]; exact List.suffix_refl _)
  by_cases e : i = N
  · subst e
    rw [h] at h'
    injection h' with z1 z2
    injection z1 with z3 z4
    subst z3
    rw [pk_us, pk_us]
    exact ⟨fun _ => rfl, fun z => absurd z (by decide)⟩
  · have lt := rs_lt i (fun j hj => pv j (by omega)) (o', m') (by rw [h']; exact List.mem_cons_self ..)
    have l1 : o' < i := lt.1
    have l2 : m' < i := lt.2
    rw [rs_u i (by omega)]
    have J := jw i (by omega) o' m' l' h'
    constructor
    · intro z
      have d := rs_jd pv h (i := i) (by omega) (Or.inl z) h'
      rw [pk_un d.1, rs_u o' (by omega)]
      exact J.1 z
    · intro z
      have d := rs_jd pv h (i := i) (by omega) (Or.inr z) h'
      have io : i ≠ o := by
        intro y; subst y
        have := si.2.2.2.1; rw [z] at this; exact absurd this (by decide)
      rw [pk_un d.2, pk_un io, rs_u i (by omega), rs_u m' (by omega)]
      exact J.2 z
theorem rs_JWX {jm : Nat → Int32} {v : Int32} (pv : rs_PV q n kd ar N) (jw : rs_JW kd jm N) {o m : Nat} {l : List (Nat × Nat)} (h : rs_sk kd N = (o, m) :: l) : rs_JW (upd kd N 11) (upd (upd (upd jm N v) N (nI o)) m (nI N)) (N + 1) := by
  intro i hi o' m' l' h'
  rw [rs_sk_cg i (fun j hj => rs_u (N := N) j (by omega))] at h'
  have lm : m < N := (rs_lt N pv (o, m) (by rw [h]; exact List.mem_cons_self ..)).2
  have si := rs_si N pv o m l (by rw [h]; exact List.suffix_refl _)
  by_cases e : i = N
  · subst e
    rw [h] at h'
    injection h' with z1 z2
    injection z1 with z3 z4
    subst z3; subst z4
    rw [pk_us]
    refine ⟨fun z => absurd z (by decide), fun _ => ⟨?_, pk_us⟩⟩
    rw [pk_un (by omega), pk_us]
  · have lt := rs_lt i (fun j hj => pv j (by omega)) (o', m') (by rw [h']; exact List.mem_cons_self ..)
    have l1 : o' < i := lt.1
    have l2 : m' < i := lt.2
    rw [rs_u i (by omega)]
    have J := jw i (by omega) o' m' l' h'
    constructor
    · intro z
      have d := rs_jd pv h (i := i) (by omega) (Or.inl z) h'
      rw [pk_un d.1, rs_u o' (by omega), rs_u o' (by omega)]
      exact J.1 z
    · intro z
      have d := rs_jd pv h (i := i) (by omega) (Or.inr z) h'
      have im : i ≠ m := by
        intro y; subst y
        rcases si.2.2.2.2.1 with w | w
        · have := si.2.2.2.1; rw [← w, z] at this; exact absurd this (by decide)
        · have := w.1; rw [z] at this; exact absurd this (by decide)
      rw [pk_un d.2, pk_un im, rs_u i (by omega), rs_u i (by omega), rs_u m' (by omega), rs_u m' (by omega)]
      exact J.2 z
theorem rs_part_lp (pv : rs_PV q n kd ar N) (hsk : rs_sk kd N = []) {o m : Nat} {l : List (Nat × Nat)} : ∀ (d j : Nat) (pre : List (Nat × Nat)), j + d = N → rs_sk kd j = pre ++ (o, m) :: l →
    ∃ j', j ≤ j' ∧ j' < N ∧ rs_sk kd j' = (o, m) :: l ∧ (kd j' = 10 ∨ kd j' = 11)
  | 0, j, pre, hj, e => by
    rw [show j = N by omega, hsk] at e
    exact absurd e.symm (by simp)
  | d + 1, j, pre, hj, e => by
    have rcv := rs_part_lp pv hsk (o := o) (m := m) (l := l) d (j + 1)
    have up : (∃ j', j + 1 ≤ j' ∧ j' < N ∧ rs_sk kd j' = (o, m) :: l ∧ (kd j' = 10 ∨ kd j' = 11)) → ∃ j', j ≤ j' ∧ j' < N ∧ rs_sk kd j' = (o, m) :: l ∧ (kd j' = 10 ∨ kd j' = 11) := by
      intro ⟨j', h1, h2⟩; exact ⟨j', by omega, h2⟩
    rcases rs_cs (pv j (by omega)) with ⟨_, s⟩ | ⟨_, _, s⟩ | ⟨c10, o1, l1, s0, s9, s⟩ | ⟨c11, o1, m1, l1, s0, s⟩
    · exact up (rcv pre (by omega) (by rw [s]; exact e))
    · exact up (rcv ((j, j) :: pre) (by omega) (by rw [s, e]; rfl))
    · match pre, e with
      | [], e => exact ⟨j, Nat.le_refl _, by omega, e, Or.inl c10⟩
      | x :: pre', e =>
        rw [s0, List.cons_append] at e
        injection e with e1 e2
        exact up (rcv ((o1, j) :: pre') (by omega) (by rw [s, e2]; rfl))
    · match pre, e with
      | [], e => exact ⟨j, Nat.le_refl _, by omega, e, Or.inr c11⟩
      | x :: pre', e =>
        rw [s0, List.cons_append] at e
        injection e with e1 e2
        exact up (rcv pre' (by omega) (by rw [s, e2]))
theorem rs_10 {i : Nat} (ok : rs_ok q n kd ar i) (h : kd i = 10) {o m : Nat} {l : List (Nat × Nat)} (e : rs_sk kd i = (o, m) :: l) : o = m ∧ kd m = 9 := by
  rcases rs_cs ok with ⟨⟨_, _, _, _, n10, _⟩, _⟩ | ⟨ho, _, _⟩ | ⟨_, o1, l1, g1, g9, _⟩ | ⟨h11, _⟩
  · contradiction
  · rw [h] at ho; exact absurd ho (by decide)
  · rw [e] at g1
    injection g1 with z1 z2
    injection z1 with z3 z4
    subst z3; exact ⟨z4.symm, by rw [z4]; exact g9⟩
  · rw [h] at h11; exact absurd h11 (by decide)
/-- the partner that the class's jump names -/
theorem rs_pj {jm : Nat → Int32} (hN : N ≤ 128) (pv : rs_PV q n kd ar N) (hsk : rs_sk kd N = []) (jw : rs_JW kd jm N) {o m : Nat} {l : List (Nat × Nat)} (hm : m < N) (h0 : rs_sk kd (m + 1) = (o, m) :: l) :
    ∃ j, m < j ∧ j < N ∧ rs_sk kd j = (o, m) :: l ∧ jm m = nI j ∧ (kd j = 11 ∨ (kd j = 10 ∧ kd m = 9)) ∧ ∀ j', j' < N → rs_sk kd j' = (o, m) :: l → (kd j' = 11 ∨ kd j' = 10) → j' = j := by
  have key : ∀ j', j' < N → rs_sk kd j' = (o, m) :: l → (kd j' = 11 ∨ kd j' = 10) → jm m = nI j' := by
    intro j' h1 h2 h3
    have J := jw j' h1 o m l h2
    rcases h3 with z | z
    · exact (J.2 z).2
    · have w := rs_10 (pv j' h1) z h2
      rw [← w.1]; exact J.1 z
  obtain ⟨j, h1, h2, h3, h4⟩ := rs_part_lp pv hsk (o := o) (m := m) (l := l) (N - (m + 1)) (m + 1) [] (by omega) h0
  have kj := key j h2 h3 h4.symm
  refine ⟨j, by omega, h2, h3, kj, ?_, fun j' g1 g2 g3 => ?_⟩
  · rcases h4 with z | z
    · exact Or.inr ⟨z, (rs_10 (pv j h2) z h3).2⟩
    · exact Or.inl z
  · have := key j' g1 g2 g3
    rw [kj, nI_eq (by omega) (by omega)] at this
    omega
theorem rs_pd0 {i : Nat} (ok : rs_ok q n kd ar i) (h : kd i = 10 ∨ kd i = 11) : rs_pd kd ar i = 0 ∧ rs_pd kd ar (i + 1) = 0 := by
  have a : rs_pd kd ar i = 0 := by
    rcases h with z | z <;> rcases ok with ⟨e, k, _⟩ | ⟨e | e, k, _⟩ | ⟨e, k, _⟩ | ⟨e | e, k, _⟩ | ⟨e, _⟩ | ⟨e, _⟩ | ⟨e, _⟩ | ⟨e, k, _⟩ | ⟨e, k, _⟩ | ⟨e, k, _⟩ | ⟨e, k, _⟩ | ⟨e, k, _⟩ <;> first | exact k | (rw [z] at e; exact absurd e (by decide))
  refine ⟨a, ?_⟩
  show rs_p1 (kd i) (ar i) (rs_pd kd ar i) = 0
  rw [a]
  rcases h with z | z <;> rw [z] <;> rfl
theorem rs_lp_mem : ∀ {l : List (Nat × Nat)} {s : Nat}, s ∈ rs_lp kd l → ∃ x, x ∈ l ∧ x.2 = s ∧ (kd s = 7 ∨ kd s = 8)
  | [], s, h => absurd h (List.not_mem_nil)
  | x :: l, s, h => by
    unfold rs_lp at h
    split at h
    · rename_i hk
      rcases List.mem_cons.mp h with e | e
      · exact ⟨x, List.mem_cons_self .., e.symm, by rw [e]; exact hk⟩
      · obtain ⟨y, h1, h2⟩ := rs_lp_mem e
        exact ⟨y, List.mem_cons_of_mem _ h1, h2⟩
    · obtain ⟨y, h1, h2⟩ := rs_lp_mem h
      exact ⟨y, List.mem_cons_of_mem _ h1, h2⟩
end
end
section
/-! the reference's arithmetic is the class's -/
section
variable {q : Nat} {a b da db r : Int32}
theorem ra_f_q (hq : q < 32749) : ra_f q (nI q) = -1 := by
  have h : ra_z q ((q : Int) + 1) = ra_z q (q : Int) + ra_z q 1 := ra_z_add q _ _
  rw [show (q : Int) + 1 = ((q + 1 : Nat) : Int) from by omega, ra_z_p, ra_z_1] at h
  rw [ra_f_nI (by omega)]; grind
theorem ra_y0 (hq : q < 32749) (ha : ra_Cn q a) (hb : ra_Cn q b) : ra_yr (nI (q + 1)) (a + b) = ra_ad (nI (q + 1)) a b := by
  have a1 := ha.1; have a2 := ha.2; have b1 := hb.1; have b2 := hb.2
  refine ra_inj (ra_yr_ok hq _).1 (ra_ad_ok hq ha hb).1 ?_
  rw [(ra_yr_ok hq _).2, (ra_ad_ok hq ha hb).2, ra_f_add (by omega) (by omega)]
theorem ra_y0d (hq : q < 32749) (h1 : 1 ≤ q) (ha : ra_Cn q da) (hb : ra_Cn q db) : ra_yr (nI (q + 1)) (da + db) = ra_ad (nI (q + 1)) (ra_mu (nI (q + 1)) 1 da) (ra_mu (nI (q + 1)) 1 db) := by
  have a1 := ha.1; have a2 := ha.2; have b1 := hb.1; have b2 := hb.2
  have m1 := ra_mu_ok hq (ra_Cn_1 h1) ha
  have m2 := ra_mu_ok hq (ra_Cn_1 h1) hb
  refine ra_inj (ra_yr_ok hq _).1 (ra_ad_ok hq m1.1 m2.1).1 ?_
  rw [(ra_yr_ok hq _).2, (ra_ad_ok hq m1.1 m2.1).2, m1.2, m2.2, ra_f_add (by omega) (by omega), ra_f_1]; grind
theorem ra_y1 (hq : q < 32749) (ha : ra_Cn q a) (hb : ra_Cn q b) : ra_yr (nI (q + 1)) (a - b) = ra_sb (nI (q + 1)) a b := by
  have a1 := ha.1; have a2 := ha.2; have b1 := hb.1; have b2 := hb.2
  refine ra_inj (ra_yr_ok hq _).1 (ra_sb_ok hq ha hb).1 ?_
  rw [(ra_yr_ok hq _).2, (ra_sb_ok hq ha hb).2, ra_f_sub (by omega) (by omega)]
theorem ra_y1d (hq : q < 32749) (h1 : 1 ≤ q) (ha : ra_Cn q da) (hb : ra_Cn q db) : ra_yr (nI (q + 1)) (da - db) = ra_ad (nI (q + 1)) (ra_mu (nI (q + 1)) 1 da) (ra_mu (nI (q + 1)) (nI q) db) := by
  have a1 := ha.1; have a2 := ha.2; have b1 := hb.1; have b2 := hb.2
  have m1 := ra_mu_ok hq (ra_Cn_1 h1) ha
  have m2 := ra_mu_ok hq (ra_Cn_nI hq (show q < q + 1 by omega)) hb
  refine ra_inj (ra_yr_ok hq _).1 (ra_ad_ok hq m1.1 m2.1).1 ?_
  rw [(ra_yr_ok hq _).2, (ra_ad_ok hq m1.1 m2.1).2, m1.2, m2.2, ra_f_sub (by omega) (by omega), ra_f_1, ra_f_q hq]; grind
theorem ra_y2 (hq : q < 32749) (ha : ra_Cn q a) (hb : ra_Cn q b) : ra_yr (nI (q + 1)) (a * b) = ra_mu (nI (q + 1)) a b := by
  have a1 := ha.1; have a2 := ha.2; have b1 := hb.1; have b2 := hb.2
  have m := ra_mb (x := a.toInt) (y := b.toInt) a1 (by omega) b1 (by omega)
  refine ra_inj (ra_yr_ok hq _).1 (ra_mu_ok hq ha hb).1 ?_
  rw [(ra_yr_ok hq _).2, (ra_mu_ok hq ha hb).2, ra_f_mul (by omega) (by omega)]
theorem ra_y2d (hq : q < 32749) (ha : ra_Cn q a) (hb : ra_Cn q b) (hda : ra_Cn q da) (hdb : ra_Cn q db) :
    ra_yr (nI (q + 1)) (((da * b) - (da * b) / nI (q + 1) * nI (q + 1)) + ((a * db) - (a * db) / nI (q + 1) * nI (q + 1))) = ra_ad (nI (q + 1)) (ra_mu (nI (q + 1)) b da) (ra_mu (nI (q + 1)) a db) := by
  have m1 := ra_mu_ok hq hda hb
  have m2 := ra_mu_ok hq ha hdb
  have m3 := ra_mu_ok hq hb hda
  show ra_yr (nI (q + 1)) (ra_mu (nI (q + 1)) da b + ra_mu (nI (q + 1)) a db) = _
  have a1 := m1.1.1; have a2 := m1.1.2; have b1 := m2.1.1; have b2 := m2.1.2
  refine ra_inj (ra_yr_ok hq _).1 (ra_ad_ok hq m3.1 m2.1).1 ?_
  rw [(ra_yr_ok hq _).2, (ra_ad_ok hq m3.1 m2.1).2, ra_f_add (by omega) (by omega), m1.2, m2.2, m3.2]; grind
theorem ra_y3 (hq : q < 32749) (ha : ra_Cn q a) (hr : ra_Cn q r) : ra_yr (nI (q + 1)) ((a * r) - (a * r) / nI (q + 1) * nI (q + 1)) = ra_mu (nI (q + 1)) a r :=
  ra_yr_id hq (ra_mu_ok hq ha hr).1
theorem ra_y3d (hq : q < 32749) (ha : ra_Cn q a) (hr : ra_Cn q r) (hda : ra_Cn q da) (hdb : ra_Cn q db) :
    ra_yr (nI (q + 1)) (((da - ((((a * r) - (a * r) / nI (q + 1) * nI (q + 1)) * db) - (((a * r) - (a * r) / nI (q + 1) * nI (q + 1)) * db) / nI (q + 1) * nI (q + 1))) - (da - ((((a * r) - (a * r) / nI (q + 1) * nI (q + 1)) * db) - (((a * r) - (a * r) / nI (q + 1) * nI (q + 1)) * db) / nI (q + 1) * nI (q + 1))) / nI (q + 1) * nI (q + 1)) * r)
     = ra_ad (nI (q + 1)) (ra_mu (nI (q + 1)) r da) (ra_mu (nI (q + 1)) (ra_ng (nI (q + 1)) (ra_mu (nI (q + 1)) (ra_mu (nI (q + 1)) a r) r)) db) := by
  have v := ra_mu_ok hq ha hr
  have s := ra_mu_ok hq v.1 hr
  have n := ra_ng_ok hq s.1
  have x1 := ra_mu_ok hq hr hda
  have x2 := ra_mu_ok hq n.1 hdb
  have m := ra_mu_ok hq v.1 hdb
  show ra_yr (nI (q + 1)) (((da - ra_mu (nI (q + 1)) (ra_mu (nI (q + 1)) a r) db) - (da - ra_mu (nI (q + 1)) (ra_mu (nI (q + 1)) a r) db) / nI (q + 1) * nI (q + 1)) * r) = _
  have a1 := hda.1; have a2 := hda.2; have b1 := m.1.1; have b2 := m.1.2
  have r1 := hr.1; have r2 := hr.2
  have rb := ra_rem_b hq (da - ra_mu (nI (q + 1)) (ra_mu (nI (q + 1)) a r) db)
  have rf := ra_f_rem hq (da - ra_mu (nI (q + 1)) (ra_mu (nI (q + 1)) a r) db)
  have sf := ra_f_sub (q := q) (a := da) (b := ra_mu (nI (q + 1)) (ra_mu (nI (q + 1)) a r) db) (by omega) (by omega)
  generalize (da - ra_mu (nI (q + 1)) (ra_mu (nI (q + 1)) a r) db) - (da - ra_mu (nI (q + 1)) (ra_mu (nI (q + 1)) a r) db) / nI (q + 1) * nI (q + 1) = y at rb rf ⊢
  have bb := ra_mbs (x := y.toInt) (y := r.toInt) (by omega) (by omega) r1 (by omega)
  refine ra_inj (ra_yr_ok hq _).1 (ra_ad_ok hq x1.1 x2.1).1 ?_
  rw [(ra_yr_ok hq _).2, (ra_ad_ok hq x1.1 x2.1).2, ra_f_mul (by omega) (by omega), rf, sf, m.2, v.2, x1.2, x2.2, n.2, s.2, v.2]; grind
theorem ra_y4 (hq : q < 32749) (hb : ra_Cn q b) : ra_yr (nI (q + 1)) (-b) = ra_ng (nI (q + 1)) b := by
  have b1 := hb.1; have b2 := hb.2
  refine ra_inj (ra_yr_ok hq _).1 (ra_ng_ok hq hb).1 ?_
  rw [(ra_yr_ok hq _).2, (ra_ng_ok hq hb).2, ra_f_neg (by omega)]
theorem ra_iv_C {b : Nat} (hp : ra_pr q) : ra_Cn q (nI (ra_iv (q + 1) b)) :=
  ra_Cn_nI (ra_pr_lt hp).1 (ra_sq_lt (by omega) _ _ _ _ (by have := (ra_pr_lt hp).2; omega))
end
end
section
/-! a run's configuration: place, cells, stack, open loops (opener, counter, limit), tape, steps -/
abbrev rc_F : Type := Nat → Int32
abbrev rc_C : Type := Nat × rc_F × List Int32 × List (Nat × Nat × Nat) × rc_F × rc_F × rc_F × Nat × rc_F × rc_F × rc_F × rc_F × rc_F × Nat
/-- the cells after s steps -/
def rc_A (inp SC SN : rc_F) : Nat → rc_F
  | 0 => inp
  | s + 1 => upd (rc_A inp SC SN s) (SC s).toNatClampNeg (SN s)
/-- the tape's place after k steps -/
def rc_tp (SE : rc_F) : Nat → Nat
  | 0 => 0
  | k + 1 => (SE k).toNatClampNeg
/-- tape and steps -/
def rc_TI (q n : Nat) (inp cells : rc_F) (d : Nat) (AC AL AR : rc_F) (na : Nat) (SC SO SN SE : rc_F) (ns : Nat) : Prop :=
  rt_TW q n AC AL AR na ∧ rt_dp AC na = d ∧ ns ≤ na ∧ na ≤ 1024
  ∧ (∀ k, k < ns → SE k = nI (rc_tp SE (k + 1)))
  ∧ (∀ k, k ≤ ns → rc_tp SE k ≤ na ∧ rt_dp AC (rc_tp SE k) = 0)
  ∧ (∀ k, k < ns → rc_tp SE k ≤ rc_tp SE (k + 1))
  ∧ (∀ t, rc_tp SE ns ≤ t → t < na → AC t ≠ 2)
  ∧ (∀ s, s < ns → ∃ i, i < n ∧ SC s = nI i ∧ SO s = rc_A inp SC SN s i)
  ∧ (∀ i, i < 8 → cells i = rc_A inp SC SN ns i)
theorem rc_A_cg {inp SC SN SC' SN' : rc_F} : ∀ s, (∀ t, t < s → SC' t = SC t ∧ SN' t = SN t) → rc_A inp SC' SN' s = rc_A inp SC SN s
  | 0, _ => rfl
  | s + 1, h => by
    have e := h s (by omega)
    unfold rc_A
    rw [rc_A_cg s (fun t ht => h t (by omega)), e.1, e.2]
theorem rc_tp_cg {SE SE' : rc_F} {k : Nat} (h : ∀ t, t < k → SE' t = SE t) : rc_tp SE' k = rc_tp SE k := by
  match k, h with
  | 0, _ => rfl
  | k + 1, h => show (SE' k).toNatClampNeg = _; rw [h k (by omega)]; rfl
section
variable {q n N : Nat} {kd ar jm inp cells AC AL AR SI SC SO SN SE : rc_F} {d na ns : Nat}
theorem rc_TI0 (hc : ∀ i, i < 8 → cells i = inp i) : rc_TI q n inp cells 0 AC AL AR 0 SC SO SN SE 0 := by
  refine ⟨fun t h => absurd h (Nat.not_lt_zero t), rfl, Nat.le_refl _, by omega, fun t h => absurd h (Nat.not_lt_zero t), fun k hk => ?_, fun t h => absurd h (Nat.not_lt_zero t), fun t _ h => absurd h (Nat.not_lt_zero t), fun t h => absurd h (Nat.not_lt_zero t), hc⟩
  rw [show k = 0 by omega]; exact ⟨Nat.le_refl _, rfl⟩
theorem rc_emit (h : rc_TI q n inp cells d AC AL AR na SC SO SN SE ns) (hna : na < 1024) {c l r : Int32} (ok : rt_ok q n c l r d) (h2 : c ≠ 2) {d' : Nat} (hd : d' = d - rt_po c + rt_pu c) :
    rc_TI q n inp cells d' (upd AC na c) (upd AL na l) (upd AR na r) (na + 1) SC SO SN SE ns := by
  obtain ⟨a1, a2, a3, a4, a5, a6, a7, a8, a9, a10⟩ := h
  have u : ∀ {f : rc_F} {x : Int32} {t : Nat}, t < na → upd f na x t = f t := fun ht => pk_un (by omega)
  have dp : ∀ t, t ≤ na → rt_dp (upd AC na c) t = rt_dp AC t := fun t ht => rt_dp_cg t (fun s hs => u (by omega))
  refine ⟨fun t ht => ?_, ?_, by omega, by omega, a5, fun k hk => ?_, a7, fun t h1 h3 => ?_, a9, a10⟩
  · rw [dp t (by omega)]
    by_cases e : t = na
    · subst e; rw [pk_us, pk_us, pk_us, a2]; exact ok
    · rw [u (by omega), u (by omega), u (by omega)]; exact a1 t (by omega)
  · show rt_dp (upd AC na c) na - rt_po (upd AC na c na) + rt_pu (upd AC na c na) = d'
    rw [dp na (Nat.le_refl _), pk_us, a2, hd]
  · have := a6 k hk
    rw [dp _ this.1]; exact ⟨by omega, this.2⟩
  · by_cases e : t = na
    · subst e; rw [pk_us]; exact h2
    · rw [u (by omega)]; exact a8 t h1 (by omega)
theorem rc_step (h : rc_TI q n inp cells 1 AC AL AR na SC SO SN SE ns) (hna : na < 1024) {i : Nat} (hi : i < n) (hn : n ≤ 8) {v : Int32} :
    rc_TI q n inp (upd cells i v) 0 (upd AC na 2) (upd AL na (nI i)) (upd AR na 0) (na + 1) (upd SC ns (nI i)) (upd SO ns (cells i)) (upd SN ns v) (upd SE ns (nI (na + 1))) (ns + 1) := by
  obtain ⟨a1, a2, a3, a4, a5, a6, a7, a8, a9, a10⟩ := h
  have u : ∀ {f : rc_F} {x : Int32} {t : Nat}, t < na → upd f na x t = f t := fun ht => pk_un (by omega)
  have w : ∀ {f : rc_F} {x : Int32} {t : Nat}, t < ns → upd f ns x t = f t := fun ht => pk_un (by omega)
  have dp : ∀ t, t ≤ na → rt_dp (upd AC na 2) t = rt_dp AC t := fun t ht => rt_dp_cg t (fun s hs => u (by omega))
  have dpn : rt_dp (upd AC na 2) (na + 1) = 0 := by
    show rt_dp (upd AC na 2) na - rt_po (upd AC na 2 na) + rt_pu (upd AC na 2 na) = 0
    rw [dp na (Nat.le_refl _), pk_us, a2]; rfl
  have tp : ∀ k, k ≤ ns → rc_tp (upd SE ns (nI (na + 1))) k = rc_tp SE k := fun k hk => rc_tp_cg (fun t ht => w (by omega))
  have tpn : rc_tp (upd SE ns (nI (na + 1))) (ns + 1) = na + 1 := by
    show (upd SE ns (nI (na + 1)) ns).toNatClampNeg = na + 1
    rw [pk_us, nI_clamp (by omega)]
  have cA : ∀ s, s ≤ ns → rc_A inp (upd SC ns (nI i)) (upd SN ns v) s = rc_A inp SC SN s := fun s hs => rc_A_cg s (fun t ht => ⟨w (by omega), w (by omega)⟩)
  refine ⟨fun t ht => ?_, dpn, by omega, by omega, fun k hk => ?_, fun k hk => ?_, fun k hk => ?_, fun t h1 h3 => ?_, fun s hs => ?_, fun j hj => ?_⟩
  · rw [dp t (by omega)]
    by_cases e : t = na
    · subst e; rw [pk_us, pk_us, pk_us, a2]
      exact ⟨Or.inr (Or.inr (Or.inl ⟨rfl, Nat.le_refl _, i, hi, rfl⟩)), by omega⟩
    · rw [u (by omega), u (by omega), u (by omega)]; exact a1 t (by omega)
  · by_cases e : k = ns
    · subst e; rw [pk_us, tpn]
    · rw [w (by omega), tp (k + 1) (by omega)]; exact a5 k (by omega)
  · by_cases e : k = ns + 1
    · subst e; rw [tpn]; exact ⟨Nat.le_refl _, dpn⟩
    · have := a6 k (by omega)
      rw [tp k (by omega), dp _ this.1]; exact ⟨by omega, this.2⟩
  · by_cases e : k = ns
    · subst e; rw [tpn, tp k (Nat.le_refl _)]; have := a6 k (Nat.le_refl _); omega
    · rw [tp k (by omega), tp (k + 1) (by omega)]; exact a7 k (by omega)
  · rw [tpn] at h1; omega
  · by_cases e : s = ns
    · subst e
      refine ⟨i, hi, pk_us, ?_⟩
      rw [pk_us, cA s (Nat.le_refl _)]; exact a10 i (by omega)
    · obtain ⟨i', h1, h2, h3⟩ := a9 s (by omega)
      refine ⟨i', h1, by rw [w (by omega)]; exact h2, ?_⟩
      rw [w (by omega), cA s (by omega)]; exact h3
  · show upd cells i v j = upd (rc_A inp _ _ ns) (upd SC ns (nI i) ns).toNatClampNeg (upd SN ns v ns) j
    rw [pk_us, pk_us, nI_clamp (by omega), cA ns (Nat.le_refl _)]
    by_cases e : j = i
    · rw [e, pk_us, pk_us]
    · rw [pk_un e, pk_un e]; exact a10 j hj
end
/-- a configuration of a run of the program kd, ar (N items, sealed) on the inputs inp -/
def rc_G (q n N : Nat) (kd ar inp : rc_F) : rc_C → Prop
  | (pc, cells, st, lp, AC, AL, AR, na, _, SC, SO, SN, SE, ns) =>
    pc ≤ N ∧ rt_Cf q n cells ∧ rt_Cl q st ∧ st.length = rs_pd kd ar pc ∧ lp.map (fun x => x.1) = rs_lp kd (rs_sk kd pc)
    ∧ (∀ x, x ∈ lp → x.2.1 < x.2.2 ∧ x.2.2 ≤ 16) ∧ rc_TI q n inp cells st.length AC AL AR na SC SO SN SE ns
end
section
/-! X: the small methods -/
/-- an array that holds a list, its head at the top -/
def rl_A {α : Type} (f : α → Int32) (arr : Nat → Int32) : List α → Prop
  | [] => True
  | x :: l => arr l.length = f x ∧ rl_A f arr l
theorem rl_up {α : Type} {f : α → Int32} {arr : Nat → Int32} {k : Nat} {v : Int32} : ∀ {l : List α}, l.length ≤ k → rl_A f arr l → rl_A f (upd arr k v) l
  | [], _, _ => True.intro
  | x :: l, h, a => by
    rw [List.length_cons] at h
    exact ⟨by rw [pk_un (by omega)]; exact a.1, rl_up (by omega) a.2⟩
theorem rl_push {α : Type} {f : α → Int32} {arr : Nat → Int32} {x : α} {l : List α} (a : rl_A f arr l) : rl_A f (upd arr l.length (f x)) (x :: l) :=
  ⟨pk_us, rl_up (Nat.le_refl _) a⟩
section
variable {f_STORE_CELL f_STORE_AT f_OPERATOR f_LOOP f_LOOP_BY f_IF f_ELSE f_END f_ACT_ZERO f_ACT_READ f_ACT_WRITE f_ACT_DROP f_ACT_COMBINE f_ACT_NEGATE f_ACT_COPY f_ACT_EXCHANGE f_prime f_cellCount f_room f_phase f_itemCount f_size f_pending f_factor f_work f_openCount f_openLoops f_depth f_loopDepth f_faultItem f_actCount f_stepCount f_cursor f_hasTangent f_flowDepth : Int32} {a_inputs a_weights a_itemKind a_itemArg a_itemJump a_openItem a_openElse a_openFactor a_cells a_stack a_loopCounter a_loopLimit a_actCode a_actLeft a_actRight a_stepItem a_stepCell a_stepOld a_stepNew a_stepEnd a_adjoints a_tangents a_flow : Nat → Int32}
theorem rx_isCell_t {post : Int32 → Prop} {n c : Nat} (h : c < n) (hn : n ≤ 8) (K : post 1) : wpX_isCell post (f_STORE_CELL, f_STORE_AT, f_OPERATOR, f_LOOP, f_LOOP_BY, f_IF, f_ELSE, f_END, f_ACT_ZERO, f_ACT_READ, f_ACT_WRITE, f_ACT_DROP, f_ACT_COMBINE, f_ACT_NEGATE, f_ACT_COPY, f_ACT_EXCHANGE, f_prime, nI n, f_room, f_phase, f_itemCount, f_size, f_pending, f_factor, f_work, f_openCount, f_openLoops, f_depth, f_loopDepth, f_faultItem, f_actCount, f_stepCount, f_cursor, f_hasTangent, f_flowDepth, a_inputs, a_weights, a_itemKind, a_itemArg, a_itemJump, a_openItem, a_openElse, a_openFactor, a_cells, a_stack, a_loopCounter, a_loopLimit, a_actCode, a_actLeft, a_actRight, a_stepItem, a_stepCell, a_stepOld, a_stepNew, a_stepEnd, a_adjoints, a_tangents, a_flow) (nI c) :=
  br_f (nI_pos (by omega)) (br_f (nI_ge h (by omega)) K)
theorem rx_isCell_f {post : Int32 → Prop} {n : Nat} {i : Int32} (h : i < 0 ∨ nI n ≤ i) (K : post 0) : wpX_isCell post (f_STORE_CELL, f_STORE_AT, f_OPERATOR, f_LOOP, f_LOOP_BY, f_IF, f_ELSE, f_END, f_ACT_ZERO, f_ACT_READ, f_ACT_WRITE, f_ACT_DROP, f_ACT_COMBINE, f_ACT_NEGATE, f_ACT_COPY, f_ACT_EXCHANGE, f_prime, nI n, f_room, f_phase, f_itemCount, f_size, f_pending, f_factor, f_work, f_openCount, f_openLoops, f_depth, f_loopDepth, f_faultItem, f_actCount, f_stepCount, f_cursor, f_hasTangent, f_flowDepth, a_inputs, a_weights, a_itemKind, a_itemArg, a_itemJump, a_openItem, a_openElse, a_openFactor, a_cells, a_stack, a_loopCounter, a_loopLimit, a_actCode, a_actLeft, a_actRight, a_stepItem, a_stepCell, a_stepOld, a_stepNew, a_stepEnd, a_adjoints, a_tangents, a_flow) i :=
  br_c (fun _ => K) (fun h0 => br_t (h.elim (fun z => absurd z h0) id) K)
theorem rx_residue {post : Int32 → Prop} {q : Nat} {x : Int32} (hq : q < 32749) (K : post (ra_yr (nI (q + 1)) x)) : wpX_residue post (f_STORE_CELL, f_STORE_AT, f_OPERATOR, f_LOOP, f_LOOP_BY, f_IF, f_ELSE, f_END, f_ACT_ZERO, f_ACT_READ, f_ACT_WRITE, f_ACT_DROP, f_ACT_COMBINE, f_ACT_NEGATE, f_ACT_COPY, f_ACT_EXCHANGE, nI (q + 1), f_cellCount, f_room, f_phase, f_itemCount, f_size, f_pending, f_factor, f_work, f_openCount, f_openLoops, f_depth, f_loopDepth, f_faultItem, f_actCount, f_stepCount, f_cursor, f_hasTangent, f_flowDepth, a_inputs, a_weights, a_itemKind, a_itemArg, a_itemJump, a_openItem, a_openElse, a_openFactor, a_cells, a_stack, a_loopCounter, a_loopLimit, a_actCode, a_actLeft, a_actRight, a_stepItem, a_stepCell, a_stepOld, a_stepNew, a_stepEnd, a_adjoints, a_tangents, a_flow) x := by
  refine And.intro (nI_ne0 (by omega) (by omega)) (fun y ey => ?_)
  have e := ra_xr hq x
  rw [← ey] at e
  refine br_c (fun h => ?_) (fun h z ez => ?_)
  · rw [if_pos h] at e; rw [e]; exact K
  · rw [if_neg h] at e; rw [ez, e]; exact K
theorem rx_add {post : Int32 → Prop} {a b : Int32} (K : post (ra_ad f_prime a b)) : wpX_add post (f_STORE_CELL, f_STORE_AT, f_OPERATOR, f_LOOP, f_LOOP_BY, f_IF, f_ELSE, f_END, f_ACT_ZERO, f_ACT_READ, f_ACT_WRITE, f_ACT_DROP, f_ACT_COMBINE, f_ACT_NEGATE, f_ACT_COPY, f_ACT_EXCHANGE, f_prime, f_cellCount, f_room, f_phase, f_itemCount, f_size, f_pending, f_factor, f_work, f_openCount, f_openLoops, f_depth, f_loopDepth, f_faultItem, f_actCount, f_stepCount, f_cursor, f_hasTangent, f_flowDepth, a_inputs, a_weights, a_itemKind, a_itemArg, a_itemJump, a_openItem, a_openElse, a_openFactor, a_cells, a_stack, a_loopCounter, a_loopLimit, a_actCode, a_actLeft, a_actRight, a_stepItem, a_stepCell, a_stepOld, a_stepNew, a_stepEnd, a_adjoints, a_tangents, a_flow) a b := by
  intro s es
  unfold ra_ad at K
  refine br_c (fun h => ?_) (fun h z ez => ?_)
  · rw [es] at h; rw [if_pos h] at K; rw [es]; exact K
  · rw [es] at h; rw [if_neg h] at K; rw [ez, es]; exact K
theorem rx_subtract {post : Int32 → Prop} {a b : Int32} (K : post (ra_sb f_prime a b)) : wpX_subtract post (f_STORE_CELL, f_STORE_AT, f_OPERATOR, f_LOOP, f_LOOP_BY, f_IF, f_ELSE, f_END, f_ACT_ZERO, f_ACT_READ, f_ACT_WRITE, f_ACT_DROP, f_ACT_COMBINE, f_ACT_NEGATE, f_ACT_COPY, f_ACT_EXCHANGE, f_prime, f_cellCount, f_room, f_phase, f_itemCount, f_size, f_pending, f_factor, f_work, f_openCount, f_openLoops, f_depth, f_loopDepth, f_faultItem, f_actCount, f_stepCount, f_cursor, f_hasTangent, f_flowDepth, a_inputs, a_weights, a_itemKind, a_itemArg, a_itemJump, a_openItem, a_openElse, a_openFactor, a_cells, a_stack, a_loopCounter, a_loopLimit, a_actCode, a_actLeft, a_actRight, a_stepItem, a_stepCell, a_stepOld, a_stepNew, a_stepEnd, a_adjoints, a_tangents, a_flow) a b := by
  intro s es
  unfold ra_sb at K
  refine br_c (fun h => ?_) (fun h z ez => ?_)
  · rw [es] at h; rw [if_pos h] at K; rw [es]; exact K
  · rw [es] at h; rw [if_neg h] at K; rw [ez, es]; exact K
theorem rx_multiply {post : Int32 → Prop} {q : Nat} {a b : Int32} (hq : q < 32749) (K : post (ra_mu (nI (q + 1)) a b)) : wpX_multiply post (f_STORE_CELL, f_STORE_AT, f_OPERATOR, f_LOOP, f_LOOP_BY, f_IF, f_ELSE, f_END, f_ACT_ZERO, f_ACT_READ, f_ACT_WRITE, f_ACT_DROP, f_ACT_COMBINE, f_ACT_NEGATE, f_ACT_COPY, f_ACT_EXCHANGE, nI (q + 1), f_cellCount, f_room, f_phase, f_itemCount, f_size, f_pending, f_factor, f_work, f_openCount, f_openLoops, f_depth, f_loopDepth, f_faultItem, f_actCount, f_stepCount, f_cursor, f_hasTangent, f_flowDepth, a_inputs, a_weights, a_itemKind, a_itemArg, a_itemJump, a_openItem, a_openElse, a_openFactor, a_cells, a_stack, a_loopCounter, a_loopLimit, a_actCode, a_actLeft, a_actRight, a_stepItem, a_stepCell, a_stepOld, a_stepNew, a_stepEnd, a_adjoints, a_tangents, a_flow) a b :=
  And.intro (nI_ne0 (by omega) (by omega)) K
theorem rx_negate {post : Int32 → Prop} {a : Int32} (K : post (ra_ng f_prime a)) : wpX_negate post (f_STORE_CELL, f_STORE_AT, f_OPERATOR, f_LOOP, f_LOOP_BY, f_IF, f_ELSE, f_END, f_ACT_ZERO, f_ACT_READ, f_ACT_WRITE, f_ACT_DROP, f_ACT_COMBINE, f_ACT_NEGATE, f_ACT_COPY, f_ACT_EXCHANGE, f_prime, f_cellCount, f_room, f_phase, f_itemCount, f_size, f_pending, f_factor, f_work, f_openCount, f_openLoops, f_depth, f_loopDepth, f_faultItem, f_actCount, f_stepCount, f_cursor, f_hasTangent, f_flowDepth, a_inputs, a_weights, a_itemKind, a_itemArg, a_itemJump, a_openItem, a_openElse, a_openFactor, a_cells, a_stack, a_loopCounter, a_loopLimit, a_actCode, a_actLeft, a_actRight, a_stepItem, a_stepCell, a_stepOld, a_stepNew, a_stepEnd, a_adjoints, a_tangents, a_flow) a := by
  unfold ra_ng at K
  refine br_c (fun h => ?_) (fun h => ?_)
  · rw [if_pos h] at K; exact K
  · rw [if_neg h] at K; exact K
theorem rx_bit {e i : Nat} (he : e < 2 ^ 31) (hi : i < 15) : (nI e >>> (nI i &&& 31)) &&& 1 = nI (e / 2 ^ i % 2) := by
  have hs : ∀ i, i < 15 → ((nI i &&& 31 : Int32).toBitVec.smod 32).toNat = i := by decide
  rw [pk_shrN he _ i (hs i hi), pk_andN (k := 1) (by have := Nat.div_le_self e (2 ^ i); omega) (by decide)]
theorem rx_inv_lp {post : Int32 → Prop} {q e : Nat} (hq : q < 32749) (he : e < 2 ^ 31) : ∀ (k i r s : Nat), i + k = 15 → post (nI (ra_sq (q + 1) k (e / 2 ^ i) r s)) → r < q + 1 → s < q + 1 →
    wX_inverse_15 post (nI e) f_STORE_CELL f_STORE_AT f_OPERATOR f_LOOP f_LOOP_BY f_IF f_ELSE f_END f_ACT_ZERO f_ACT_READ f_ACT_WRITE f_ACT_DROP f_ACT_COMBINE f_ACT_NEGATE f_ACT_COPY f_ACT_EXCHANGE (nI (q + 1)) f_cellCount f_room f_phase f_itemCount f_size f_pending f_factor f_work f_openCount f_openLoops f_depth f_loopDepth f_faultItem f_actCount f_stepCount f_cursor f_hasTangent f_flowDepth a_inputs a_weights a_itemKind a_itemArg a_itemJump a_openItem a_openElse a_openFactor a_cells a_stack a_loopCounter a_loopLimit a_actCode a_actLeft a_actRight a_stepItem a_stepCell a_stepOld a_stepNew a_stepEnd a_adjoints a_tangents a_flow (k + 1) (nI r) (nI s) (nI i)
  | 0, i, r, s, hi, K, _, _ => br_t (nI_le (a := 15) (b := i) (by omega) (by omega)) K
  | k + 1, i, r, s, hi, K, hr, hs => by
    have m0 : 0 < q + 1 := by omega
    have b1 : r * s < 2 ^ 31 := Nat.lt_of_le_of_lt (Nat.mul_le_mul (show r ≤ 32748 by omega) (show s ≤ 32748 by omega)) (by decide)
    have b2 : s * s < 2 ^ 31 := Nat.lt_of_le_of_lt (Nat.mul_le_mul (show s ≤ 32748 by omega) (show s ≤ 32748 by omega)) (by decide)
    have em : ∀ a b : Nat, a * b < 2 ^ 31 → ra_mu (nI (q + 1)) (nI a) (nI b) = nI (a * b % (q + 1)) := by
      intro a b h
      unfold ra_mu
      rw [pk_mul, pk_rem h m0 (by omega)]
    have eh : e / 2 ^ i / 2 = e / 2 ^ (i + 1) := by rw [Nat.div_div_eq_div_mul, Nat.pow_succ]
    unfold ra_sq at K
    rw [eh] at K
    have tail : ∀ r' : Nat, r' < q + 1 → post (nI (ra_sq (q + 1) k (e / 2 ^ (i + 1)) r' (s * s % (q + 1)))) → wX_inverse_40 post (wX_inverse_15 post (nI e) f_STORE_CELL f_STORE_AT f_OPERATOR f_LOOP f_LOOP_BY f_IF f_ELSE f_END f_ACT_ZERO f_ACT_READ f_ACT_WRITE f_ACT_DROP f_ACT_COMBINE f_ACT_NEGATE f_ACT_COPY f_ACT_EXCHANGE (nI (q + 1)) f_cellCount f_room f_phase f_itemCount f_size f_pending f_factor f_work f_openCount f_openLoops f_depth f_loopDepth f_faultItem f_actCount f_stepCount f_cursor f_hasTangent f_flowDepth a_inputs a_weights a_itemKind a_itemArg a_itemJump a_openItem a_openElse a_openFactor a_cells a_stack a_loopCounter a_loopLimit a_actCode a_actLeft a_actRight a_stepItem a_stepCell a_stepOld a_stepNew a_stepEnd a_adjoints a_tangents a_flow (k + 1)) (nI r') (nI s) (nI e) (nI i) f_STORE_CELL f_STORE_AT f_OPERATOR f_LOOP f_LOOP_BY f_IF f_ELSE f_END f_ACT_ZERO f_ACT_READ f_ACT_WRITE f_ACT_DROP f_ACT_COMBINE f_ACT_NEGATE f_ACT_COPY f_ACT_EXCHANGE (nI (q + 1)) f_cellCount f_room f_phase f_itemCount f_size f_pending f_factor f_work f_openCount f_openLoops f_depth f_loopDepth f_faultItem f_actCount f_stepCount f_cursor f_hasTangent f_flowDepth a_inputs a_weights a_itemKind a_itemArg a_itemJump a_openItem a_openElse a_openFactor a_cells a_stack a_loopCounter a_loopLimit a_actCode a_actLeft a_actRight a_stepItem a_stepCell a_stepOld a_stepNew a_stepEnd a_adjoints a_tangents a_flow := by
      intro r' hr' K'
      refine rx_multiply hq ?_
      rw [em _ _ b2]
      exact nm_r (nI_1 i) (rx_inv_lp hq he k (i + 1) r' (s * s % (q + 1)) (by omega) K' hr' (Nat.mod_lt _ m0))
    refine br_f (nI_ge (a := i) (b := 15) (by omega) (by decide)) ?_
    rw [rx_bit he (by omega)]
    rcases Nat.mod_two_eq_zero_or_one (e / 2 ^ i) with z | z
    · rw [z] at K ⊢
      exact br_f (by decide) (tail r hr K)
    · rw [z] at K ⊢
      refine br_t (by decide) (rx_multiply hq ?_)
      rw [em _ _ b1]
      exact tail _ (Nat.mod_lt _ m0) K
theorem rx_inverse {post : Int32 → Prop} {q b : Nat} (hp : ra_pr q) (hb : b < q + 1) (K : post (nI (ra_iv (q + 1) b))) : wpX_inverse post (f_STORE_CELL, f_STORE_AT, f_OPERATOR, f_LOOP, f_LOOP_BY, f_IF, f_ELSE, f_END, f_ACT_ZERO, f_ACT_READ, f_ACT_WRITE, f_ACT_DROP, f_ACT_COMBINE, f_ACT_NEGATE, f_ACT_COPY, f_ACT_EXCHANGE, nI (q + 1), f_cellCount, f_room, f_phase, f_itemCount, f_size, f_pending, f_factor, f_work, f_openCount, f_openLoops, f_depth, f_loopDepth, f_faultItem, f_actCount, f_stepCount, f_cursor, f_hasTangent, f_flowDepth, a_inputs, a_weights, a_itemKind, a_itemArg, a_itemJump, a_openItem, a_openElse, a_openFactor, a_cells, a_stack, a_loopCounter, a_loopLimit, a_actCode, a_actLeft, a_actRight, a_stepItem, a_stepCell, a_stepOld, a_stepNew, a_stepEnd, a_adjoints, a_tangents, a_flow) (nI b) := by
  have hq := ra_pr_lt hp
  refine nm_r (e' := nI (q + 1 - 2)) (pk_sub (a := q + 1) (b := 2) (by omega)) ⟨16, ?_⟩
  exact rx_inv_lp hq.1 (by omega) 15 0 1 b (by omega) (by rw [Nat.pow_zero, Nat.div_one]; exact K) (by omega) hb
theorem rx_pushValue {post : SX → Prop} {d : Nat} {v : Int32} (hd : d < 8) (K : post (f_STORE_CELL, f_STORE_AT, f_OPERATOR, f_LOOP, f_LOOP_BY, f_IF, f_ELSE, f_END, f_ACT_ZERO, f_ACT_READ, f_ACT_WRITE, f_ACT_DROP, f_ACT_COMBINE, f_ACT_NEGATE, f_ACT_COPY, f_ACT_EXCHANGE, f_prime, f_cellCount, f_room, f_phase, f_itemCount, f_size, f_pending, f_factor, f_work, f_openCount, f_openLoops, nI (d + 1), f_loopDepth, f_faultItem, f_actCount, f_stepCount, f_cursor, f_hasTangent, f_flowDepth, a_inputs, a_weights, a_itemKind, a_itemArg, a_itemJump, a_openItem, a_openElse, a_openFactor, a_cells, upd a_stack d v, a_loopCounter, a_loopLimit, a_actCode, a_actLeft, a_actRight, a_stepItem, a_stepCell, a_stepOld, a_stepNew, a_stepEnd, a_adjoints, a_tangents, a_flow)) : wpX_pushValue post (f_STORE_CELL, f_STORE_AT, f_OPERATOR, f_LOOP, f_LOOP_BY, f_IF, f_ELSE, f_END, f_ACT_ZERO, f_ACT_READ, f_ACT_WRITE, f_ACT_DROP, f_ACT_COMBINE, f_ACT_NEGATE, f_ACT_COPY, f_ACT_EXCHANGE, f_prime, f_cellCount, f_room, f_phase, f_itemCount, f_size, f_pending, f_factor, f_work, f_openCount, f_openLoops, nI d, f_loopDepth, f_faultItem, f_actCount, f_stepCount, f_cursor, f_hasTangent, f_flowDepth, a_inputs, a_weights, a_itemKind, a_itemArg, a_itemJump, a_openItem, a_openElse, a_openFactor, a_cells, a_stack, a_loopCounter, a_loopLimit, a_actCode, a_actLeft, a_actRight, a_stepItem, a_stepCell, a_stepOld, a_stepNew, a_stepEnd, a_adjoints, a_tangents, a_flow) v :=
  br_f (nI_ge (a := d) (b := 8) hd (by decide)) ⟨vp_in_nI hd (by decide), nm_r (e' := upd a_stack d v) (by rw [nI_clamp (by omega)]) (nm_r (nI_1 d) K)⟩
theorem rx_popValue {post : Int32 → SX → Prop} {d : Nat} (hd : d < 8) (K : post (a_stack d) (f_STORE_CELL, f_STORE_AT, f_OPERATOR, f_LOOP, f_LOOP_BY, f_IF, f_ELSE, f_END, f_ACT_ZERO, f_ACT_READ, f_ACT_WRITE, f_ACT_DROP, f_ACT_COMBINE, f_ACT_NEGATE, f_ACT_COPY, f_ACT_EXCHANGE, f_prime, f_cellCount, f_room, f_phase, f_itemCount, f_size, f_pending, f_factor, f_work, f_openCount, f_openLoops, nI d, f_loopDepth, f_faultItem, f_actCount, f_stepCount, f_cursor, f_hasTangent, f_flowDepth, a_inputs, a_weights, a_itemKind, a_itemArg, a_itemJump, a_openItem, a_openElse, a_openFactor, a_cells, a_stack, a_loopCounter, a_loopLimit, a_actCode, a_actLeft, a_actRight, a_stepItem, a_stepCell, a_stepOld, a_stepNew, a_stepEnd, a_adjoints, a_tangents, a_flow)) : wpX_popValue post (f_STORE_CELL, f_STORE_AT, f_OPERATOR, f_LOOP, f_LOOP_BY, f_IF, f_ELSE, f_END, f_ACT_ZERO, f_ACT_READ, f_ACT_WRITE, f_ACT_DROP, f_ACT_COMBINE, f_ACT_NEGATE, f_ACT_COPY, f_ACT_EXCHANGE, f_prime, f_cellCount, f_room, f_phase, f_itemCount, f_size, f_pending, f_factor, f_work, f_openCount, f_openLoops, nI (d + 1), f_loopDepth, f_faultItem, f_actCount, f_stepCount, f_cursor, f_hasTangent, f_flowDepth, a_inputs, a_weights, a_itemKind, a_itemArg, a_itemJump, a_openItem, a_openElse, a_openFactor, a_cells, a_stack, a_loopCounter, a_loopLimit, a_actCode, a_actLeft, a_actRight, a_stepItem, a_stepCell, a_stepOld, a_stepNew, a_stepEnd, a_adjoints, a_tangents, a_flow) := by
  refine br_t (nI_lt (a := 0) (b := d + 1) (by omega) (by omega)) (nm_r (nI_pred d) ⟨vp_in_nI hd (by decide), ?_⟩)
  rw [nI_clamp (by omega)]; exact K
theorem rx_addAction {post : SX → Prop} {na : Nat} {c l r : Int32} (h : na < 1024) (K : post (f_STORE_CELL, f_STORE_AT, f_OPERATOR, f_LOOP, f_LOOP_BY, f_IF, f_ELSE, f_END, f_ACT_ZERO, f_ACT_READ, f_ACT_WRITE, f_ACT_DROP, f_ACT_COMBINE, f_ACT_NEGATE, f_ACT_COPY, f_ACT_EXCHANGE, f_prime, f_cellCount, f_room, f_phase, f_itemCount, f_size, f_pending, f_factor, f_work, f_openCount, f_openLoops, f_depth, f_loopDepth, f_faultItem, nI (na + 1), f_stepCount, f_cursor, f_hasTangent, f_flowDepth, a_inputs, a_weights, a_itemKind, a_itemArg, a_itemJump, a_openItem, a_openElse, a_openFactor, a_cells, a_stack, a_loopCounter, a_loopLimit, upd a_actCode na c, upd a_actLeft na l, upd a_actRight na r, a_stepItem, a_stepCell, a_stepOld, a_stepNew, a_stepEnd, a_adjoints, a_tangents, a_flow)) : wpX_addAction post (f_STORE_CELL, f_STORE_AT, f_OPERATOR, f_LOOP, f_LOOP_BY, f_IF, f_ELSE, f_END, f_ACT_ZERO, f_ACT_READ, f_ACT_WRITE, f_ACT_DROP, f_ACT_COMBINE, f_ACT_NEGATE, f_ACT_COPY, f_ACT_EXCHANGE, f_prime, f_cellCount, f_room, f_phase, f_itemCount, f_size, f_pending, f_factor, f_work, f_openCount, f_openLoops, f_depth, f_loopDepth, f_faultItem, nI na, f_stepCount, f_cursor, f_hasTangent, f_flowDepth, a_inputs, a_weights, a_itemKind, a_itemArg, a_itemJump, a_openItem, a_openElse, a_openFactor, a_cells, a_stack, a_loopCounter, a_loopLimit, a_actCode, a_actLeft, a_actRight, a_stepItem, a_stepCell, a_stepOld, a_stepNew, a_stepEnd, a_adjoints, a_tangents, a_flow) c l r :=
  br_f (nI_ge (a := na) (b := 1024) h (by decide)) ⟨vp_in_nI h (by decide), nm_r (e' := upd a_actCode na c) (by rw [nI_clamp (by omega)]) ⟨vp_in_nI h (by decide), nm_r (e' := upd a_actLeft na l) (by rw [nI_clamp (by omega)])
    ⟨vp_in_nI h (by decide), nm_r (e' := upd a_actRight na r) (by rw [nI_clamp (by omega)]) (nm_r (nI_1 na) K)⟩⟩⟩
theorem rx_readCell {post : SX → Prop} {d na i : Nat} (hd : d < 8) (hna : na < 1024) (hi : i < 8)
    (K : post (f_STORE_CELL, f_STORE_AT, f_OPERATOR, f_LOOP, f_LOOP_BY, f_IF, f_ELSE, f_END, f_ACT_ZERO, f_ACT_READ, f_ACT_WRITE, f_ACT_DROP, f_ACT_COMBINE, f_ACT_NEGATE, f_ACT_COPY, f_ACT_EXCHANGE, f_prime, f_cellCount, f_room, f_phase, f_itemCount, f_size, f_pending, f_factor, f_work, f_openCount, f_openLoops, nI (d + 1), f_loopDepth, f_faultItem, nI (na + 1), f_stepCount, f_cursor, f_hasTangent, f_flowDepth, a_inputs, a_weights, a_itemKind, a_itemArg, a_itemJump, a_openItem, a_openElse, a_openFactor, a_cells, upd a_stack d (a_cells i), a_loopCounter, a_loopLimit, upd a_actCode na 1, upd a_actLeft na (nI i), upd a_actRight na 0, a_stepItem, a_stepCell, a_stepOld, a_stepNew, a_stepEnd, a_adjoints, a_tangents, a_flow)) :
    wpX_readCell post (f_STORE_CELL, f_STORE_AT, f_OPERATOR, f_LOOP, f_LOOP_BY, f_IF, f_ELSE, f_END, f_ACT_ZERO, f_ACT_READ, f_ACT_WRITE, f_ACT_DROP, f_ACT_COMBINE, f_ACT_NEGATE, f_ACT_COPY, f_ACT_EXCHANGE, f_prime, f_cellCount, f_room, f_phase, f_itemCount, f_size, f_pending, f_factor, f_work, f_openCount, f_openLoops, nI d, f_loopDepth, f_faultItem, nI na, f_stepCount, f_cursor, f_hasTangent, f_flowDepth, a_inputs, a_weights, a_itemKind, a_itemArg, a_itemJump, a_openItem, a_openElse, a_openFactor, a_cells, a_stack, a_loopCounter, a_loopLimit, a_actCode, a_actLeft, a_actRight, a_stepItem, a_stepCell, a_stepOld, a_stepNew, a_stepEnd, a_adjoints, a_tangents, a_flow) (nI i) := by
  refine And.intro (vp_in_nI hi (by decide)) ?_
  rw [nI_clamp (by omega)]
  exact rx_pushValue hd (rx_addAction hna K)
theorem rx_readCounter {post : SX → Prop} {d na ld lv q : Nat} (hd : d < 8) (hna : na < 1024) (hl : lv < ld) (h6 : ld ≤ 6) (hq : q < 32749)
    (K : post (f_STORE_CELL, f_STORE_AT, f_OPERATOR, f_LOOP, f_LOOP_BY, f_IF, f_ELSE, f_END, f_ACT_ZERO, f_ACT_READ, f_ACT_WRITE, f_ACT_DROP, f_ACT_COMBINE, f_ACT_NEGATE, f_ACT_COPY, f_ACT_EXCHANGE, nI (q + 1), f_cellCount, f_room, f_phase, f_itemCount, f_size, f_pending, f_factor, f_work, f_openCount, f_openLoops, nI (d + 1), nI ld, f_faultItem, nI (na + 1), f_stepCount, f_cursor, f_hasTangent, f_flowDepth, a_inputs, a_weights, a_itemKind, a_itemArg, a_itemJump, a_openItem, a_openElse, a_openFactor, a_cells, upd a_stack d (a_loopCounter (ld - 1 - lv) - a_loopCounter (ld - 1 - lv) / nI (q + 1) * nI (q + 1)), a_loopCounter, a_loopLimit, upd a_actCode na 0, upd a_actLeft na 0, upd a_actRight na 0, a_stepItem, a_stepCell, a_stepOld, a_stepNew, a_stepEnd, a_adjoints, a_tangents, a_flow)) :
    wpX_readCounter post (f_STORE_CELL, f_STORE_AT, f_OPERATOR, f_LOOP, f_LOOP_BY, f_IF, f_ELSE, f_END, f_ACT_ZERO, f_ACT_READ, f_ACT_WRITE, f_ACT_DROP, f_ACT_COMBINE, f_ACT_NEGATE, f_ACT_COPY, f_ACT_EXCHANGE, nI (q + 1), f_cellCount, f_room, f_phase, f_itemCount, f_size, f_pending, f_factor, f_work, f_openCount, f_openLoops, nI d, nI ld, f_faultItem, nI na, f_stepCount, f_cursor, f_hasTangent, f_flowDepth, a_inputs, a_weights, a_itemKind, a_itemArg, a_itemJump, a_openItem, a_openElse, a_openFactor, a_cells, a_stack, a_loopCounter, a_loopLimit, a_actCode, a_actLeft, a_actRight, a_stepItem, a_stepCell, a_stepOld, a_stepNew, a_stepEnd, a_adjoints, a_tangents, a_flow) (nI lv) := by
  have e : (nI ld - 1) - nI lv = nI (ld - 1 - lv) := by
    rw [show nI ld - 1 = nI (ld - 1) from pk_sub (a := ld) (b := 1) (by omega), pk_sub (by omega)]
  refine nm_r e (br_f (nI_pos (by omega)) (br_f (nI_ge (b := 6) (by omega) (by decide)) ⟨vp_in_nI (by omega) (by decide), ?_⟩))
  rw [nI_clamp (by omega)]
  exact nm_e (And.intro (nI_ne0 (by omega) (by omega)) (rx_pushValue hd (rx_addAction hna K)))
theorem rx_writeCell {post : SX → Prop} {na ns pc i : Nat} {v : Int32} (hna : na < 1024) (hns : ns < 1024) (hi : i < 8) (hs : a_stack 0 = v)
    (K : post (f_STORE_CELL, f_STORE_AT, f_OPERATOR, f_LOOP, f_LOOP_BY, f_IF, f_ELSE, f_END, f_ACT_ZERO, f_ACT_READ, f_ACT_WRITE, f_ACT_DROP, f_ACT_COMBINE, f_ACT_NEGATE, f_ACT_COPY, f_ACT_EXCHANGE, f_prime, f_cellCount, f_room, f_phase, f_itemCount, f_size, f_pending, f_factor, f_work, f_openCount, f_openLoops, nI 0, f_loopDepth, f_faultItem, nI (na + 1), nI (ns + 1), f_cursor, f_hasTangent, f_flowDepth, a_inputs, a_weights, a_itemKind, a_itemArg, a_itemJump, a_openItem, a_openElse, a_openFactor, upd a_cells i v, a_stack, a_loopCounter, a_loopLimit, upd a_actCode na 2, upd a_actLeft na (nI i), upd a_actRight na 0, upd a_stepItem ns (nI pc), upd a_stepCell ns (nI i), upd a_stepOld ns (a_cells i), upd a_stepNew ns v, upd a_stepEnd ns (nI (na + 1)), a_adjoints, a_tangents, a_flow)) :
    wpX_writeCell post (f_STORE_CELL, f_STORE_AT, f_OPERATOR, f_LOOP, f_LOOP_BY, f_IF, f_ELSE, f_END, f_ACT_ZERO, f_ACT_READ, f_ACT_WRITE, f_ACT_DROP, f_ACT_COMBINE, f_ACT_NEGATE, f_ACT_COPY, f_ACT_EXCHANGE, f_prime, f_cellCount, f_room, f_phase, f_itemCount, f_size, f_pending, f_factor, f_work, f_openCount, f_openLoops, nI 1, f_loopDepth, f_faultItem, nI na, nI ns, f_cursor, f_hasTangent, f_flowDepth, a_inputs, a_weights, a_itemKind, a_itemArg, a_itemJump, a_openItem, a_openElse, a_openFactor, a_cells, a_stack, a_loopCounter, a_loopLimit, a_actCode, a_actLeft, a_actRight, a_stepItem, a_stepCell, a_stepOld, a_stepNew, a_stepEnd, a_adjoints, a_tangents, a_flow) (nI pc) (nI i) := by
  unfold wpX_writeCell
  refine rx_popValue (d := 0) (by decide) ?_
  refine rx_addAction hna ?_
  rw [hs]
  refine br_f (nI_ge (a := ns) (b := 1024) hns (by decide)) ⟨vp_in_nI hns (by decide), nm_r (e' := upd a_stepItem ns (nI pc)) (by rw [nI_clamp (by omega)]) ⟨vp_in_nI hns (by decide), nm_r (e' := upd a_stepCell ns (nI i)) (by rw [nI_clamp (by omega)])
    ⟨vp_in_nI hi (by decide), vp_in_nI hns (by decide), nm_r (e' := upd a_stepOld ns (a_cells i)) (by rw [nI_clamp (by omega), nI_clamp (by omega)]) ⟨vp_in_nI hns (by decide), nm_r (e' := upd a_stepNew ns v) (by rw [nI_clamp (by omega)])
     ⟨vp_in_nI hns (by decide), nm_r (e' := upd a_stepEnd ns (nI (na + 1))) (by rw [nI_clamp (by omega)]) (nm_r (nI_1 ns) ⟨vp_in_nI hi (by decide), nm_r (e' := upd a_cells i v) (by rw [nI_clamp (by omega)]) K⟩)⟩⟩⟩⟩⟩
theorem rx_dropValue {post : Int32 → SX → Prop} {na d : Nat} (hd : d < 8) (hna : na < 1024) (K : post (a_stack d) (f_STORE_CELL, f_STORE_AT, f_OPERATOR, f_LOOP, f_LOOP_BY, f_IF, f_ELSE, f_END, f_ACT_ZERO, f_ACT_READ, f_ACT_WRITE, f_ACT_DROP, f_ACT_COMBINE, f_ACT_NEGATE, f_ACT_COPY, f_ACT_EXCHANGE, f_prime, f_cellCount, f_room, f_phase, f_itemCount, f_size, f_pending, f_factor, f_work, f_openCount, f_openLoops, nI d, f_loopDepth, f_faultItem, nI (na + 1), f_stepCount, f_cursor, f_hasTangent, f_flowDepth, a_inputs, a_weights, a_itemKind, a_itemArg, a_itemJump, a_openItem, a_openElse, a_openFactor, a_cells, a_stack, a_loopCounter, a_loopLimit, upd a_actCode na 3, upd a_actLeft na 0, upd a_actRight na 0, a_stepItem, a_stepCell, a_stepOld, a_stepNew, a_stepEnd, a_adjoints, a_tangents, a_flow)) :
    wpX_dropValue post (f_STORE_CELL, f_STORE_AT, f_OPERATOR, f_LOOP, f_LOOP_BY, f_IF, f_ELSE, f_END, f_ACT_ZERO, f_ACT_READ, f_ACT_WRITE, f_ACT_DROP, f_ACT_COMBINE, f_ACT_NEGATE, f_ACT_COPY, f_ACT_EXCHANGE, f_prime, f_cellCount, f_room, f_phase, f_itemCount, f_size, f_pending, f_factor, f_work, f_openCount, f_openLoops, nI (d + 1), f_loopDepth, f_faultItem, nI na, f_stepCount, f_cursor, f_hasTangent, f_flowDepth, a_inputs, a_weights, a_itemKind, a_itemArg, a_itemJump, a_openItem, a_openElse, a_openFactor, a_cells, a_stack, a_loopCounter, a_loopLimit, a_actCode, a_actLeft, a_actRight, a_stepItem, a_stepCell, a_stepOld, a_stepNew, a_stepEnd, a_adjoints, a_tangents, a_flow) := by
  unfold wpX_dropValue
  refine rx_popValue hd ?_
  exact rx_addAction hna K
end
end
section
/-! X: operators and items -/
def rs_hold (q c x : Nat) : Bool := if c = 0 then decide (x = 0) else if c = 1 then decide (x ≠ 0) else if c = 2 then decide (x % 2 = 1) else decide (q / 2 < x)
section
variable {f_STORE_CELL f_STORE_AT f_OPERATOR f_LOOP f_LOOP_BY f_IF f_ELSE f_END f_ACT_ZERO f_ACT_READ f_ACT_WRITE f_ACT_DROP f_ACT_COMBINE f_ACT_NEGATE f_ACT_COPY f_ACT_EXCHANGE f_prime f_cellCount f_room f_phase f_itemCount f_size f_pending f_factor f_work f_openCount f_openLoops f_depth f_loopDepth f_faultItem f_actCount f_stepCount f_cursor f_hasTangent f_flowDepth : Int32} {a_inputs a_weights a_itemKind a_itemArg a_itemJump a_openItem a_openElse a_openFactor a_cells a_stack a_loopCounter a_loopLimit a_actCode a_actLeft a_actRight a_stepItem a_stepCell a_stepOld a_stepNew a_stepEnd a_adjoints a_tangents a_flow : Nat → Int32}
theorem rx_bin_end {post : Int32 → SX → Prop} {d na : Nat} {v l r : Int32} (hd : d < 8) (hna : na < 1024) (K : post 1 (f_STORE_CELL, f_STORE_AT, f_OPERATOR, f_LOOP, f_LOOP_BY, f_IF, f_ELSE, f_END, f_ACT_ZERO, f_ACT_READ, f_ACT_WRITE, f_ACT_DROP, f_ACT_COMBINE, f_ACT_NEGATE, f_ACT_COPY, f_ACT_EXCHANGE, f_prime, f_cellCount, f_room, f_phase, f_itemCount, f_size, f_pending, f_factor, f_work, f_openCount, f_openLoops, nI (d + 1), f_loopDepth, f_faultItem, nI (na + 1), f_stepCount, f_cursor, f_hasTangent, f_flowDepth, a_inputs, a_weights, a_itemKind, a_itemArg, a_itemJump, a_openItem, a_openElse, a_openFactor, a_cells, upd a_stack d v, a_loopCounter, a_loopLimit, upd a_actCode na 4, upd a_actLeft na l, upd a_actRight na r, a_stepItem, a_stepCell, a_stepOld, a_stepNew, a_stepEnd, a_adjoints, a_tangents, a_flow)) :
    wX_applyBinary_117 post v l r f_STORE_CELL f_STORE_AT f_OPERATOR f_LOOP f_LOOP_BY f_IF f_ELSE f_END f_ACT_ZERO f_ACT_READ f_ACT_WRITE f_ACT_DROP f_ACT_COMBINE f_ACT_NEGATE f_ACT_COPY f_ACT_EXCHANGE f_prime f_cellCount f_room f_phase f_itemCount f_size f_pending f_factor f_work f_openCount f_openLoops (nI d) f_loopDepth f_faultItem (nI na) f_stepCount f_cursor f_hasTangent f_flowDepth a_inputs a_weights a_itemKind a_itemArg a_itemJump a_openItem a_openElse a_openFactor a_cells a_stack a_loopCounter a_loopLimit a_actCode a_actLeft a_actRight a_stepItem a_stepCell a_stepOld a_stepNew a_stepEnd a_adjoints a_tangents a_flow := by
  unfold wX_applyBinary_117
  refine rx_pushValue hd ?_
  exact rx_addAction hna K
theorem rx_op0 {post : Int32 → SX → Prop} {d na : Nat} {a b : Int32} (hd : d < 7) (hna : na < 1024) (ha : a_stack d = a) (hb : a_stack (d + 1) = b)
    (K : post 1 (f_STORE_CELL, f_STORE_AT, f_OPERATOR, f_LOOP, f_LOOP_BY, f_IF, f_ELSE, f_END, f_ACT_ZERO, f_ACT_READ, f_ACT_WRITE, f_ACT_DROP, f_ACT_COMBINE, f_ACT_NEGATE, f_ACT_COPY, f_ACT_EXCHANGE, f_prime, f_cellCount, f_room, f_phase, f_itemCount, f_size, f_pending, f_factor, f_work, f_openCount, f_openLoops, nI (d + 1), f_loopDepth, f_faultItem, nI (na + 1), f_stepCount, f_cursor, f_hasTangent, f_flowDepth, a_inputs, a_weights, a_itemKind, a_itemArg, a_itemJump, a_openItem, a_openElse, a_openFactor, a_cells, upd a_stack d (ra_ad f_prime a b), a_loopCounter, a_loopLimit, upd a_actCode na 4, upd a_actLeft na 1, upd a_actRight na 1, a_stepItem, a_stepCell, a_stepOld, a_stepNew, a_stepEnd, a_adjoints, a_tangents, a_flow)) : wpX_applyOperator post (f_STORE_CELL, f_STORE_AT, f_OPERATOR, f_LOOP, f_LOOP_BY, f_IF, f_ELSE, f_END, f_ACT_ZERO, f_ACT_READ, f_ACT_WRITE, f_ACT_DROP, f_ACT_COMBINE, f_ACT_NEGATE, f_ACT_COPY, f_ACT_EXCHANGE, f_prime, f_cellCount, f_room, f_phase, f_itemCount, f_size, f_pending, f_factor, f_work, f_openCount, f_openLoops, nI (d + 2), f_loopDepth, f_faultItem, nI na, f_stepCount, f_cursor, f_hasTangent, f_flowDepth, a_inputs, a_weights, a_itemKind, a_itemArg, a_itemJump, a_openItem, a_openElse, a_openFactor, a_cells, a_stack, a_loopCounter, a_loopLimit, a_actCode, a_actLeft, a_actRight, a_stepItem, a_stepCell, a_stepOld, a_stepNew, a_stepEnd, a_adjoints, a_tangents, a_flow) 0 := by
  refine br_f (by decide) ?_
  unfold wpX_applyBinary
  refine rx_popValue (d := d + 1) (by omega) ?_
  refine rx_popValue (d := d) (by omega) ?_
  rw [ha, hb]
  exact br_t rfl (rx_add (rx_bin_end (by omega) hna ⟨rfl, K⟩))
theorem rx_op1 {post : Int32 → SX → Prop} {d na q : Nat} {a b : Int32} (hd : d < 7) (hna : na < 1024) (ha : a_stack d = a) (hb : a_stack (d + 1) = b)
    (K : post 1 (f_STORE_CELL, f_STORE_AT, f_OPERATOR, f_LOOP, f_LOOP_BY, f_IF, f_ELSE, f_END, f_ACT_ZERO, f_ACT_READ, f_ACT_WRITE, f_ACT_DROP, f_ACT_COMBINE, f_ACT_NEGATE, f_ACT_COPY, f_ACT_EXCHANGE, nI (q + 1), f_cellCount, f_room, f_phase, f_itemCount, f_size, f_pending, f_factor, f_work, f_openCount, f_openLoops, nI (d + 1), f_loopDepth, f_faultItem, nI (na + 1), f_stepCount, f_cursor, f_hasTangent, f_flowDepth, a_inputs, a_weights, a_itemKind, a_itemArg, a_itemJump, a_openItem, a_openElse, a_openFactor, a_cells, upd a_stack d (ra_sb (nI (q + 1)) a b), a_loopCounter, a_loopLimit, upd a_actCode na 4, upd a_actLeft na 1, upd a_actRight na (nI q), a_stepItem, a_stepCell, a_stepOld, a_stepNew, a_stepEnd, a_adjoints, a_tangents, a_flow)) : wpX_applyOperator post (f_STORE_CELL, f_STORE_AT, f_OPERATOR, f_LOOP, f_LOOP_BY, f_IF, f_ELSE, f_END, f_ACT_ZERO, f_ACT_READ, f_ACT_WRITE, f_ACT_DROP, f_ACT_COMBINE, f_ACT_NEGATE, f_ACT_COPY, f_ACT_EXCHANGE, nI (q + 1), f_cellCount, f_room, f_phase, f_itemCount, f_size, f_pending, f_factor, f_work, f_openCount, f_openLoops, nI (d + 2), f_loopDepth, f_faultItem, nI na, f_stepCount, f_cursor, f_hasTangent, f_flowDepth, a_inputs, a_weights, a_itemKind, a_itemArg, a_itemJump, a_openItem, a_openElse, a_openFactor, a_cells, a_stack, a_loopCounter, a_loopLimit, a_actCode, a_actLeft, a_actRight, a_stepItem, a_stepCell, a_stepOld, a_stepNew, a_stepEnd, a_adjoints, a_tangents, a_flow) 1 := by
  refine br_f (by decide) ?_
  unfold wpX_applyBinary
  refine rx_popValue (d := d + 1) (by omega) ?_
  refine rx_popValue (d := d) (by omega) ?_
  rw [ha, hb]
  exact br_f (by decide) (br_t rfl (rx_subtract (nm_r (nI_pred q) (rx_bin_end (by omega) hna ⟨rfl, K⟩))))
theorem rx_op2 {post : Int32 → SX → Prop} {d na q : Nat} {a b : Int32} (hq : q < 32749) (hd : d < 7) (hna : na < 1024) (ha : a_stack d = a) (hb : a_stack (d + 1) = b)
    (K : post 1 (f_STORE_CELL, f_STORE_AT, f_OPERATOR, f_LOOP, f_LOOP_BY, f_IF, f_ELSE, f_END, f_ACT_ZERO, f_ACT_READ, f_ACT_WRITE, f_ACT_DROP, f_ACT_COMBINE, f_ACT_NEGATE, f_ACT_COPY, f_ACT_EXCHANGE, nI (q + 1), f_cellCount, f_room, f_phase, f_itemCount, f_size, f_pending, f_factor, f_work, f_openCount, f_openLoops, nI (d + 1), f_loopDepth, f_faultItem, nI (na + 1), f_stepCount, f_cursor, f_hasTangent, f_flowDepth, a_inputs, a_weights, a_itemKind, a_itemArg, a_itemJump, a_openItem, a_openElse, a_openFactor, a_cells, upd a_stack d (ra_mu (nI (q + 1)) a b), a_loopCounter, a_loopLimit, upd a_actCode na 4, upd a_actLeft na b, upd a_actRight na a, a_stepItem, a_stepCell, a_stepOld, a_stepNew, a_stepEnd, a_adjoints, a_tangents, a_flow)) : wpX_applyOperator post (f_STORE_CELL, f_STORE_AT, f_OPERATOR, f_LOOP, f_LOOP_BY, f_IF, f_ELSE, f_END, f_ACT_ZERO, f_ACT_READ, f_ACT_WRITE, f_ACT_DROP, f_ACT_COMBINE, f_ACT_NEGATE, f_ACT_COPY, f_ACT_EXCHANGE, nI (q + 1), f_cellCount, f_room, f_phase, f_itemCount, f_size, f_pending, f_factor, f_work, f_openCount, f_openLoops, nI (d + 2), f_loopDepth, f_faultItem, nI na, f_stepCount, f_cursor, f_hasTangent, f_flowDepth, a_inputs, a_weights, a_itemKind, a_itemArg, a_itemJump, a_openItem, a_openElse, a_openFactor, a_cells, a_stack, a_loopCounter, a_loopLimit, a_actCode, a_actLeft, a_actRight, a_stepItem, a_stepCell, a_stepOld, a_stepNew, a_stepEnd, a_adjoints, a_tangents, a_flow) 2 := by
  refine br_f (by decide) ?_
  unfold wpX_applyBinary
  refine rx_popValue (d := d + 1) (by omega) ?_
  refine rx_popValue (d := d) (by omega) ?_
  rw [ha, hb]
  exact br_f (by decide) (br_f (by decide) (br_t rfl (rx_multiply hq (rx_bin_end (by omega) hna ⟨rfl, K⟩))))
theorem rx_op3 {post : Int32 → SX → Prop} {d na q b : Nat} {a : Int32} (hp : ra_pr q) (hd : d < 7) (hna : na < 1024) (ha : a_stack d = a) (hb : a_stack (d + 1) = nI b) (h0 : 0 < b) (hbq : b < q + 1)
    (K : post 1 (f_STORE_CELL, f_STORE_AT, f_OPERATOR, f_LOOP, f_LOOP_BY, f_IF, f_ELSE, f_END, f_ACT_ZERO, f_ACT_READ, f_ACT_WRITE, f_ACT_DROP, f_ACT_COMBINE, f_ACT_NEGATE, f_ACT_COPY, f_ACT_EXCHANGE, nI (q + 1), f_cellCount, f_room, f_phase, f_itemCount, f_size, f_pending, f_factor, f_work, f_openCount, f_openLoops, nI (d + 1), f_loopDepth, f_faultItem, nI (na + 1), f_stepCount, f_cursor, f_hasTangent, f_flowDepth, a_inputs, a_weights, a_itemKind, a_itemArg, a_itemJump, a_openItem, a_openElse, a_openFactor, a_cells, upd a_stack d (ra_mu (nI (q + 1)) a (nI (ra_iv (q + 1) b))), a_loopCounter, a_loopLimit, upd a_actCode na 4, upd a_actLeft na (nI (ra_iv (q + 1) b)), upd a_actRight na (ra_ng (nI (q + 1)) (ra_mu (nI (q + 1)) (ra_mu (nI (q + 1)) a (nI (ra_iv (q + 1) b))) (nI (ra_iv (q + 1) b)))), a_stepItem, a_stepCell, a_stepOld, a_stepNew, a_stepEnd, a_adjoints, a_tangents, a_flow)) :
    wpX_applyOperator post (f_STORE_CELL, f_STORE_AT, f_OPERATOR, f_LOOP, f_LOOP_BY, f_IF, f_ELSE, f_END, f_ACT_ZERO, f_ACT_READ, f_ACT_WRITE, f_ACT_DROP, f_ACT_COMBINE, f_ACT_NEGATE, f_ACT_COPY, f_ACT_EXCHANGE, nI (q + 1), f_cellCount, f_room, f_phase, f_itemCount, f_size, f_pending, f_factor, f_work, f_openCount, f_openLoops, nI (d + 2), f_loopDepth, f_faultItem, nI na, f_stepCount, f_cursor, f_hasTangent, f_flowDepth, a_inputs, a_weights, a_itemKind, a_itemArg, a_itemJump, a_openItem, a_openElse, a_openFactor, a_cells, a_stack, a_loopCounter, a_loopLimit, a_actCode, a_actLeft, a_actRight, a_stepItem, a_stepCell, a_stepOld, a_stepNew, a_stepEnd, a_adjoints, a_tangents, a_flow) 3 := by
  have hq := (ra_pr_lt hp).1
  refine br_f (by decide) ?_
  unfold wpX_applyBinary
  refine rx_popValue (d := d + 1) (by omega) ?_
  refine rx_popValue (d := d) (by omega) ?_
  rw [ha, hb]
  refine br_f (by decide) (br_f (by decide) (br_f (by decide) (br_f (nI_ne0 h0 (by omega)) (rx_inverse hp hbq ?_))))
  exact rx_multiply hq (rx_multiply hq (rx_negate (rx_bin_end (by omega) hna ⟨rfl, K⟩)))
theorem rx_op3f {post : Int32 → SX → Prop} {d : Nat} (hd : d < 7) (hb : a_stack (d + 1) = 0)
    (K : post 0 (f_STORE_CELL, f_STORE_AT, f_OPERATOR, f_LOOP, f_LOOP_BY, f_IF, f_ELSE, f_END, f_ACT_ZERO, f_ACT_READ, f_ACT_WRITE, f_ACT_DROP, f_ACT_COMBINE, f_ACT_NEGATE, f_ACT_COPY, f_ACT_EXCHANGE, f_prime, f_cellCount, f_room, f_phase, f_itemCount, f_size, f_pending, f_factor, f_work, f_openCount, f_openLoops, nI d, f_loopDepth, f_faultItem, f_actCount, f_stepCount, f_cursor, f_hasTangent, f_flowDepth, a_inputs, a_weights, a_itemKind, a_itemArg, a_itemJump, a_openItem, a_openElse, a_openFactor, a_cells, a_stack, a_loopCounter, a_loopLimit, a_actCode, a_actLeft, a_actRight, a_stepItem, a_stepCell, a_stepOld, a_stepNew, a_stepEnd, a_adjoints, a_tangents, a_flow)) : wpX_applyOperator post (f_STORE_CELL, f_STORE_AT, f_OPERATOR, f_LOOP, f_LOOP_BY, f_IF, f_ELSE, f_END, f_ACT_ZERO, f_ACT_READ, f_ACT_WRITE, f_ACT_DROP, f_ACT_COMBINE, f_ACT_NEGATE, f_ACT_COPY, f_ACT_EXCHANGE, f_prime, f_cellCount, f_room, f_phase, f_itemCount, f_size, f_pending, f_factor, f_work, f_openCount, f_openLoops, nI (d + 2), f_loopDepth, f_faultItem, f_actCount, f_stepCount, f_cursor, f_hasTangent, f_flowDepth, a_inputs, a_weights, a_itemKind, a_itemArg, a_itemJump, a_openItem, a_openElse, a_openFactor, a_cells, a_stack, a_loopCounter, a_loopLimit, a_actCode, a_actLeft, a_actRight, a_stepItem, a_stepCell, a_stepOld, a_stepNew, a_stepEnd, a_adjoints, a_tangents, a_flow) 3 := by
  refine br_f (by decide) ?_
  unfold wpX_applyBinary
  refine rx_popValue (d := d + 1) (by omega) ?_
  refine rx_popValue (d := d) (by omega) ?_
  rw [hb]
  exact br_f (by decide) (br_f (by decide) (br_f (by decide) (br_t rfl ⟨rfl, K⟩)))
theorem rx_op4 {post : Int32 → SX → Prop} {d na : Nat} {b : Int32} (hd : d < 8) (hna : na < 1024) (hb : a_stack d = b)
    (K : post 1 (f_STORE_CELL, f_STORE_AT, f_OPERATOR, f_LOOP, f_LOOP_BY, f_IF, f_ELSE, f_END, f_ACT_ZERO, f_ACT_READ, f_ACT_WRITE, f_ACT_DROP, f_ACT_COMBINE, f_ACT_NEGATE, f_ACT_COPY, f_ACT_EXCHANGE, f_prime, f_cellCount, f_room, f_phase, f_itemCount, f_size, f_pending, f_factor, f_work, f_openCount, f_openLoops, nI (d + 1), f_loopDepth, f_faultItem, nI (na + 1), f_stepCount, f_cursor, f_hasTangent, f_flowDepth, a_inputs, a_weights, a_itemKind, a_itemArg, a_itemJump, a_openItem, a_openElse, a_openFactor, a_cells, upd a_stack d (ra_ng f_prime b), a_loopCounter, a_loopLimit, upd a_actCode na 5, upd a_actLeft na 0, upd a_actRight na 0, a_stepItem, a_stepCell, a_stepOld, a_stepNew, a_stepEnd, a_adjoints, a_tangents, a_flow)) : wpX_applyOperator post (f_STORE_CELL, f_STORE_AT, f_OPERATOR, f_LOOP, f_LOOP_BY, f_IF, f_ELSE, f_END, f_ACT_ZERO, f_ACT_READ, f_ACT_WRITE, f_ACT_DROP, f_ACT_COMBINE, f_ACT_NEGATE, f_ACT_COPY, f_ACT_EXCHANGE, f_prime, f_cellCount, f_room, f_phase, f_itemCount, f_size, f_pending, f_factor, f_work, f_openCount, f_openLoops, nI (d + 1), f_loopDepth, f_faultItem, nI na, f_stepCount, f_cursor, f_hasTangent, f_flowDepth, a_inputs, a_weights, a_itemKind, a_itemArg, a_itemJump, a_openItem, a_openElse, a_openFactor, a_cells, a_stack, a_loopCounter, a_loopLimit, a_actCode, a_actLeft, a_actRight, a_stepItem, a_stepCell, a_stepOld, a_stepNew, a_stepEnd, a_adjoints, a_tangents, a_flow) 4 := by
  refine br_t (by decide) (rx_popValue (d := d) (by omega) ?_)
  rw [hb]
  exact br_t rfl (rx_negate (rx_pushValue hd (rx_addAction hna K)))
theorem rx_op5 {post : Int32 → SX → Prop} {d na : Nat} {b : Int32} (hd : d < 7) (hna : na < 1024) (hb : a_stack d = b)
    (K : post 1 (f_STORE_CELL, f_STORE_AT, f_OPERATOR, f_LOOP, f_LOOP_BY, f_IF, f_ELSE, f_END, f_ACT_ZERO, f_ACT_READ, f_ACT_WRITE, f_ACT_DROP, f_ACT_COMBINE, f_ACT_NEGATE, f_ACT_COPY, f_ACT_EXCHANGE, f_prime, f_cellCount, f_room, f_phase, f_itemCount, f_size, f_pending, f_factor, f_work, f_openCount, f_openLoops, nI (d + 1 + 1), f_loopDepth, f_faultItem, nI (na + 1), f_stepCount, f_cursor, f_hasTangent, f_flowDepth, a_inputs, a_weights, a_itemKind, a_itemArg, a_itemJump, a_openItem, a_openElse, a_openFactor, a_cells, upd (upd a_stack d b) (d + 1) b, a_loopCounter, a_loopLimit, upd a_actCode na 6, upd a_actLeft na 0, upd a_actRight na 0, a_stepItem, a_stepCell, a_stepOld, a_stepNew, a_stepEnd, a_adjoints, a_tangents, a_flow)) : wpX_applyOperator post (f_STORE_CELL, f_STORE_AT, f_OPERATOR, f_LOOP, f_LOOP_BY, f_IF, f_ELSE, f_END, f_ACT_ZERO, f_ACT_READ, f_ACT_WRITE, f_ACT_DROP, f_ACT_COMBINE, f_ACT_NEGATE, f_ACT_COPY, f_ACT_EXCHANGE, f_prime, f_cellCount, f_room, f_phase, f_itemCount, f_size, f_pending, f_factor, f_work, f_openCount, f_openLoops, nI (d + 1), f_loopDepth, f_faultItem, nI na, f_stepCount, f_cursor, f_hasTangent, f_flowDepth, a_inputs, a_weights, a_itemKind, a_itemArg, a_itemJump, a_openItem, a_openElse, a_openFactor, a_cells, a_stack, a_loopCounter, a_loopLimit, a_actCode, a_actLeft, a_actRight, a_stepItem, a_stepCell, a_stepOld, a_stepNew, a_stepEnd, a_adjoints, a_tangents, a_flow) 5 := by
  refine br_t (by decide) (rx_popValue (d := d) (by omega) ?_)
  rw [hb]
  exact br_f (by decide) (br_t rfl (rx_pushValue (d := d) (by omega) (rx_pushValue (d := d + 1) (by omega) (rx_addAction hna K))))
theorem rx_op6 {post : Int32 → SX → Prop} {d na : Nat} {a b : Int32} (hd : d < 7) (hna : na < 1024) (ha : a_stack d = a) (hb : a_stack (d + 1) = b)
    (K : post 1 (f_STORE_CELL, f_STORE_AT, f_OPERATOR, f_LOOP, f_LOOP_BY, f_IF, f_ELSE, f_END, f_ACT_ZERO, f_ACT_READ, f_ACT_WRITE, f_ACT_DROP, f_ACT_COMBINE, f_ACT_NEGATE, f_ACT_COPY, f_ACT_EXCHANGE, f_prime, f_cellCount, f_room, f_phase, f_itemCount, f_size, f_pending, f_factor, f_work, f_openCount, f_openLoops, nI (d + 1 + 1), f_loopDepth, f_faultItem, nI (na + 1), f_stepCount, f_cursor, f_hasTangent, f_flowDepth, a_inputs, a_weights, a_itemKind, a_itemArg, a_itemJump, a_openItem, a_openElse, a_openFactor, a_cells, upd (upd a_stack d b) (d + 1) a, a_loopCounter, a_loopLimit, upd a_actCode na 7, upd a_actLeft na 0, upd a_actRight na 0, a_stepItem, a_stepCell, a_stepOld, a_stepNew, a_stepEnd, a_adjoints, a_tangents, a_flow)) : wpX_applyOperator post (f_STORE_CELL, f_STORE_AT, f_OPERATOR, f_LOOP, f_LOOP_BY, f_IF, f_ELSE, f_END, f_ACT_ZERO, f_ACT_READ, f_ACT_WRITE, f_ACT_DROP, f_ACT_COMBINE, f_ACT_NEGATE, f_ACT_COPY, f_ACT_EXCHANGE, f_prime, f_cellCount, f_room, f_phase, f_itemCount, f_size, f_pending, f_factor, f_work, f_openCount, f_openLoops, nI (d + 2), f_loopDepth, f_faultItem, nI na, f_stepCount, f_cursor, f_hasTangent, f_flowDepth, a_inputs, a_weights, a_itemKind, a_itemArg, a_itemJump, a_openItem, a_openElse, a_openFactor, a_cells, a_stack, a_loopCounter, a_loopLimit, a_actCode, a_actLeft, a_actRight, a_stepItem, a_stepCell, a_stepOld, a_stepNew, a_stepEnd, a_adjoints, a_tangents, a_flow) 6 := by
  refine br_t (by decide) (rx_popValue (d := d + 1) (by omega) ?_)
  refine br_f (by decide) (br_f (by decide) (rx_popValue (d := d) (by omega) ?_))
  rw [ha, hb]
  exact rx_pushValue (d := d) (by omega) (rx_pushValue (d := d + 1) (by omega) (rx_addAction hna K))
theorem rx_enterLoop0 {post : Int32 → SX → Prop} {pc j : Nat} (hpc : pc < 128) (hj : a_itemJump pc = nI j)
    (K : post (nI (j + 1)) (f_STORE_CELL, f_STORE_AT, f_OPERATOR, f_LOOP, f_LOOP_BY, f_IF, f_ELSE, f_END, f_ACT_ZERO, f_ACT_READ, f_ACT_WRITE, f_ACT_DROP, f_ACT_COMBINE, f_ACT_NEGATE, f_ACT_COPY, f_ACT_EXCHANGE, f_prime, f_cellCount, f_room, f_phase, f_itemCount, f_size, f_pending, f_factor, f_work, f_openCount, f_openLoops, f_depth, f_loopDepth, f_faultItem, f_actCount, f_stepCount, f_cursor, f_hasTangent, f_flowDepth, a_inputs, a_weights, a_itemKind, a_itemArg, a_itemJump, a_openItem, a_openElse, a_openFactor, a_cells, a_stack, a_loopCounter, a_loopLimit, a_actCode, a_actLeft, a_actRight, a_stepItem, a_stepCell, a_stepOld, a_stepNew, a_stepEnd, a_adjoints, a_tangents, a_flow)) : wpX_enterLoop post (f_STORE_CELL, f_STORE_AT, f_OPERATOR, f_LOOP, f_LOOP_BY, f_IF, f_ELSE, f_END, f_ACT_ZERO, f_ACT_READ, f_ACT_WRITE, f_ACT_DROP, f_ACT_COMBINE, f_ACT_NEGATE, f_ACT_COPY, f_ACT_EXCHANGE, f_prime, f_cellCount, f_room, f_phase, f_itemCount, f_size, f_pending, f_factor, f_work, f_openCount, f_openLoops, f_depth, f_loopDepth, f_faultItem, f_actCount, f_stepCount, f_cursor, f_hasTangent, f_flowDepth, a_inputs, a_weights, a_itemKind, a_itemArg, a_itemJump, a_openItem, a_openElse, a_openFactor, a_cells, a_stack, a_loopCounter, a_loopLimit, a_actCode, a_actLeft, a_actRight, a_stepItem, a_stepCell, a_stepOld, a_stepNew, a_stepEnd, a_adjoints, a_tangents, a_flow) (nI pc) 0 := by
  refine br_t (by decide) ⟨vp_in_nI hpc (by decide), ?_⟩
  rw [nI_clamp (by omega), hj, nI_1]; exact K
theorem rx_enterLoop1 {post : Int32 → SX → Prop} {pc ld c : Nat} (hc : 0 < c) (hc2 : c ≤ 16) (hl : ld < 6)
    (K : post (nI (pc + 1)) (f_STORE_CELL, f_STORE_AT, f_OPERATOR, f_LOOP, f_LOOP_BY, f_IF, f_ELSE, f_END, f_ACT_ZERO, f_ACT_READ, f_ACT_WRITE, f_ACT_DROP, f_ACT_COMBINE, f_ACT_NEGATE, f_ACT_COPY, f_ACT_EXCHANGE, f_prime, f_cellCount, f_room, f_phase, f_itemCount, f_size, f_pending, f_factor, f_work, f_openCount, f_openLoops, f_depth, nI (ld + 1), f_faultItem, f_actCount, f_stepCount, f_cursor, f_hasTangent, f_flowDepth, a_inputs, a_weights, a_itemKind, a_itemArg, a_itemJump, a_openItem, a_openElse, a_openFactor, a_cells, a_stack, upd a_loopCounter ld 0, upd a_loopLimit ld (nI c), a_actCode, a_actLeft, a_actRight, a_stepItem, a_stepCell, a_stepOld, a_stepNew, a_stepEnd, a_adjoints, a_tangents, a_flow)) : wpX_enterLoop post (f_STORE_CELL, f_STORE_AT, f_OPERATOR, f_LOOP, f_LOOP_BY, f_IF, f_ELSE, f_END, f_ACT_ZERO, f_ACT_READ, f_ACT_WRITE, f_ACT_DROP, f_ACT_COMBINE, f_ACT_NEGATE, f_ACT_COPY, f_ACT_EXCHANGE, f_prime, f_cellCount, f_room, f_phase, f_itemCount, f_size, f_pending, f_factor, f_work, f_openCount, f_openLoops, f_depth, nI ld, f_faultItem, f_actCount, f_stepCount, f_cursor, f_hasTangent, f_flowDepth, a_inputs, a_weights, a_itemKind, a_itemArg, a_itemJump, a_openItem, a_openElse, a_openFactor, a_cells, a_stack, a_loopCounter, a_loopLimit, a_actCode, a_actLeft, a_actRight, a_stepItem, a_stepCell, a_stepOld, a_stepNew, a_stepEnd, a_adjoints, a_tangents, a_flow) (nI pc) (nI c) := by
  refine br_f (nI_nle hc (by omega)) (br_t (nI_lt (a := ld) (b := 6) hl (by decide)) ⟨vp_in_nI hl (by decide), nm_r (e' := upd a_loopCounter ld 0) (by rw [nI_clamp (by omega)]) ⟨vp_in_nI hl (by decide), nm_r (e' := upd a_loopLimit ld (nI c)) (by rw [nI_clamp (by omega)]) (nm_r (nI_1 ld) ?_)⟩⟩)
  rw [nI_1]; exact K
theorem rx_holds {post : Int32 → Prop} {q c x : Nat} (hc : c ≤ 3) (hx : x < q + 1) (hq : q < 32749) (K : post (if rs_hold q c x then 1 else 0)) :
    wpX_holds post (f_STORE_CELL, f_STORE_AT, f_OPERATOR, f_LOOP, f_LOOP_BY, f_IF, f_ELSE, f_END, f_ACT_ZERO, f_ACT_READ, f_ACT_WRITE, f_ACT_DROP, f_ACT_COMBINE, f_ACT_NEGATE, f_ACT_COPY, f_ACT_EXCHANGE, nI (q + 1), f_cellCount, f_room, f_phase, f_itemCount, f_size, f_pending, f_factor, f_work, f_openCount, f_openLoops, f_depth, f_loopDepth, f_faultItem, f_actCount, f_stepCount, f_cursor, f_hasTangent, f_flowDepth, a_inputs, a_weights, a_itemKind, a_itemArg, a_itemJump, a_openItem, a_openElse, a_openFactor, a_cells, a_stack, a_loopCounter, a_loopLimit, a_actCode, a_actLeft, a_actRight, a_stepItem, a_stepCell, a_stepOld, a_stepNew, a_stepEnd, a_adjoints, a_tangents, a_flow) (nI c) (nI x) := by
  unfold rs_hold at K
  rcases (show c = 0 ∨ c = 1 ∨ c = 2 ∨ c = 3 by omega) with rfl | rfl | rfl | rfl
  · refine br_t rfl (pk_eq x 0 (fun h => ?_) (fun h => ?_))
    · simpa [h] using K
    · simpa [h] using K
  · refine br_f (by decide) (br_t rfl (pk_eq x 0 (fun h => ?_) (fun h => ?_)))
    · simpa [h] using K
    · simpa [h] using K
  · refine br_f (by decide) (br_f (by decide) (br_t rfl ?_))
    rw [pk_andN (n := x) (m := 1) (k := 1) (by omega) (by decide)]
    refine pk_eq (x % 2 ^ 1) 1 (fun h => ?_) (fun h => ?_)
    · have h' : x % 2 = 1 := h
      simpa [h'] using K
    · have h' : ¬ x % 2 = 1 := h
      simpa [h'] using K
  · refine br_f (by decide) (br_f (by decide) (br_f (by decide) ⟨by decide, ?_⟩))
    have e : (nI (q + 1) - 1) / 2 = nI (q / 2) := by
      rw [nI_pred]; exact pk_div (a := q) (d := 2) (by omega) (by omega) (by omega)
    rw [e]
    refine pk_le x (q / 2) (fun h => ?_) (fun h => ?_)
    · have h' : ¬ q / 2 < x := by omega
      simpa [h'] using K
    · simpa [h] using K
end
end
section
/-! X: executeItem, kind by kind -/
section
variable {f_STORE_CELL f_STORE_AT f_OPERATOR f_LOOP f_LOOP_BY f_IF f_ELSE f_END f_ACT_ZERO f_ACT_READ f_ACT_WRITE f_ACT_DROP f_ACT_COMBINE f_ACT_NEGATE f_ACT_COPY f_ACT_EXCHANGE f_prime f_cellCount f_room f_phase f_itemCount f_size f_pending f_factor f_work f_openCount f_openLoops f_depth f_loopDepth f_faultItem f_actCount f_stepCount f_cursor f_hasTangent f_flowDepth : Int32} {a_inputs a_weights a_itemKind a_itemArg a_itemJump a_openItem a_openElse a_openFactor a_cells a_stack a_loopCounter a_loopLimit a_actCode a_actLeft a_actRight a_stepItem a_stepCell a_stepOld a_stepNew a_stepEnd a_adjoints a_tangents a_flow : Nat → Int32}
theorem rx_e0 {post : Int32 → SX → Prop} {pc : Nat} {d na : Nat} {a : Int32} (hpc : pc < 128) (hk : a_itemKind pc = 0) (ha : a_itemArg pc = a) (hd : d < 8) (hna : na < 1024)
    (K : post (nI (pc + 1)) (f_STORE_CELL, f_STORE_AT, f_OPERATOR, f_LOOP, f_LOOP_BY, f_IF, f_ELSE, f_END, f_ACT_ZERO, f_ACT_READ, f_ACT_WRITE, f_ACT_DROP, f_ACT_COMBINE, f_ACT_NEGATE, f_ACT_COPY, f_ACT_EXCHANGE, f_prime, f_cellCount, f_room, f_phase, f_itemCount, f_size, f_pending, f_factor, f_work, f_openCount, f_openLoops, nI (d + 1), f_loopDepth, f_faultItem, nI (na + 1), f_stepCount, f_cursor, f_hasTangent, f_flowDepth, a_inputs, a_weights, a_itemKind, a_itemArg, a_itemJump, a_openItem, a_openElse, a_openFactor, a_cells, upd a_stack d a, a_loopCounter, a_loopLimit, upd a_actCode na 0, upd a_actLeft na 0, upd a_actRight na 0, a_stepItem, a_stepCell, a_stepOld, a_stepNew, a_stepEnd, a_adjoints, a_tangents, a_flow)) : wpX_executeItem post (f_STORE_CELL, f_STORE_AT, f_OPERATOR, f_LOOP, f_LOOP_BY, f_IF, f_ELSE, f_END, f_ACT_ZERO, f_ACT_READ, f_ACT_WRITE, f_ACT_DROP, f_ACT_COMBINE, f_ACT_NEGATE, f_ACT_COPY, f_ACT_EXCHANGE, f_prime, f_cellCount, f_room, f_phase, f_itemCount, f_size, f_pending, f_factor, f_work, f_openCount, f_openLoops, nI d, f_loopDepth, f_faultItem, nI na, f_stepCount, f_cursor, f_hasTangent, f_flowDepth, a_inputs, a_weights, a_itemKind, a_itemArg, a_itemJump, a_openItem, a_openElse, a_openFactor, a_cells, a_stack, a_loopCounter, a_loopLimit, a_actCode, a_actLeft, a_actRight, a_stepItem, a_stepCell, a_stepOld, a_stepNew, a_stepEnd, a_adjoints, a_tangents, a_flow) (nI pc) := by
  rw [← nI_1 pc] at K
  refine And.intro (vp_in_nI hpc (by decide)) (nm_r (e' := a) (by rw [nI_clamp (by omega)]; exact ha) (And.intro (vp_in_nI hpc (by decide)) (nm_r (e' := 0) (by rw [nI_clamp (by omega)]; exact hk) ?_)))
  refine br_f (by decide) (br_f (by decide) (br_t rfl ?_))
  refine rx_pushValue hd ?_
  exact rx_addAction hna K
theorem rx_e1 {post : Int32 → SX → Prop} {pc : Nat} {d na i : Nat} (hpc : pc < 128) (hk : a_itemKind pc = 1) (ha : a_itemArg pc = nI i) (hi : i < 8) (hd : d < 8) (hna : na < 1024)
    (K : post (nI (pc + 1)) (f_STORE_CELL, f_STORE_AT, f_OPERATOR, f_LOOP, f_LOOP_BY, f_IF, f_ELSE, f_END, f_ACT_ZERO, f_ACT_READ, f_ACT_WRITE, f_ACT_DROP, f_ACT_COMBINE, f_ACT_NEGATE, f_ACT_COPY, f_ACT_EXCHANGE, f_prime, f_cellCount, f_room, f_phase, f_itemCount, f_size, f_pending, f_factor, f_work, f_openCount, f_openLoops, nI (d + 1), f_loopDepth, f_faultItem, nI (na + 1), f_stepCount, f_cursor, f_hasTangent, f_flowDepth, a_inputs, a_weights, a_itemKind, a_itemArg, a_itemJump, a_openItem, a_openElse, a_openFactor, a_cells, upd a_stack d (a_cells i), a_loopCounter, a_loopLimit, upd a_actCode na 1, upd a_actLeft na (nI i), upd a_actRight na 0, a_stepItem, a_stepCell, a_stepOld, a_stepNew, a_stepEnd, a_adjoints, a_tangents, a_flow)) : wpX_executeItem post (f_STORE_CELL, f_STORE_AT, f_OPERATOR, f_LOOP, f_LOOP_BY, f_IF, f_ELSE, f_END, f_ACT_ZERO, f_ACT_READ, f_ACT_WRITE, f_ACT_DROP, f_ACT_COMBINE, f_ACT_NEGATE, f_ACT_COPY, f_ACT_EXCHANGE, f_prime, f_cellCount, f_room, f_phase, f_itemCount, f_size, f_pending, f_factor, f_work, f_openCount, f_openLoops, nI d, f_loopDepth, f_faultItem, nI na, f_stepCount, f_cursor, f_hasTangent, f_flowDepth, a_inputs, a_weights, a_itemKind, a_itemArg, a_itemJump, a_openItem, a_openElse, a_openFactor, a_cells, a_stack, a_loopCounter, a_loopLimit, a_actCode, a_actLeft, a_actRight, a_stepItem, a_stepCell, a_stepOld, a_stepNew, a_stepEnd, a_adjoints, a_tangents, a_flow) (nI pc) := by
  rw [← nI_1 pc] at K
  refine And.intro (vp_in_nI hpc (by decide)) (nm_r (e' := nI i) (by rw [nI_clamp (by omega)]; exact ha) (And.intro (vp_in_nI hpc (by decide)) (nm_r (e' := 1) (by rw [nI_clamp (by omega)]; exact hk) ?_)))
  refine br_f (by decide) (br_f (by decide) (br_f (by decide) (br_t rfl ?_)))
  refine rx_readCell hd hna hi ?_
  exact K
theorem rx_e2 {post : Int32 → SX → Prop} {pc : Nat} {d na i n v : Nat} (hpc : pc < 128) (hk : a_itemKind pc = 2) (ha : a_itemArg pc = nI i) (hi : i < 8) (h0 : 0 < n) (hn : n ≤ 8) (hv : v < 2 ^ 31) (hc : a_cells i = nI v) (hd : d < 8) (hna : na < 1024)
    (K : post (nI (pc + 1)) (f_STORE_CELL, f_STORE_AT, f_OPERATOR, f_LOOP, f_LOOP_BY, f_IF, f_ELSE, f_END, f_ACT_ZERO, f_ACT_READ, f_ACT_WRITE, f_ACT_DROP, f_ACT_COMBINE, f_ACT_NEGATE, f_ACT_COPY, f_ACT_EXCHANGE, f_prime, nI n, f_room, f_phase, f_itemCount, f_size, f_pending, f_factor, f_work, f_openCount, f_openLoops, nI (d + 1), f_loopDepth, f_faultItem, nI (na + 1), f_stepCount, f_cursor, f_hasTangent, f_flowDepth, a_inputs, a_weights, a_itemKind, a_itemArg, a_itemJump, a_openItem, a_openElse, a_openFactor, a_cells, upd a_stack d (a_cells (v % n)), a_loopCounter, a_loopLimit, upd a_actCode na 1, upd a_actLeft na (nI (v % n)), upd a_actRight na 0, a_stepItem, a_stepCell, a_stepOld, a_stepNew, a_stepEnd, a_adjoints, a_tangents, a_flow)) : wpX_executeItem post (f_STORE_CELL, f_STORE_AT, f_OPERATOR, f_LOOP, f_LOOP_BY, f_IF, f_ELSE, f_END, f_ACT_ZERO, f_ACT_READ, f_ACT_WRITE, f_ACT_DROP, f_ACT_COMBINE, f_ACT_NEGATE, f_ACT_COPY, f_ACT_EXCHANGE, f_prime, nI n, f_room, f_phase, f_itemCount, f_size, f_pending, f_factor, f_work, f_openCount, f_openLoops, nI d, f_loopDepth, f_faultItem, nI na, f_stepCount, f_cursor, f_hasTangent, f_flowDepth, a_inputs, a_weights, a_itemKind, a_itemArg, a_itemJump, a_openItem, a_openElse, a_openFactor, a_cells, a_stack, a_loopCounter, a_loopLimit, a_actCode, a_actLeft, a_actRight, a_stepItem, a_stepCell, a_stepOld, a_stepNew, a_stepEnd, a_adjoints, a_tangents, a_flow) (nI pc) := by
  rw [← nI_1 pc] at K
  refine And.intro (vp_in_nI hpc (by decide)) (nm_r (e' := nI i) (by rw [nI_clamp (by omega)]; exact ha) (And.intro (vp_in_nI hpc (by decide)) (nm_r (e' := 2) (by rw [nI_clamp (by omega)]; exact hk) ?_)))
  refine br_f (by decide) (br_f (by decide) (br_f (by decide) (br_f (by decide) (br_t rfl ?_))))
  have hm := Nat.mod_lt v h0
  refine And.intro (vp_in_nI hi (by decide)) (And.intro (nI_ne0 h0 (by omega)) ?_)
  rw [nI_clamp (by omega), hc, pk_rem hv h0 (by omega)]
  refine rx_readCell hd hna (by omega) ?_
  exact K
theorem rx_e3 {post : Int32 → SX → Prop} {pc : Nat} {d na lv ld q : Nat} (hpc : pc < 128) (hk : a_itemKind pc = 3) (ha : a_itemArg pc = nI lv) (hl : lv < ld) (h6 : ld ≤ 6) (hq : q < 32749) (hd : d < 8) (hna : na < 1024)
    (K : post (nI (pc + 1)) (f_STORE_CELL, f_STORE_AT, f_OPERATOR, f_LOOP, f_LOOP_BY, f_IF, f_ELSE, f_END, f_ACT_ZERO, f_ACT_READ, f_ACT_WRITE, f_ACT_DROP, f_ACT_COMBINE, f_ACT_NEGATE, f_ACT_COPY, f_ACT_EXCHANGE, nI (q + 1), f_cellCount, f_room, f_phase, f_itemCount, f_size, f_pending, f_factor, f_work, f_openCount, f_openLoops, nI (d + 1), nI ld, f_faultItem, nI (na + 1), f_stepCount, f_cursor, f_hasTangent, f_flowDepth, a_inputs, a_weights, a_itemKind, a_itemArg, a_itemJump, a_openItem, a_openElse, a_openFactor, a_cells, upd a_stack d (a_loopCounter (ld - 1 - lv) - a_loopCounter (ld - 1 - lv) / nI (q + 1) * nI (q + 1)), a_loopCounter, a_loopLimit, upd a_actCode na 0, upd a_actLeft na 0, upd a_actRight na 0, a_stepItem, a_stepCell, a_stepOld, a_stepNew, a_stepEnd, a_adjoints, a_tangents, a_flow)) : wpX_executeItem post (f_STORE_CELL, f_STORE_AT, f_OPERATOR, f_LOOP, f_LOOP_BY, f_IF, f_ELSE, f_END, f_ACT_ZERO, f_ACT_READ, f_ACT_WRITE, f_ACT_DROP, f_ACT_COMBINE, f_ACT_NEGATE, f_ACT_COPY, f_ACT_EXCHANGE, nI (q + 1), f_cellCount, f_room, f_phase, f_itemCount, f_size, f_pending, f_factor, f_work, f_openCount, f_openLoops, nI d, nI ld, f_faultItem, nI na, f_stepCount, f_cursor, f_hasTangent, f_flowDepth, a_inputs, a_weights, a_itemKind, a_itemArg, a_itemJump, a_openItem, a_openElse, a_openFactor, a_cells, a_stack, a_loopCounter, a_loopLimit, a_actCode, a_actLeft, a_actRight, a_stepItem, a_stepCell, a_stepOld, a_stepNew, a_stepEnd, a_adjoints, a_tangents, a_flow) (nI pc) := by
  rw [← nI_1 pc] at K
  refine And.intro (vp_in_nI hpc (by decide)) (nm_r (e' := nI lv) (by rw [nI_clamp (by omega)]; exact ha) (And.intro (vp_in_nI hpc (by decide)) (nm_r (e' := 3) (by rw [nI_clamp (by omega)]; exact hk) ?_)))
  refine br_f (by decide) (br_f (by decide) (br_f (by decide) (br_f (by decide) (br_f (by decide) (br_t rfl ?_)))))
  refine rx_readCounter hd hna hl h6 hq ?_
  exact K
theorem rx_e4 {post : Int32 → SX → Prop} {pc : Nat} {na ns i : Nat} {v : Int32} (hpc : pc < 128) (hk : a_itemKind pc = 4) (ha : a_itemArg pc = nI i) (hi : i < 8) (hna : na < 1024) (hns : ns < 1024) (hs : a_stack 0 = v)
    (K : post (nI (pc + 1)) (f_STORE_CELL, f_STORE_AT, f_OPERATOR, f_LOOP, f_LOOP_BY, f_IF, f_ELSE, f_END, f_ACT_ZERO, f_ACT_READ, f_ACT_WRITE, f_ACT_DROP, f_ACT_COMBINE, f_ACT_NEGATE, f_ACT_COPY, f_ACT_EXCHANGE, f_prime, f_cellCount, f_room, f_phase, f_itemCount, f_size, f_pending, f_factor, f_work, f_openCount, f_openLoops, nI 0, f_loopDepth, f_faultItem, nI (na + 1), nI (ns + 1), f_cursor, f_hasTangent, f_flowDepth, a_inputs, a_weights, a_itemKind, a_itemArg, a_itemJump, a_openItem, a_openElse, a_openFactor, upd a_cells i v, a_stack, a_loopCounter, a_loopLimit, upd a_actCode na 2, upd a_actLeft na (nI i), upd a_actRight na 0, upd a_stepItem ns (nI pc), upd a_stepCell ns (nI i), upd a_stepOld ns (a_cells i), upd a_stepNew ns v, upd a_stepEnd ns (nI (na + 1)), a_adjoints, a_tangents, a_flow)) : wpX_executeItem post (f_STORE_CELL, f_STORE_AT, f_OPERATOR, f_LOOP, f_LOOP_BY, f_IF, f_ELSE, f_END, f_ACT_ZERO, f_ACT_READ, f_ACT_WRITE, f_ACT_DROP, f_ACT_COMBINE, f_ACT_NEGATE, f_ACT_COPY, f_ACT_EXCHANGE, f_prime, f_cellCount, f_room, f_phase, f_itemCount, f_size, f_pending, f_factor, f_work, f_openCount, f_openLoops, nI 1, f_loopDepth, f_faultItem, nI na, nI ns, f_cursor, f_hasTangent, f_flowDepth, a_inputs, a_weights, a_itemKind, a_itemArg, a_itemJump, a_openItem, a_openElse, a_openFactor, a_cells, a_stack, a_loopCounter, a_loopLimit, a_actCode, a_actLeft, a_actRight, a_stepItem, a_stepCell, a_stepOld, a_stepNew, a_stepEnd, a_adjoints, a_tangents, a_flow) (nI pc) := by
  rw [← nI_1 pc] at K
  refine And.intro (vp_in_nI hpc (by decide)) (nm_r (e' := nI i) (by rw [nI_clamp (by omega)]; exact ha) (And.intro (vp_in_nI hpc (by decide)) (nm_r (e' := 4) (by rw [nI_clamp (by omega)]; exact hk) ?_)))
  refine br_f (by decide) (br_f (by decide) (br_f (by decide) (br_f (by decide) (br_f (by decide) (br_f (by decide) (br_t rfl ?_))))))
  refine rx_writeCell hna hns hi hs ?_
  exact K
theorem rx_e5 {post : Int32 → SX → Prop} {pc : Nat} {na ns i n x : Nat} {v : Int32} (hpc : pc < 128) (hk : a_itemKind pc = 5) (ha : a_itemArg pc = nI i) (hi : i < 8) (h0 : 0 < n) (hn : n ≤ 8) (hv : x < 2 ^ 31) (hc : a_cells i = nI x) (hna : na < 1024) (hns : ns < 1024) (hs : a_stack 0 = v)
    (K : post (nI (pc + 1)) (f_STORE_CELL, f_STORE_AT, f_OPERATOR, f_LOOP, f_LOOP_BY, f_IF, f_ELSE, f_END, f_ACT_ZERO, f_ACT_READ, f_ACT_WRITE, f_ACT_DROP, f_ACT_COMBINE, f_ACT_NEGATE, f_ACT_COPY, f_ACT_EXCHANGE, f_prime, nI n, f_room, f_phase, f_itemCount, f_size, f_pending, f_factor, f_work, f_openCount, f_openLoops, nI 0, f_loopDepth, f_faultItem, nI (na + 1), nI (ns + 1), f_cursor, f_hasTangent, f_flowDepth, a_inputs, a_weights, a_itemKind, a_itemArg, a_itemJump, a_openItem, a_openElse, a_openFactor, upd a_cells (x % n) v, a_stack, a_loopCounter, a_loopLimit, upd a_actCode na 2, upd a_actLeft na (nI (x % n)), upd a_actRight na 0, upd a_stepItem ns (nI pc), upd a_stepCell ns (nI (x % n)), upd a_stepOld ns (a_cells (x % n)), upd a_stepNew ns v, upd a_stepEnd ns (nI (na + 1)), a_adjoints, a_tangents, a_flow)) : wpX_executeItem post (f_STORE_CELL, f_STORE_AT, f_OPERATOR, f_LOOP, f_LOOP_BY, f_IF, f_ELSE, f_END, f_ACT_ZERO, f_ACT_READ, f_ACT_WRITE, f_ACT_DROP, f_ACT_COMBINE, f_ACT_NEGATE, f_ACT_COPY, f_ACT_EXCHANGE, f_prime, nI n, f_room, f_phase, f_itemCount, f_size, f_pending, f_factor, f_work, f_openCount, f_openLoops, nI 1, f_loopDepth, f_faultItem, nI na, nI ns, f_cursor, f_hasTangent, f_flowDepth, a_inputs, a_weights, a_itemKind, a_itemArg, a_itemJump, a_openItem, a_openElse, a_openFactor, a_cells, a_stack, a_loopCounter, a_loopLimit, a_actCode, a_actLeft, a_actRight, a_stepItem, a_stepCell, a_stepOld, a_stepNew, a_stepEnd, a_adjoints, a_tangents, a_flow) (nI pc) := by
  rw [← nI_1 pc] at K
  refine And.intro (vp_in_nI hpc (by decide)) (nm_r (e' := nI i) (by rw [nI_clamp (by omega)]; exact ha) (And.intro (vp_in_nI hpc (by decide)) (nm_r (e' := 5) (by rw [nI_clamp (by omega)]; exact hk) ?_)))
  refine br_f (by decide) (br_f (by decide) (br_f (by decide) (br_f (by decide) (br_f (by decide) (br_f (by decide) (br_f (by decide) (br_t rfl ?_)))))))
  have hm := Nat.mod_lt x h0
  refine And.intro (vp_in_nI hi (by decide)) (And.intro (nI_ne0 h0 (by omega)) ?_)
  rw [nI_clamp (by omega), hc, pk_rem hv h0 (by omega)]
  refine rx_writeCell hna hns (by omega) hs ?_
  exact K
theorem rx_e6 {post : Int32 → SX → Prop} {pc : Nat} {a : Int32} (hpc : pc < 128) (hk : a_itemKind pc = 6) (ha : a_itemArg pc = a) 
    (K : wpX_applyOperator (fun r u => (r = 0 → post (-1) u) ∧ (¬ r = 0 → post (nI (pc + 1)) u)) (f_STORE_CELL, f_STORE_AT, f_OPERATOR, f_LOOP, f_LOOP_BY, f_IF, f_ELSE, f_END, f_ACT_ZERO, f_ACT_READ, f_ACT_WRITE, f_ACT_DROP, f_ACT_COMBINE, f_ACT_NEGATE, f_ACT_COPY, f_ACT_EXCHANGE, f_prime, f_cellCount, f_room, f_phase, f_itemCount, f_size, f_pending, f_factor, f_work, f_openCount, f_openLoops, f_depth, f_loopDepth, f_faultItem, f_actCount, f_stepCount, f_cursor, f_hasTangent, f_flowDepth, a_inputs, a_weights, a_itemKind, a_itemArg, a_itemJump, a_openItem, a_openElse, a_openFactor, a_cells, a_stack, a_loopCounter, a_loopLimit, a_actCode, a_actLeft, a_actRight, a_stepItem, a_stepCell, a_stepOld, a_stepNew, a_stepEnd, a_adjoints, a_tangents, a_flow) a) : wpX_executeItem post (f_STORE_CELL, f_STORE_AT, f_OPERATOR, f_LOOP, f_LOOP_BY, f_IF, f_ELSE, f_END, f_ACT_ZERO, f_ACT_READ, f_ACT_WRITE, f_ACT_DROP, f_ACT_COMBINE, f_ACT_NEGATE, f_ACT_COPY, f_ACT_EXCHANGE, f_prime, f_cellCount, f_room, f_phase, f_itemCount, f_size, f_pending, f_factor, f_work, f_openCount, f_openLoops, f_depth, f_loopDepth, f_faultItem, f_actCount, f_stepCount, f_cursor, f_hasTangent, f_flowDepth, a_inputs, a_weights, a_itemKind, a_itemArg, a_itemJump, a_openItem, a_openElse, a_openFactor, a_cells, a_stack, a_loopCounter, a_loopLimit, a_actCode, a_actLeft, a_actRight, a_stepItem, a_stepCell, a_stepOld, a_stepNew, a_stepEnd, a_adjoints, a_tangents, a_flow) (nI pc) := by
  rw [← nI_1 pc] at K
  refine And.intro (vp_in_nI hpc (by decide)) (nm_r (e' := a) (by rw [nI_clamp (by omega)]; exact ha) (And.intro (vp_in_nI hpc (by decide)) (nm_r (e' := 6) (by rw [nI_clamp (by omega)]; exact hk) ?_)))
  refine br_f (by decide) (br_f (by decide) (br_f (by decide) (br_f (by decide) (br_f (by decide) (br_f (by decide) (br_f (by decide) (br_f (by decide) (br_t rfl ?_))))))))
  exact K
theorem rx_e7 {post : Int32 → SX → Prop} {pc : Nat} {ld c : Nat} (hpc : pc < 128) (hk : a_itemKind pc = 7) (ha : a_itemArg pc = nI c) (hc : 0 < c) (hc2 : c ≤ 16) (hl : ld < 6)
    (K : post (nI (pc + 1)) (f_STORE_CELL, f_STORE_AT, f_OPERATOR, f_LOOP, f_LOOP_BY, f_IF, f_ELSE, f_END, f_ACT_ZERO, f_ACT_READ, f_ACT_WRITE, f_ACT_DROP, f_ACT_COMBINE, f_ACT_NEGATE, f_ACT_COPY, f_ACT_EXCHANGE, f_prime, f_cellCount, f_room, f_phase, f_itemCount, f_size, f_pending, f_factor, f_work, f_openCount, f_openLoops, f_depth, nI (ld + 1), f_faultItem, f_actCount, f_stepCount, f_cursor, f_hasTangent, f_flowDepth, a_inputs, a_weights, a_itemKind, a_itemArg, a_itemJump, a_openItem, a_openElse, a_openFactor, a_cells, a_stack, upd a_loopCounter ld 0, upd a_loopLimit ld (nI c), a_actCode, a_actLeft, a_actRight, a_stepItem, a_stepCell, a_stepOld, a_stepNew, a_stepEnd, a_adjoints, a_tangents, a_flow)) : wpX_executeItem post (f_STORE_CELL, f_STORE_AT, f_OPERATOR, f_LOOP, f_LOOP_BY, f_IF, f_ELSE, f_END, f_ACT_ZERO, f_ACT_READ, f_ACT_WRITE, f_ACT_DROP, f_ACT_COMBINE, f_ACT_NEGATE, f_ACT_COPY, f_ACT_EXCHANGE, f_prime, f_cellCount, f_room, f_phase, f_itemCount, f_size, f_pending, f_factor, f_work, f_openCount, f_openLoops, f_depth, nI ld, f_faultItem, f_actCount, f_stepCount, f_cursor, f_hasTangent, f_flowDepth, a_inputs, a_weights, a_itemKind, a_itemArg, a_itemJump, a_openItem, a_openElse, a_openFactor, a_cells, a_stack, a_loopCounter, a_loopLimit, a_actCode, a_actLeft, a_actRight, a_stepItem, a_stepCell, a_stepOld, a_stepNew, a_stepEnd, a_adjoints, a_tangents, a_flow) (nI pc) := by
  refine And.intro (vp_in_nI hpc (by decide)) (nm_r (e' := nI c) (by rw [nI_clamp (by omega)]; exact ha) (And.intro (vp_in_nI hpc (by decide)) (nm_r (e' := 7) (by rw [nI_clamp (by omega)]; exact hk) ?_)))
  refine br_f (by decide) (br_f (by decide) (br_f (by decide) (br_f (by decide) (br_f (by decide) (br_f (by decide) (br_f (by decide) (br_f (by decide) (br_f (by decide) (br_t rfl ?_)))))))))
  refine rx_enterLoop1 hc hc2 hl ?_
  exact K
theorem rx_e8 {post : Int32 → SX → Prop} {pc : Nat} {ld c v na : Nat} (hpc : pc < 128) (hk : a_itemKind pc = 8) (ha : a_itemArg pc = nI c) (hc : 0 < c) (hc2 : c ≤ 16) (hl : ld < 6) (hna : na < 1024) (hs : a_stack 0 = nI v) (hv0 : 0 < v) (hv : v < 2 ^ 31)
    (K : post (nI (pc + 1)) (f_STORE_CELL, f_STORE_AT, f_OPERATOR, f_LOOP, f_LOOP_BY, f_IF, f_ELSE, f_END, f_ACT_ZERO, f_ACT_READ, f_ACT_WRITE, f_ACT_DROP, f_ACT_COMBINE, f_ACT_NEGATE, f_ACT_COPY, f_ACT_EXCHANGE, f_prime, f_cellCount, f_room, f_phase, f_itemCount, f_size, f_pending, f_factor, f_work, f_openCount, f_openLoops, nI 0, nI (ld + 1), f_faultItem, nI (na + 1), f_stepCount, f_cursor, f_hasTangent, f_flowDepth, a_inputs, a_weights, a_itemKind, a_itemArg, a_itemJump, a_openItem, a_openElse, a_openFactor, a_cells, a_stack, upd a_loopCounter ld 0, upd a_loopLimit ld (nI (min v c)), upd a_actCode na 3, upd a_actLeft na 0, upd a_actRight na 0, a_stepItem, a_stepCell, a_stepOld, a_stepNew, a_stepEnd, a_adjoints, a_tangents, a_flow)) : wpX_executeItem post (f_STORE_CELL, f_STORE_AT, f_OPERATOR, f_LOOP, f_LOOP_BY, f_IF, f_ELSE, f_END, f_ACT_ZERO, f_ACT_READ, f_ACT_WRITE, f_ACT_DROP, f_ACT_COMBINE, f_ACT_NEGATE, f_ACT_COPY, f_ACT_EXCHANGE, f_prime, f_cellCount, f_room, f_phase, f_itemCount, f_size, f_pending, f_factor, f_work, f_openCount, f_openLoops, nI 1, nI ld, f_faultItem, nI na, f_stepCount, f_cursor, f_hasTangent, f_flowDepth, a_inputs, a_weights, a_itemKind, a_itemArg, a_itemJump, a_openItem, a_openElse, a_openFactor, a_cells, a_stack, a_loopCounter, a_loopLimit, a_actCode, a_actLeft, a_actRight, a_stepItem, a_stepCell, a_stepOld, a_stepNew, a_stepEnd, a_adjoints, a_tangents, a_flow) (nI pc) := by
  refine And.intro (vp_in_nI hpc (by decide)) (nm_r (e' := nI c) (by rw [nI_clamp (by omega)]; exact ha) (And.intro (vp_in_nI hpc (by decide)) (nm_r (e' := 8) (by rw [nI_clamp (by omega)]; exact hk) ?_)))
  refine br_f (by decide) (br_f (by decide) (br_f (by decide) (br_f (by decide) (br_f (by decide) (br_f (by decide) (br_f (by decide) (br_f (by decide) (br_f (by decide) (br_f (by decide) (br_t rfl ?_))))))))))
  unfold wpX_enterLoopBy
  refine rx_dropValue (d := 0) (by decide) hna ?_
  rw [hs]
  refine pk_le v c (fun h => ?_) (fun h => ?_)
  · rw [Nat.min_eq_left h] at K
    unfold wX_enterLoopBy_12
    refine rx_enterLoop1 hv0 (by omega) hl ?_
    exact K
  · rw [Nat.min_eq_right (by omega)] at K
    unfold wX_enterLoopBy_12
    refine rx_enterLoop1 hc hc2 hl ?_
    exact K
theorem rx_e8z {post : Int32 → SX → Prop} {pc : Nat} {ld c na j : Nat} (hpc : pc < 128) (hk : a_itemKind pc = 8) (ha : a_itemArg pc = nI c) (hna : na < 1024) (hs : a_stack 0 = 0) (hj : a_itemJump pc = nI j)
    (K : post (nI (j + 1)) (f_STORE_CELL, f_STORE_AT, f_OPERATOR, f_LOOP, f_LOOP_BY, f_IF, f_ELSE, f_END, f_ACT_ZERO, f_ACT_READ, f_ACT_WRITE, f_ACT_DROP, f_ACT_COMBINE, f_ACT_NEGATE, f_ACT_COPY, f_ACT_EXCHANGE, f_prime, f_cellCount, f_room, f_phase, f_itemCount, f_size, f_pending, f_factor, f_work, f_openCount, f_openLoops, nI 0, nI ld, f_faultItem, nI (na + 1), f_stepCount, f_cursor, f_hasTangent, f_flowDepth, a_inputs, a_weights, a_itemKind, a_itemArg, a_itemJump, a_openItem, a_openElse, a_openFactor, a_cells, a_stack, a_loopCounter, a_loopLimit, upd a_actCode na 3, upd a_actLeft na 0, upd a_actRight na 0, a_stepItem, a_stepCell, a_stepOld, a_stepNew, a_stepEnd, a_adjoints, a_tangents, a_flow)) (hc : c ≤ 16) : wpX_executeItem post (f_STORE_CELL, f_STORE_AT, f_OPERATOR, f_LOOP, f_LOOP_BY, f_IF, f_ELSE, f_END, f_ACT_ZERO, f_ACT_READ, f_ACT_WRITE, f_ACT_DROP, f_ACT_COMBINE, f_ACT_NEGATE, f_ACT_COPY, f_ACT_EXCHANGE, f_prime, f_cellCount, f_room, f_phase, f_itemCount, f_size, f_pending, f_factor, f_work, f_openCount, f_openLoops, nI 1, nI ld, f_faultItem, nI na, f_stepCount, f_cursor, f_hasTangent, f_flowDepth, a_inputs, a_weights, a_itemKind, a_itemArg, a_itemJump, a_openItem, a_openElse, a_openFactor, a_cells, a_stack, a_loopCounter, a_loopLimit, a_actCode, a_actLeft, a_actRight, a_stepItem, a_stepCell, a_stepOld, a_stepNew, a_stepEnd, a_adjoints, a_tangents, a_flow) (nI pc) := by
  refine And.intro (vp_in_nI hpc (by decide)) (nm_r (e' := nI c) (by rw [nI_clamp (by omega)]; exact ha) (And.intro (vp_in_nI hpc (by decide)) (nm_r (e' := 8) (by rw [nI_clamp (by omega)]; exact hk) ?_)))
  refine br_f (by decide) (br_f (by decide) (br_f (by decide) (br_f (by decide) (br_f (by decide) (br_f (by decide) (br_f (by decide) (br_f (by decide) (br_f (by decide) (br_f (by decide) (br_t rfl ?_))))))))))
  unfold wpX_enterLoopBy
  refine rx_dropValue (d := 0) (by decide) hna ?_
  rw [hs]
  refine br_t (nI_le (a := 0) (b := c) (by omega) (by omega)) ?_
  unfold wX_enterLoopBy_12
  refine rx_enterLoop0 hpc hj ?_
  exact K
theorem rx_e9t {post : Int32 → SX → Prop} {pc : Nat} {c v na q : Nat} (hpc : pc < 128) (hk : a_itemKind pc = 9) (ha : a_itemArg pc = nI c) (hc : c ≤ 3) (hv : v < q + 1) (hq : q < 32749) (hna : na < 1024) (hs : a_stack 0 = nI v) (hh : rs_hold q c v = true)
    (K : post (nI (pc + 1)) (f_STORE_CELL, f_STORE_AT, f_OPERATOR, f_LOOP, f_LOOP_BY, f_IF, f_ELSE, f_END, f_ACT_ZERO, f_ACT_READ, f_ACT_WRITE, f_ACT_DROP, f_ACT_COMBINE, f_ACT_NEGATE, f_ACT_COPY, f_ACT_EXCHANGE, nI (q + 1), f_cellCount, f_room, f_phase, f_itemCount, f_size, f_pending, f_factor, f_work, f_openCount, f_openLoops, nI 0, f_loopDepth, f_faultItem, nI (na + 1), f_stepCount, f_cursor, f_hasTangent, f_flowDepth, a_inputs, a_weights, a_itemKind, a_itemArg, a_itemJump, a_openItem, a_openElse, a_openFactor, a_cells, a_stack, a_loopCounter, a_loopLimit, upd a_actCode na 3, upd a_actLeft na 0, upd a_actRight na 0, a_stepItem, a_stepCell, a_stepOld, a_stepNew, a_stepEnd, a_adjoints, a_tangents, a_flow)) : wpX_executeItem post (f_STORE_CELL, f_STORE_AT, f_OPERATOR, f_LOOP, f_LOOP_BY, f_IF, f_ELSE, f_END, f_ACT_ZERO, f_ACT_READ, f_ACT_WRITE, f_ACT_DROP, f_ACT_COMBINE, f_ACT_NEGATE, f_ACT_COPY, f_ACT_EXCHANGE, nI (q + 1), f_cellCount, f_room, f_phase, f_itemCount, f_size, f_pending, f_factor, f_work, f_openCount, f_openLoops, nI 1, f_loopDepth, f_faultItem, nI na, f_stepCount, f_cursor, f_hasTangent, f_flowDepth, a_inputs, a_weights, a_itemKind, a_itemArg, a_itemJump, a_openItem, a_openElse, a_openFactor, a_cells, a_stack, a_loopCounter, a_loopLimit, a_actCode, a_actLeft, a_actRight, a_stepItem, a_stepCell, a_stepOld, a_stepNew, a_stepEnd, a_adjoints, a_tangents, a_flow) (nI pc) := by
  rw [← nI_1 pc] at K
  refine And.intro (vp_in_nI hpc (by decide)) (nm_r (e' := nI c) (by rw [nI_clamp (by omega)]; exact ha) (And.intro (vp_in_nI hpc (by decide)) (nm_r (e' := 9) (by rw [nI_clamp (by omega)]; exact hk) ?_)))
  refine br_f (by decide) (br_f (by decide) (br_f (by decide) (br_f (by decide) (br_f (by decide) (br_f (by decide) (br_f (by decide) (br_f (by decide) (br_f (by decide) (br_f (by decide) (br_f (by decide) (br_t rfl ?_)))))))))))
  unfold wpX_branch
  refine rx_dropValue (d := 0) (by decide) hna ?_
  rw [hs]
  refine rx_holds hc hv hq ?_
  rw [hh]
  exact br_f (by decide) K
theorem rx_e9f {post : Int32 → SX → Prop} {pc : Nat} {c v na q j : Nat} (hpc : pc < 128) (hk : a_itemKind pc = 9) (ha : a_itemArg pc = nI c) (hc : c ≤ 3) (hv : v < q + 1) (hq : q < 32749) (hna : na < 1024) (hs : a_stack 0 = nI v) (hh : rs_hold q c v = false) (hj : a_itemJump pc = nI j)
    (K : post (nI (j + 1)) (f_STORE_CELL, f_STORE_AT, f_OPERATOR, f_LOOP, f_LOOP_BY, f_IF, f_ELSE, f_END, f_ACT_ZERO, f_ACT_READ, f_ACT_WRITE, f_ACT_DROP, f_ACT_COMBINE, f_ACT_NEGATE, f_ACT_COPY, f_ACT_EXCHANGE, nI (q + 1), f_cellCount, f_room, f_phase, f_itemCount, f_size, f_pending, f_factor, f_work, f_openCount, f_openLoops, nI 0, f_loopDepth, f_faultItem, nI (na + 1), f_stepCount, f_cursor, f_hasTangent, f_flowDepth, a_inputs, a_weights, a_itemKind, a_itemArg, a_itemJump, a_openItem, a_openElse, a_openFactor, a_cells, a_stack, a_loopCounter, a_loopLimit, upd a_actCode na 3, upd a_actLeft na 0, upd a_actRight na 0, a_stepItem, a_stepCell, a_stepOld, a_stepNew, a_stepEnd, a_adjoints, a_tangents, a_flow)) : wpX_executeItem post (f_STORE_CELL, f_STORE_AT, f_OPERATOR, f_LOOP, f_LOOP_BY, f_IF, f_ELSE, f_END, f_ACT_ZERO, f_ACT_READ, f_ACT_WRITE, f_ACT_DROP, f_ACT_COMBINE, f_ACT_NEGATE, f_ACT_COPY, f_ACT_EXCHANGE, nI (q + 1), f_cellCount, f_room, f_phase, f_itemCount, f_size, f_pending, f_factor, f_work, f_openCount, f_openLoops, nI 1, f_loopDepth, f_faultItem, nI na, f_stepCount, f_cursor, f_hasTangent, f_flowDepth, a_inputs, a_weights, a_itemKind, a_itemArg, a_itemJump, a_openItem, a_openElse, a_openFactor, a_cells, a_stack, a_loopCounter, a_loopLimit, a_actCode, a_actLeft, a_actRight, a_stepItem, a_stepCell, a_stepOld, a_stepNew, a_stepEnd, a_adjoints, a_tangents, a_flow) (nI pc) := by
  refine And.intro (vp_in_nI hpc (by decide)) (nm_r (e' := nI c) (by rw [nI_clamp (by omega)]; exact ha) (And.intro (vp_in_nI hpc (by decide)) (nm_r (e' := 9) (by rw [nI_clamp (by omega)]; exact hk) ?_)))
  refine br_f (by decide) (br_f (by decide) (br_f (by decide) (br_f (by decide) (br_f (by decide) (br_f (by decide) (br_f (by decide) (br_f (by decide) (br_f (by decide) (br_f (by decide) (br_f (by decide) (br_t rfl ?_)))))))))))
  unfold wpX_branch
  refine rx_dropValue (d := 0) (by decide) hna ?_
  rw [hs]
  refine rx_holds hc hv hq ?_
  rw [hh]
  refine br_t rfl (And.intro (vp_in_nI hpc (by decide)) ?_)
  rw [nI_clamp (by omega), hj, nI_1 j]
  exact K
theorem rx_e10 {post : Int32 → SX → Prop} {pc : Nat} {j : Nat} {a : Int32} (hpc : pc < 128) (hk : a_itemKind pc = 10) (ha : a_itemArg pc = a) (hj : a_itemJump pc = nI j)
    (K : post (nI (j + 1)) (f_STORE_CELL, f_STORE_AT, f_OPERATOR, f_LOOP, f_LOOP_BY, f_IF, f_ELSE, f_END, f_ACT_ZERO, f_ACT_READ, f_ACT_WRITE, f_ACT_DROP, f_ACT_COMBINE, f_ACT_NEGATE, f_ACT_COPY, f_ACT_EXCHANGE, f_prime, f_cellCount, f_room, f_phase, f_itemCount, f_size, f_pending, f_factor, f_work, f_openCount, f_openLoops, f_depth, f_loopDepth, f_faultItem, f_actCount, f_stepCount, f_cursor, f_hasTangent, f_flowDepth, a_inputs, a_weights, a_itemKind, a_itemArg, a_itemJump, a_openItem, a_openElse, a_openFactor, a_cells, a_stack, a_loopCounter, a_loopLimit, a_actCode, a_actLeft, a_actRight, a_stepItem, a_stepCell, a_stepOld, a_stepNew, a_stepEnd, a_adjoints, a_tangents, a_flow)) : wpX_executeItem post (f_STORE_CELL, f_STORE_AT, f_OPERATOR, f_LOOP, f_LOOP_BY, f_IF, f_ELSE, f_END, f_ACT_ZERO, f_ACT_READ, f_ACT_WRITE, f_ACT_DROP, f_ACT_COMBINE, f_ACT_NEGATE, f_ACT_COPY, f_ACT_EXCHANGE, f_prime, f_cellCount, f_room, f_phase, f_itemCount, f_size, f_pending, f_factor, f_work, f_openCount, f_openLoops, f_depth, f_loopDepth, f_faultItem, f_actCount, f_stepCount, f_cursor, f_hasTangent, f_flowDepth, a_inputs, a_weights, a_itemKind, a_itemArg, a_itemJump, a_openItem, a_openElse, a_openFactor, a_cells, a_stack, a_loopCounter, a_loopLimit, a_actCode, a_actLeft, a_actRight, a_stepItem, a_stepCell, a_stepOld, a_stepNew, a_stepEnd, a_adjoints, a_tangents, a_flow) (nI pc) := by
  refine And.intro (vp_in_nI hpc (by decide)) (nm_r (e' := a) (by rw [nI_clamp (by omega)]; exact ha) (And.intro (vp_in_nI hpc (by decide)) (nm_r (e' := 10) (by rw [nI_clamp (by omega)]; exact hk) ?_)))
  refine br_f (by decide) (br_f (by decide) (br_f (by decide) (br_f (by decide) (br_f (by decide) (br_f (by decide) (br_f (by decide) (br_f (by decide) (br_f (by decide) (br_f (by decide) (br_f (by decide) (br_f (by decide) (br_t rfl ?_))))))))))))
  refine And.intro (vp_in_nI hpc (by decide)) ?_
  rw [nI_clamp (by omega), hj, nI_1 j]
  exact K
theorem rx_e11i {post : Int32 → SX → Prop} {pc : Nat} {op : Nat} {a : Int32} (hpc : pc < 128) (hk : a_itemKind pc = 11) (ha : a_itemArg pc = a) (hj : a_itemJump pc = nI op) (hop : op < 128) (h9 : a_itemKind op = 9)
    (K : post (nI (pc + 1)) (f_STORE_CELL, f_STORE_AT, f_OPERATOR, f_LOOP, f_LOOP_BY, f_IF, f_ELSE, f_END, f_ACT_ZERO, f_ACT_READ, f_ACT_WRITE, f_ACT_DROP, f_ACT_COMBINE, f_ACT_NEGATE, f_ACT_COPY, f_ACT_EXCHANGE, f_prime, f_cellCount, f_room, f_phase, f_itemCount, f_size, f_pending, f_factor, f_work, f_openCount, f_openLoops, f_depth, f_loopDepth, f_faultItem, f_actCount, f_stepCount, f_cursor, f_hasTangent, f_flowDepth, a_inputs, a_weights, a_itemKind, a_itemArg, a_itemJump, a_openItem, a_openElse, a_openFactor, a_cells, a_stack, a_loopCounter, a_loopLimit, a_actCode, a_actLeft, a_actRight, a_stepItem, a_stepCell, a_stepOld, a_stepNew, a_stepEnd, a_adjoints, a_tangents, a_flow)) : wpX_executeItem post (f_STORE_CELL, f_STORE_AT, f_OPERATOR, f_LOOP, f_LOOP_BY, f_IF, f_ELSE, f_END, f_ACT_ZERO, f_ACT_READ, f_ACT_WRITE, f_ACT_DROP, f_ACT_COMBINE, f_ACT_NEGATE, f_ACT_COPY, f_ACT_EXCHANGE, f_prime, f_cellCount, f_room, f_phase, f_itemCount, f_size, f_pending, f_factor, f_work, f_openCount, f_openLoops, f_depth, f_loopDepth, f_faultItem, f_actCount, f_stepCount, f_cursor, f_hasTangent, f_flowDepth, a_inputs, a_weights, a_itemKind, a_itemArg, a_itemJump, a_openItem, a_openElse, a_openFactor, a_cells, a_stack, a_loopCounter, a_loopLimit, a_actCode, a_actLeft, a_actRight, a_stepItem, a_stepCell, a_stepOld, a_stepNew, a_stepEnd, a_adjoints, a_tangents, a_flow) (nI pc) := by
  rw [← nI_1 pc] at K
  refine And.intro (vp_in_nI hpc (by decide)) (nm_r (e' := a) (by rw [nI_clamp (by omega)]; exact ha) (And.intro (vp_in_nI hpc (by decide)) (nm_r (e' := 11) (by rw [nI_clamp (by omega)]; exact hk) ?_)))
  refine br_f (by decide) (br_t (by decide) ?_)
  refine And.intro (vp_in_nI hpc (by decide)) (nm_r (e' := nI op) (by rw [nI_clamp (by omega)]; exact hj) (And.intro (vp_in_nI hop (by decide)) ?_))
  rw [nI_clamp (show op < 2 ^ 31 by omega), h9]
  exact br_t rfl K
theorem rx_e11b {post : Int32 → SX → Prop} {pc : Nat} {op ld ct lim : Nat} {a : Int32} (hpc : pc < 128) (hk : a_itemKind pc = 11) (ha : a_itemArg pc = a) (hj : a_itemJump pc = nI op) (hop : op < 128) (h9 : ¬ a_itemKind op = 9) (hld : ld < 6) (hct : a_loopCounter ld = nI ct) (hlim : a_loopLimit ld = nI lim) (h16 : lim ≤ 16) (hcl : ct < lim) (hc : ct + 1 < lim)
    (K : post (nI (op + 1)) (f_STORE_CELL, f_STORE_AT, f_OPERATOR, f_LOOP, f_LOOP_BY, f_IF, f_ELSE, f_END, f_ACT_ZERO, f_ACT_READ, f_ACT_WRITE, f_ACT_DROP, f_ACT_COMBINE, f_ACT_NEGATE, f_ACT_COPY, f_ACT_EXCHANGE, f_prime, f_cellCount, f_room, f_phase, f_itemCount, f_size, f_pending, f_factor, f_work, f_openCount, f_openLoops, f_depth, nI (ld + 1), f_faultItem, f_actCount, f_stepCount, f_cursor, f_hasTangent, f_flowDepth, a_inputs, a_weights, a_itemKind, a_itemArg, a_itemJump, a_openItem, a_openElse, a_openFactor, a_cells, a_stack, upd a_loopCounter ld (nI (ct + 1)), a_loopLimit, a_actCode, a_actLeft, a_actRight, a_stepItem, a_stepCell, a_stepOld, a_stepNew, a_stepEnd, a_adjoints, a_tangents, a_flow)) : wpX_executeItem post (f_STORE_CELL, f_STORE_AT, f_OPERATOR, f_LOOP, f_LOOP_BY, f_IF, f_ELSE, f_END, f_ACT_ZERO, f_ACT_READ, f_ACT_WRITE, f_ACT_DROP, f_ACT_COMBINE, f_ACT_NEGATE, f_ACT_COPY, f_ACT_EXCHANGE, f_prime, f_cellCount, f_room, f_phase, f_itemCount, f_size, f_pending, f_factor, f_work, f_openCount, f_openLoops, f_depth, nI (ld + 1), f_faultItem, f_actCount, f_stepCount, f_cursor, f_hasTangent, f_flowDepth, a_inputs, a_weights, a_itemKind, a_itemArg, a_itemJump, a_openItem, a_openElse, a_openFactor, a_cells, a_stack, a_loopCounter, a_loopLimit, a_actCode, a_actLeft, a_actRight, a_stepItem, a_stepCell, a_stepOld, a_stepNew, a_stepEnd, a_adjoints, a_tangents, a_flow) (nI pc) := by
  refine And.intro (vp_in_nI hpc (by decide)) (nm_r (e' := a) (by rw [nI_clamp (by omega)]; exact ha) (And.intro (vp_in_nI hpc (by decide)) (nm_r (e' := 11) (by rw [nI_clamp (by omega)]; exact hk) ?_)))
  refine br_f (by decide) (br_t (by decide) ?_)
  refine And.intro (vp_in_nI hpc (by decide)) (nm_r (e' := nI op) (by rw [nI_clamp (by omega)]; exact hj) (And.intro (vp_in_nI hop (by decide)) ?_))
  rw [nI_clamp (show op < 2 ^ 31 by omega)]
  refine br_f h9 (br_t (nI_lt (a := 0) (b := ld + 1) (by omega) (by omega)) (nm_r (nI_pred ld) ⟨vp_in_nI hld (by decide), vp_in_nI hld (by decide), nm_r (e' := upd a_loopCounter ld (nI (ct + 1))) (by rw [nI_clamp (by omega), hct, nI_1 ct]) ⟨vp_in_nI hld (by decide), vp_in_nI hld (by decide), ?_⟩⟩))
  rw [nI_clamp (show ld < 2 ^ 31 by omega), pk_us, hlim]
  refine br_f (nI_ge (a := ct + 1) (b := lim) hc (by omega)) ?_
  rw [nI_1 op]; exact K
theorem rx_e11x {post : Int32 → SX → Prop} {pc : Nat} {op ld ct lim : Nat} {a : Int32} (hpc : pc < 128) (hk : a_itemKind pc = 11) (ha : a_itemArg pc = a) (hj : a_itemJump pc = nI op) (hop : op < 128) (h9 : ¬ a_itemKind op = 9) (hld : ld < 6) (hct : a_loopCounter ld = nI ct) (hlim : a_loopLimit ld = nI lim) (h16 : lim ≤ 16) (hcl : ct < lim) (hc : lim ≤ ct + 1)
    (K : post (nI (pc + 1)) (f_STORE_CELL, f_STORE_AT, f_OPERATOR, f_LOOP, f_LOOP_BY, f_IF, f_ELSE, f_END, f_ACT_ZERO, f_ACT_READ, f_ACT_WRITE, f_ACT_DROP, f_ACT_COMBINE, f_ACT_NEGATE, f_ACT_COPY, f_ACT_EXCHANGE, f_prime, f_cellCount, f_room, f_phase, f_itemCount, f_size, f_pending, f_factor, f_work, f_openCount, f_openLoops, f_depth, nI ld, f_faultItem, f_actCount, f_stepCount, f_cursor, f_hasTangent, f_flowDepth, a_inputs, a_weights, a_itemKind, a_itemArg, a_itemJump, a_openItem, a_openElse, a_openFactor, a_cells, a_stack, upd a_loopCounter ld (nI (ct + 1)), a_loopLimit, a_actCode, a_actLeft, a_actRight, a_stepItem, a_stepCell, a_stepOld, a_stepNew, a_stepEnd, a_adjoints, a_tangents, a_flow)) : wpX_executeItem post (f_STORE_CELL, f_STORE_AT, f_OPERATOR, f_LOOP, f_LOOP_BY, f_IF, f_ELSE, f_END, f_ACT_ZERO, f_ACT_READ, f_ACT_WRITE, f_ACT_DROP, f_ACT_COMBINE, f_ACT_NEGATE, f_ACT_COPY, f_ACT_EXCHANGE, f_prime, f_cellCount, f_room, f_phase, f_itemCount, f_size, f_pending, f_factor, f_work, f_openCount, f_openLoops, f_depth, nI (ld + 1), f_faultItem, f_actCount, f_stepCount, f_cursor, f_hasTangent, f_flowDepth, a_inputs, a_weights, a_itemKind, a_itemArg, a_itemJump, a_openItem, a_openElse, a_openFactor, a_cells, a_stack, a_loopCounter, a_loopLimit, a_actCode, a_actLeft, a_actRight, a_stepItem, a_stepCell, a_stepOld, a_stepNew, a_stepEnd, a_adjoints, a_tangents, a_flow) (nI pc) := by
  refine And.intro (vp_in_nI hpc (by decide)) (nm_r (e' := a) (by rw [nI_clamp (by omega)]; exact ha) (And.intro (vp_in_nI hpc (by decide)) (nm_r (e' := 11) (by rw [nI_clamp (by omega)]; exact hk) ?_)))
  refine br_f (by decide) (br_t (by decide) ?_)
  refine And.intro (vp_in_nI hpc (by decide)) (nm_r (e' := nI op) (by rw [nI_clamp (by omega)]; exact hj) (And.intro (vp_in_nI hop (by decide)) ?_))
  rw [nI_clamp (show op < 2 ^ 31 by omega)]
  refine br_f h9 (br_t (nI_lt (a := 0) (b := ld + 1) (by omega) (by omega)) (nm_r (nI_pred ld) ⟨vp_in_nI hld (by decide), vp_in_nI hld (by decide), nm_r (e' := upd a_loopCounter ld (nI (ct + 1))) (by rw [nI_clamp (by omega), hct, nI_1 ct]) ⟨vp_in_nI hld (by decide), vp_in_nI hld (by decide), ?_⟩⟩))
  rw [nI_clamp (show ld < 2 ^ 31 by omega), pk_us, hlim]
  refine br_t (nI_le hc (by omega)) ?_
  rw [nI_1 pc]; exact K
end
end
section
/-! Y: the small methods -/
section
variable {f_p f_n f_room f_phase f_items f_cursor f_hasTangent f_size f_pending f_factor f_work f_open f_loops f_steps f_faultItem f_nextItem f_nextCell f_top : Int32} {a_kinds a_args a_inputs a_weights a_tangents a_marks a_cell a_dcell a_seen a_val a_der a_start a_counter a_total : Nat → Int32}
theorem ry_noCell_t {post : Int32 → Prop} {n c : Nat} (h : c < n) (hn : n ≤ 8) (K : post 0) : wpY_noCell post (f_p, nI n, f_room, f_phase, f_items, f_cursor, f_hasTangent, f_size, f_pending, f_factor, f_work, f_open, f_loops, f_steps, f_faultItem, f_nextItem, f_nextCell, f_top, a_kinds, a_args, a_inputs, a_weights, a_tangents, a_marks, a_cell, a_dcell, a_seen, a_val, a_der, a_start, a_counter, a_total) (nI c) :=
  br_f (nI_pos (by omega)) (br_t (nI_lt h (by omega)) K)
theorem ry_noCell_f {post : Int32 → Prop} {n : Nat} {i : Int32} (h : i < 0 ∨ nI n ≤ i) (K : post 1) : wpY_noCell post (f_p, nI n, f_room, f_phase, f_items, f_cursor, f_hasTangent, f_size, f_pending, f_factor, f_work, f_open, f_loops, f_steps, f_faultItem, f_nextItem, f_nextCell, f_top, a_kinds, a_args, a_inputs, a_weights, a_tangents, a_marks, a_cell, a_dcell, a_seen, a_val, a_der, a_start, a_counter, a_total) i :=
  br_c (fun _ => K) (fun h0 => br_f (fun z => h.elim h0 (fun y => absurd z (Int32.not_lt.mpr y))) K)
theorem ry_residue {post : Int32 → Prop} {q : Nat} {x : Int32} (hq : q < 32749) (K : post (ra_yr (nI (q + 1)) x)) : wpY_residue post (nI (q + 1), f_n, f_room, f_phase, f_items, f_cursor, f_hasTangent, f_size, f_pending, f_factor, f_work, f_open, f_loops, f_steps, f_faultItem, f_nextItem, f_nextCell, f_top, a_kinds, a_args, a_inputs, a_weights, a_tangents, a_marks, a_cell, a_dcell, a_seen, a_val, a_der, a_start, a_counter, a_total) x :=
  And.intro (nI_ne0 (by omega) (by omega)) (And.intro (nI_ne0 (by omega) (by omega)) K)
theorem ry_inv_lp {post : Int32 → Prop} {q b : Nat} (hp : ra_pr q) (hb0 : 0 < b) (hb : b < q + 1) (K : post (nI (ra_iv (q + 1) b))) : ∀ (k x r t : Nat), x ≤ k → 0 < x → x + t ≤ q + 1 → x < q + 1 → r < q + 1 → ra_z q (r : Int) * ra_z q (b : Int) = ra_z q (x : Int) →
    wY_inv_7 post (nI (q + 1)) f_n f_room f_phase f_items f_cursor f_hasTangent f_size f_pending f_factor f_work f_open f_loops f_steps f_faultItem f_nextItem f_nextCell f_top a_kinds a_args a_inputs a_weights a_tangents a_marks a_cell a_dcell a_seen a_val a_der a_start a_counter a_total (k + 1) (nI r) (nI x) (nI t)
  | 0, x, r, t, hk, h0, _, _, _, _ => by omega
  | k + 1, x, r, t, hk, h0, ht, hx, hr, hz => by
    have hq := (ra_pr_lt hp).1
    refine br_f (nI_ge (a := t) (b := q + 1) (by omega) (by omega)) ?_
    by_cases h1 : x = 1
    · subst h1
      refine br_t (by decide) ?_
      have l := ra_sq_lt (p := q + 1) (by omega) 15 (q + 1 - 2) 1 b (by have := (ra_pr_lt hp).2; omega)
      have e : nI r = nI (ra_iv (q + 1) b) := by
        refine ra_inj (ra_Cn_nI hq hr) (ra_Cn_nI hq l) (ra_uniq (b := ra_f q (nI b)) ?_ (ra_iv_f hp hb0 hb))
        rw [ra_f_nI (by omega), ra_f_nI (by omega), hz]
        exact ra_z_1 q
      rw [e]; exact K
    · have hd : (q + 1) / x ≤ q + 1 := Nat.div_le_self _ _
      have hm := Nat.mod_lt (q + 1) h0
      have hpr := ra_prime hp (b := x) (by omega) hx
      have b1 : r * (q + 1 - (q + 1) / x) < 2 ^ 31 := Nat.lt_of_le_of_lt (Nat.mul_le_mul (show r ≤ 32748 by omega) (show q + 1 - (q + 1) / x ≤ 32749 from Nat.le_trans (Nat.sub_le _ _) (by omega))) (by decide)
      have e1 : nI (q + 1) / nI x = nI ((q + 1) / x) := pk_div (by omega) h0 (by omega)
      have e2 : (nI r * (nI (q + 1) - (nI (q + 1) / nI x))) - (nI r * (nI (q + 1) - (nI (q + 1) / nI x))) / nI (q + 1) * nI (q + 1) = nI (r * (q + 1 - (q + 1) / x) % (q + 1)) := by
        rw [e1, pk_sub hd, pk_mul, pk_rem b1 (by omega) (by omega)]
      have e3 : nI (q + 1) - nI (q + 1) / nI x * nI x = nI ((q + 1) % x) := pk_rem (by omega) h0 (by omega)
      refine br_f (nI_ge (a := 1) (b := x) (by omega) (by omega)) ⟨nI_ne0 h0 (by omega), nI_ne0 (by omega) (by omega), nm_r e2 ⟨nI_ne0 h0 (by omega), nm_r e3 (nm_r (nI_1 t) ?_)⟩⟩
      refine ry_inv_lp hp hb0 hb K k ((q + 1) % x) (r * (q + 1 - (q + 1) / x) % (q + 1)) (t + 1) (by omega) hpr (by omega) (by omega) (Nat.mod_lt _ (by omega)) ?_
      rw [← ra_inv_rd hp (by omega) hx, ← hz]
      have e4 : ra_z q ((r * (q + 1 - (q + 1) / x) % (q + 1) : Nat) : Int) = ra_z q (r : Int) * ra_z q ((q + 1 - (q + 1) / x : Nat) : Int) := by
        rw [← ra_z_mul]
        apply ra_z_eq
        rw [Int.natCast_emod, Int.natCast_mul, Int.emod_emod]
      rw [e4]; grind
theorem ry_inv {post : Int32 → Prop} {q b : Nat} (hp : ra_pr q) (hb0 : 0 < b) (hb : b < q + 1) (K : post (nI (ra_iv (q + 1) b))) : wpY_inv post (nI (q + 1), f_n, f_room, f_phase, f_items, f_cursor, f_hasTangent, f_size, f_pending, f_factor, f_work, f_open, f_loops, f_steps, f_faultItem, f_nextItem, f_nextCell, f_top, a_kinds, a_args, a_inputs, a_weights, a_tangents, a_marks, a_cell, a_dcell, a_seen, a_val, a_der, a_start, a_counter, a_total) (nI b) := by
  refine ⟨b + 1, ry_inv_lp hp hb0 hb K b b 1 0 (Nat.le_refl _) hb0 (by omega) hb (by have := (ra_pr_lt hp).2; omega) ?_⟩
  rw [show ((1 : Nat) : Int) = 1 from rfl, ra_z_1]; grind
theorem ry_holds {post : Int32 → Prop} {q c x : Nat} (hc : c ≤ 3) (hx : x < q + 1) (hq : q < 32749) (K : post (if rs_hold q c x then 1 else 0)) :
    wpY_holds post (nI (q + 1), f_n, f_room, f_phase, f_items, f_cursor, f_hasTangent, f_size, f_pending, f_factor, f_work, f_open, f_loops, f_steps, f_faultItem, f_nextItem, f_nextCell, f_top, a_kinds, a_args, a_inputs, a_weights, a_tangents, a_marks, a_cell, a_dcell, a_seen, a_val, a_der, a_start, a_counter, a_total) (nI c) (nI x) := by
  unfold rs_hold at K
  rcases (show c = 0 ∨ c = 1 ∨ c = 2 ∨ c = 3 by omega) with rfl | rfl | rfl | rfl
  · refine br_t rfl (pk_eq x 0 (fun h => ?_) (fun h => ?_))
    · simpa [h] using K
    · simpa [h] using K
  · refine br_f (by decide) (br_t rfl (pk_eq x 0 (fun h => ?_) (fun h => ?_)))
    · simpa [h] using K
    · simpa [h] using K
  · refine br_f (by decide) (br_f (by decide) (br_t rfl ⟨by decide, ?_⟩))
    rw [show nI x - nI x / 2 * 2 = nI (x % 2) from pk_rem (a := x) (d := 2) (by omega) (by omega) (by omega)]
    refine pk_eq (x % 2) 1 (fun h => ?_) (fun h => ?_)
    · simpa [h] using K
    · simpa [h] using K
  · refine br_f (by decide) (br_f (by decide) (br_f (by decide) ⟨by decide, ?_⟩))
    have e : (nI (q + 1) - 1) / 2 = nI (q / 2) := by
      rw [nI_pred]; exact pk_div (a := q) (d := 2) (by omega) (by omega) (by omega)
    rw [e]
    refine pk_le x (q / 2) (fun h => ?_) (fun h => ?_)
    · have h' : ¬ q / 2 < x := by omega
      simpa [h'] using K
    · simpa [h] using K
/-! the partner of a block's opener or else -/
theorem ry_p51 {post : Int32 → Prop} {J : Int32 → Int32 → Prop} {x2 : Int32} {d j : Nat} (hj : j < 128)
    (K1 : a_kinds j < 7 → J (nI d) (nI (j + 1))) (K2 : a_kinds j = 7 ∨ a_kinds j = 8 ∨ a_kinds j = 9 → J (nI (d + 1)) (nI (j + 1))) (K3 : a_kinds j = 10 → J (nI d) (nI (j + 1))) (K4 : a_kinds j = 11 → ∀ d', d = d' + 1 → J (nI d') (nI (j + 1))) (h0 : a_kinds j = 11 → 0 < d)
    (hc : a_kinds j < 7 ∨ (a_kinds j = 7 ∨ a_kinds j = 8 ∨ a_kinds j = 9) ∨ a_kinds j = 10 ∨ a_kinds j = 11) : wY_partner_51 post J x2 (nI d) (nI j) f_p f_n f_room f_phase f_items f_cursor f_hasTangent f_size f_pending f_factor f_work f_open f_loops f_steps f_faultItem f_nextItem f_nextCell f_top a_kinds a_args a_inputs a_weights a_tangents a_marks a_cell a_dcell a_seen a_val a_der a_start a_counter a_total := by
  refine And.intro (vp_in_nI hj (by decide)) ?_
  rw [nI_clamp (by omega)]
  have n78 : ∀ dd : Nat, ¬ a_kinds j = 11 → J (nI dd) (nI (j + 1)) → wY_partner_78 post J x2 (nI dd) (nI j) f_p f_n f_room f_phase f_items f_cursor f_hasTangent f_size f_pending f_factor f_work f_open f_loops f_steps f_faultItem f_nextItem f_nextCell f_top a_kinds a_args a_inputs a_weights a_tangents a_marks a_cell a_dcell a_seen a_val a_der a_start a_counter a_total := by
    intro dd h11 K
    refine And.intro (vp_in_nI hj (by decide)) ?_
    rw [nI_clamp (by omega)]
    exact br_f h11 (nm_r (nI_1 j) K)
  rcases hc with h | h | h | h
  · exact br_t h (n78 d (fun z => by rw [z] at h; exact absurd h (by decide)) (K1 h))
  · have e7 : ¬ a_kinds j < 7 := by rcases h with z | z | z <;> rw [z] <;> decide
    have e9 : ¬ 9 < a_kinds j := by rcases h with z | z | z <;> rw [z] <;> decide
    have e11 : ¬ a_kinds j = 11 := by rcases h with z | z | z <;> rw [z] <;> decide
    refine br_f e7 (And.intro (vp_in_nI hj (by decide)) ?_)
    exact br_f e9 (nm_r (nI_1 d) (n78 (d + 1) e11 (K2 h)))
  · refine br_f (by rw [h]; decide) (And.intro (vp_in_nI hj (by decide)) ?_)
    exact br_t (by rw [h]; decide) (n78 d (by rw [h]; decide) (K3 h))
  · refine br_f (by rw [h]; decide) (And.intro (vp_in_nI hj (by decide)) ?_)
    refine br_t (by rw [h]; decide) (And.intro (vp_in_nI hj (by decide)) ?_)
    rw [nI_clamp (by omega)]
    obtain ⟨d', rfl⟩ : ∃ d', d = d' + 1 := ⟨d - 1, by have := h0 h; omega⟩
    exact br_t h (nm_r (pk_m1 d') (nm_r (nI_1 j) (K4 h d' rfl)))
theorem ry_part_lp {post : Int32 → Prop} {q n N m : Nat} {fl : Int32} (hN : N ≤ 128) (pv : rs_PV q n a_kinds a_args N) (hsk : rs_sk a_kinds N = []) (hm : m < N)
    (hk : (fl = 0 ∧ (a_kinds m = 7 ∨ a_kinds m = 8 ∨ a_kinds m = 10)) ∨ (fl = 1 ∧ a_kinds m = 9)) {o0 : Nat} {l0 : List (Nat × Nat)} (h0 : rs_sk a_kinds (m + 1) = (o0, m) :: l0)
    (K : ∀ j, m < j → j < N → rs_sk a_kinds j = (o0, m) :: l0 → (a_kinds j = 11 ∨ (a_kinds j = 10 ∧ a_kinds m = 9)) → post (nI j)) :
    ∀ (d j : Nat) (pre : List (Nat × Nat)), j + d = N → m < j → rs_sk a_kinds j = pre ++ (o0, m) :: l0 → wY_partner_7 post fl f_p f_n f_room f_phase (nI N) f_cursor f_hasTangent f_size f_pending f_factor f_work f_open f_loops f_steps f_faultItem f_nextItem f_nextCell f_top a_kinds a_args a_inputs a_weights a_tangents a_marks a_cell a_dcell a_seen a_val a_der a_start a_counter a_total (d + 1) (nI pre.length) (nI j)
  | 0, j, pre, hj, _, e => by
    rw [show j = N by omega, hsk] at e
    exact absurd e.symm (by simp)
  | d + 1, j, pre, hj, hmj, e => by
    have rcv := ry_part_lp (post := post) hN pv hsk hm hk h0 K d (j + 1)
    have cs := rs_cs (pv j (by omega))
    have hj8 : j < 128 := by omega
    have fl01 : fl = 0 ∨ fl = 1 := hk.elim (fun z => Or.inl z.1) (fun z => Or.inr z.1)
    refine br_f (nI_ge (a := j) (b := N) (by omega) (by omega)) ?_
    rcases cs with ⟨⟨c6, c7, c8, c9, c10, c11⟩, s⟩ | ⟨co, _, s⟩ | ⟨c10, o, l, s0, s9, s⟩ | ⟨c11, o, m1, l, s0, s⟩
    · have body : wY_partner_51 post (wY_partner_7 post fl f_p f_n f_room f_phase (nI N) f_cursor f_hasTangent f_size f_pending f_factor f_work f_open f_loops f_steps f_faultItem f_nextItem f_nextCell f_top a_kinds a_args a_inputs a_weights a_tangents a_marks a_cell a_dcell a_seen a_val a_der a_start a_counter a_total (d + 1)) fl (nI pre.length) (nI j) f_p f_n f_room f_phase (nI N) f_cursor f_hasTangent f_size f_pending f_factor f_work f_open f_loops f_steps f_faultItem f_nextItem f_nextCell f_top a_kinds a_args a_inputs a_weights a_tangents a_marks a_cell a_dcell a_seen a_val a_der a_start a_counter a_total :=
        ry_p51 hj8 (fun _ => rcv pre (by omega) (by omega) (by rw [s]; exact e)) (fun z => absurd z (by intro y; rcases y with y | y | y <;> contradiction)) (fun z => absurd z c10) (fun z => absurd z c11) (fun z => absurd z c11) (Or.inl c6)
      refine br_c (fun _ => And.intro (vp_in_nI hj8 (by decide)) ?_) (fun _ => body)
      rw [nI_clamp (by omega)]
      refine br_f c11 (br_c (fun _ => body) (fun _ => And.intro (vp_in_nI hj8 (by decide)) ?_))
      exact br_f c10 body
    · have n11 : ¬ a_kinds j = 11 := by rcases co with z | z | z <;> rw [z] <;> decide
      have n10 : ¬ a_kinds j = 10 := by rcases co with z | z | z <;> rw [z] <;> decide
      have n6 : ¬ a_kinds j < 7 := by rcases co with z | z | z <;> rw [z] <;> decide
      have body : wY_partner_51 post (wY_partner_7 post fl f_p f_n f_room f_phase (nI N) f_cursor f_hasTangent f_size f_pending f_factor f_work f_open f_loops f_steps f_faultItem f_nextItem f_nextCell f_top a_kinds a_args a_inputs a_weights a_tangents a_marks a_cell a_dcell a_seen a_val a_der a_start a_counter a_total (d + 1)) fl (nI pre.length) (nI j) f_p f_n f_room f_phase (nI N) f_cursor f_hasTangent f_size f_pending f_factor f_work f_open f_loops f_steps f_faultItem f_nextItem f_nextCell f_top a_kinds a_args a_inputs a_weights a_tangents a_marks a_cell a_dcell a_seen a_val a_der a_start a_counter a_total :=
        ry_p51 hj8 (fun z => absurd z n6) (fun _ => rcv ((j, j) :: pre) (by omega) (by omega) (by rw [s, e]; rfl)) (fun z => absurd z n10) (fun z => absurd z n11) (fun z => absurd z n11) (Or.inr (Or.inl co))
      refine br_c (fun _ => And.intro (vp_in_nI hj8 (by decide)) ?_) (fun _ => body)
      rw [nI_clamp (by omega)]
      refine br_f n11 (br_c (fun _ => body) (fun _ => And.intro (vp_in_nI hj8 (by decide)) ?_))
      exact br_f n10 body
    · have n11 : ¬ a_kinds j = 11 := by rw [c10]; decide
      have n6 : ¬ a_kinds j < 7 := by rw [c10]; decide
      have no : ¬ (a_kinds j = 7 ∨ a_kinds j = 8 ∨ a_kinds j = 9) := by rw [c10]; decide
      match pre, e, rcv with
      | [], e, _ =>
        rw [List.nil_append] at e
        rw [s0] at e
        injection e with e1 e2
        injection e1 with e3 e4
        subst e3; subst e4; subst e2
        rcases hk with ⟨rfl, hk⟩ | ⟨rfl, hk⟩
        · exfalso
          rcases hk with z | z | z <;> rw [z] at s9 <;> exact absurd s9 (by decide)
        · refine br_t (show nI 0 = 0 from rfl) (And.intro (vp_in_nI hj8 (by decide)) ?_)
          rw [nI_clamp (by omega)]
          refine br_f n11 (br_f (by decide) (And.intro (vp_in_nI hj8 (by decide)) ?_))
          exact br_t c10 (K j hmj (by omega) s0 (Or.inr ⟨c10, s9⟩))
      | x :: pre', e, rcv =>
        rw [s0, List.cons_append] at e
        injection e with e1 e2
        refine br_f (nI_ne0 (by rw [List.length_cons]; omega) (by
          have := rs_len j (fun t ht => pv t (by omega))
          rw [s0, e2, List.length_cons, List.length_append] at this
          rw [List.length_cons]; omega)) ?_
        exact ry_p51 hj8 (fun z => absurd z n6) (fun z => absurd z no) (fun _ => rcv ((o, j) :: pre') (by omega) (by omega) (by rw [s, e2]; rfl)) (fun z => absurd z n11) (fun z => absurd z n11) (Or.inr (Or.inr (Or.inl c10)))
    · have n10 : ¬ a_kinds j = 10 := by rw [c11]; decide
      have n6 : ¬ a_kinds j < 7 := by rw [c11]; decide
      have no : ¬ (a_kinds j = 7 ∨ a_kinds j = 8 ∨ a_kinds j = 9) := by rw [c11]; decide
      match pre, e, rcv with
      | [], e, _ =>
        rw [List.nil_append] at e
        refine br_t (show nI 0 = 0 from rfl) (And.intro (vp_in_nI hj8 (by decide)) ?_)
        rw [nI_clamp (by omega)]
        exact br_t c11 (K j hmj (by omega) e (Or.inl c11))
      | x :: pre', e, rcv =>
        rw [s0, List.cons_append] at e
        injection e with e1 e2
        refine br_f (nI_ne0 (by rw [List.length_cons]; omega) (by
          have := rs_len j (fun t ht => pv t (by omega))
          rw [s0, e2, List.length_cons, List.length_append] at this
          rw [List.length_cons]; omega)) ?_
        refine ry_p51 hj8 (fun z => absurd z n6) (fun z => absurd z no) (fun z => absurd z n10) (fun _ d' hd' => ?_) (fun _ => by rw [List.length_cons]; omega) (Or.inr (Or.inr (Or.inr c11)))
        rw [List.length_cons] at hd'
        rw [show d' = pre'.length by omega]
        exact rcv pre' (by omega) (by omega) (by rw [s, e2])
theorem ry_partner {post : Int32 → Prop} {q n N m : Nat} {fl : Int32} (hN : N ≤ 128) (pv : rs_PV q n a_kinds a_args N) (hsk : rs_sk a_kinds N = []) (hm : m < N)
    (hk : (fl = 0 ∧ (a_kinds m = 7 ∨ a_kinds m = 8 ∨ a_kinds m = 10)) ∨ (fl = 1 ∧ a_kinds m = 9)) {o0 : Nat} {l0 : List (Nat × Nat)} (h0 : rs_sk a_kinds (m + 1) = (o0, m) :: l0)
    (K : ∀ j, m < j → j < N → rs_sk a_kinds j = (o0, m) :: l0 → (a_kinds j = 11 ∨ (a_kinds j = 10 ∧ a_kinds m = 9)) → post (nI j)) : wpY_partner post (f_p, f_n, f_room, f_phase, nI N, f_cursor, f_hasTangent, f_size, f_pending, f_factor, f_work, f_open, f_loops, f_steps, f_faultItem, f_nextItem, f_nextCell, f_top, a_kinds, a_args, a_inputs, a_weights, a_tangents, a_marks, a_cell, a_dcell, a_seen, a_val, a_der, a_start, a_counter, a_total) (nI m) fl :=
  nm_r (nI_1 m) ⟨N - (m + 1) + 1, ry_part_lp hN pv hsk hm hk h0 K (N - (m + 1)) (m + 1) [] (by omega) (by omega) h0⟩
end
end
section
/-! Y: one round of simulate, kind by kind -/
section
variable {f_p f_n f_room f_phase f_items f_cursor f_hasTangent f_size f_pending f_factor f_work f_open f_loops f_steps f_faultItem f_nextItem f_nextCell f_top : Int32} {a_kinds a_args a_inputs a_weights a_tangents a_marks a_cell a_dcell a_seen a_val a_der a_start a_counter a_total : Nat → Int32}
theorem ry_seed_lp {post : SY → Prop} {n j : Nat} (hn : n ≤ 8) (hj : j < 8) (K : ∀ sn dc, (∀ i, i < n → sn i = a_cell i) → (∀ i, i < n → dc i = rt_e j i) → post (f_p, nI n, f_room, f_phase, f_items, f_cursor, f_hasTangent, f_size, f_pending, f_factor, f_work, f_open, f_loops, f_steps, f_faultItem, f_nextItem, f_nextCell, f_top, a_kinds, a_args, a_inputs, a_weights, a_tangents, a_marks, a_cell, dc, sn, a_val, a_der, a_start, a_counter, a_total)) :
    ∀ (d i : Nat) (sn dc : Nat → Int32), i + d = n → (∀ t, t < i → sn t = a_cell t) → (∀ t, t < i → dc t = rt_e j t) → wY_seed_2 post (nI j) f_p (nI n) f_room f_phase f_items f_cursor f_hasTangent f_size f_pending f_factor f_work f_open f_loops f_steps f_faultItem f_nextItem f_nextCell f_top (d + 1) (nI i) a_kinds a_args a_inputs a_weights a_tangents a_marks a_cell dc sn a_val a_der a_start a_counter a_total
  | 0, i, sn, dc, h, h1, h2 => br_t (nI_le (by omega) (by omega)) (K sn dc (fun t ht => h1 t (by omega)) (fun t ht => h2 t (by omega)))
  | d + 1, i, sn, dc, h, h1, h2 => by
    have rcv := ry_seed_lp (post := post) hn hj K d (i + 1)
    refine br_f (nI_ge (by omega) (by omega)) ⟨vp_in_nI (by omega) (by decide), vp_in_nI (by omega) (by decide), nm_r (e' := upd sn i (a_cell i)) (by rw [nI_clamp (by omega)]) ?_⟩
    have g1 : ∀ t, t < i + 1 → upd sn i (a_cell i) t = a_cell t := by
      intro t ht
      by_cases e : t = i
      · rw [e, pk_us]
      · rw [pk_un e]; exact h1 t (by omega)
    refine pk_eq i j (fun e => ⟨vp_in_nI (by omega) (by decide), nm_r (e' := upd dc i 1) (by rw [nI_clamp (by omega)]) (nm_r (nI_1 i) (rcv _ _ (by omega) g1 ?_))⟩) (fun e => ⟨vp_in_nI (by omega) (by decide), nm_r (e' := upd dc i 0) (by rw [nI_clamp (by omega)]) (nm_r (nI_1 i) (rcv _ _ (by omega) g1 ?_))⟩)
    · intro t ht
      by_cases z : t = i
      · rw [z, pk_us]; unfold rt_e; rw [if_pos e]
      · rw [pk_un z]; exact h2 t (by omega)
    · intro t ht
      by_cases z : t = i
      · rw [z, pk_us]; unfold rt_e; rw [if_neg e]
      · rw [pk_un z]; exact h2 t (by omega)
theorem ry_seed {post : SY → Prop} {n j : Nat} (hn : n ≤ 8) (hj : j < 8) (K : ∀ sn dc, (∀ i, i < n → sn i = a_cell i) → (∀ i, i < n → dc i = rt_e j i) → post (f_p, nI n, f_room, f_phase, f_items, f_cursor, f_hasTangent, f_size, f_pending, f_factor, f_work, f_open, f_loops, f_steps, f_faultItem, f_nextItem, f_nextCell, f_top, a_kinds, a_args, a_inputs, a_weights, a_tangents, a_marks, a_cell, dc, sn, a_val, a_der, a_start, a_counter, a_total)) : wpY_seed post (f_p, nI n, f_room, f_phase, f_items, f_cursor, f_hasTangent, f_size, f_pending, f_factor, f_work, f_open, f_loops, f_steps, f_faultItem, f_nextItem, f_nextCell, f_top, a_kinds, a_args, a_inputs, a_weights, a_tangents, a_marks, a_cell, a_dcell, a_seen, a_val, a_der, a_start, a_counter, a_total) (nI j) :=
  ⟨n + 1, ry_seed_lp hn hj K n 0 a_seen a_dcell (by omega) (fun t ht => absurd ht (Nat.not_lt_zero t)) (fun t ht => absurd ht (Nat.not_lt_zero t))⟩
/-! apply: after the operator, w the place of the top -/
theorem ry_a256 {post : SY → Prop} {q w : Nat} {v d : Int32} (hq : q < 32749) (hw : w < 8) (K : post (nI (q + 1), f_n, f_room, f_phase, f_items, f_cursor, f_hasTangent, f_size, f_pending, f_factor, f_work, f_open, f_loops, f_steps, f_faultItem, f_nextItem, f_nextCell, f_top, a_kinds, a_args, a_inputs, a_weights, a_tangents, a_marks, a_cell, a_dcell, a_seen, upd a_val w (ra_yr (nI (q + 1)) v), upd a_der w (ra_yr (nI (q + 1)) d), a_start, a_counter, a_total)) : wY_apply_256 post v d (nI w) (nI (q + 1)) f_n f_room f_phase f_items f_cursor f_hasTangent f_size f_pending f_factor f_work f_open f_loops f_steps f_faultItem f_nextItem f_nextCell f_top a_kinds a_args a_inputs a_weights a_tangents a_marks a_cell a_dcell a_seen a_val a_der a_start a_counter a_total := by
  refine ry_residue hq ⟨vp_in_nI hw (by decide), nm_r (e' := upd a_val w (ra_yr (nI (q + 1)) v)) (by rw [nI_clamp (by omega)]) ?_⟩
  exact ry_residue hq ⟨vp_in_nI hw (by decide), nm_r (e' := upd a_der w (ra_yr (nI (q + 1)) d)) (by rw [nI_clamp (by omega)]) K⟩
theorem ry_ahd2 {post : SY → Prop} {d : Nat} {op a b da db : Int32} (hd : d < 7) (h5 : ¬ op = 5) (h3 : ¬ 3 < op) (hb : a_val (d + 1) = b) (hdb : a_der (d + 1) = db) (ha : a_val d = a) (hda : a_der d = da)
    (K : ((op = 0 → (∀ x, x = a + b → ∀ y, y = da + db → wY_apply_100 post op b db x y (nI d) a da f_p f_n f_room f_phase f_items f_cursor f_hasTangent f_size f_pending f_factor f_work f_open f_loops f_steps f_faultItem f_nextItem f_nextCell (nI (d + 1)) a_kinds a_args a_inputs a_weights a_tangents a_marks a_cell a_dcell a_seen a_val a_der a_start a_counter a_total)) ∧ (¬ op = 0 → wY_apply_100 post op b db b db (nI d) a da f_p f_n f_room f_phase f_items f_cursor f_hasTangent f_size f_pending f_factor f_work f_open f_loops f_steps f_faultItem f_nextItem f_nextCell (nI (d + 1)) a_kinds a_args a_inputs a_weights a_tangents a_marks a_cell a_dcell a_seen a_val a_der a_start a_counter a_total))) : wpY_apply post (f_p, f_n, f_room, f_phase, f_items, f_cursor, f_hasTangent, f_size, f_pending, f_factor, f_work, f_open, f_loops, f_steps, f_faultItem, f_nextItem, f_nextCell, nI (d + 2), a_kinds, a_args, a_inputs, a_weights, a_tangents, a_marks, a_cell, a_dcell, a_seen, a_val, a_der, a_start, a_counter, a_total) op := by
  have e : nI (d + 2) - 1 = nI (d + 1) := nI_pred (d + 1)
  unfold wpY_apply
  dsimp only
  rw [e, nI_clamp (by omega)]
  refine ⟨vp_in_nI (by omega) (by decide), nm_r hb ⟨vp_in_nI (by omega) (by decide), nm_r hdb (br_f h5 (br_f h3 ?_))⟩⟩
  refine nm_r (pk_m1 (d + 1)) (nm_r (nI_pred d) ⟨vp_in_nI (by omega) (by decide), ?_⟩)
  rw [nI_clamp (by omega)]
  exact nm_r ha ⟨vp_in_nI (by omega) (by decide), nm_r hda K⟩
theorem ry_a0 {post : SY → Prop} {q d : Nat} {a b da db : Int32} (hq : q < 32749) (hd : d < 7) (hb : a_val (d + 1) = b) (hdb : a_der (d + 1) = db) (ha : a_val d = a) (hda : a_der d = da) (K : post (nI (q + 1), f_n, f_room, f_phase, f_items, f_cursor, f_hasTangent, f_size, f_pending, f_factor, f_work, f_open, f_loops, f_steps, f_faultItem, f_nextItem, f_nextCell, nI (d + 1), a_kinds, a_args, a_inputs, a_weights, a_tangents, a_marks, a_cell, a_dcell, a_seen, upd a_val d (ra_yr (nI (q + 1)) (a + b)), upd a_der d (ra_yr (nI (q + 1)) (da + db)), a_start, a_counter, a_total)) : wpY_apply post (nI (q + 1), f_n, f_room, f_phase, f_items, f_cursor, f_hasTangent, f_size, f_pending, f_factor, f_work, f_open, f_loops, f_steps, f_faultItem, f_nextItem, f_nextCell, nI (d + 2), a_kinds, a_args, a_inputs, a_weights, a_tangents, a_marks, a_cell, a_dcell, a_seen, a_val, a_der, a_start, a_counter, a_total) 0 :=
  ry_ahd2 hd (by decide) (by decide) hb hdb ha hda (br_t rfl (nm_e (nm_e (br_f (by decide) (br_f (by decide) (br_f (by decide) (br_f (by decide) (br_f (by decide) (ry_a256 hq (by omega) K)))))))))
theorem ry_a1 {post : SY → Prop} {q d : Nat} {a b da db : Int32} (hq : q < 32749) (hd : d < 7) (hb : a_val (d + 1) = b) (hdb : a_der (d + 1) = db) (ha : a_val d = a) (hda : a_der d = da) (K : post (nI (q + 1), f_n, f_room, f_phase, f_items, f_cursor, f_hasTangent, f_size, f_pending, f_factor, f_work, f_open, f_loops, f_steps, f_faultItem, f_nextItem, f_nextCell, nI (d + 1), a_kinds, a_args, a_inputs, a_weights, a_tangents, a_marks, a_cell, a_dcell, a_seen, upd a_val d (ra_yr (nI (q + 1)) (a - b)), upd a_der d (ra_yr (nI (q + 1)) (da - db)), a_start, a_counter, a_total)) : wpY_apply post (nI (q + 1), f_n, f_room, f_phase, f_items, f_cursor, f_hasTangent, f_size, f_pending, f_factor, f_work, f_open, f_loops, f_steps, f_faultItem, f_nextItem, f_nextCell, nI (d + 2), a_kinds, a_args, a_inputs, a_weights, a_tangents, a_marks, a_cell, a_dcell, a_seen, a_val, a_der, a_start, a_counter, a_total) 1 :=
  ry_ahd2 hd (by decide) (by decide) hb hdb ha hda (br_f (by decide) (br_t rfl (nm_e (nm_e (br_f (by decide) (br_f (by decide) (br_f (by decide) (br_f (by decide) (ry_a256 hq (by omega) K)))))))))
theorem ry_a2 {post : SY → Prop} {q d : Nat} {a b da db : Int32} (hq : q < 32749) (hd : d < 7) (hb : a_val (d + 1) = b) (hdb : a_der (d + 1) = db) (ha : a_val d = a) (hda : a_der d = da) (K : post (nI (q + 1), f_n, f_room, f_phase, f_items, f_cursor, f_hasTangent, f_size, f_pending, f_factor, f_work, f_open, f_loops, f_steps, f_faultItem, f_nextItem, f_nextCell, nI (d + 1), a_kinds, a_args, a_inputs, a_weights, a_tangents, a_marks, a_cell, a_dcell, a_seen, upd a_val d (ra_yr (nI (q + 1)) (a * b)), upd a_der d (ra_yr (nI (q + 1)) (((da * b) - (da * b) / nI (q + 1) * nI (q + 1)) + ((a * db) - (a * db) / nI (q + 1) * nI (q + 1)))), a_start, a_counter, a_total)) : wpY_apply post (nI (q + 1), f_n, f_room, f_phase, f_items, f_cursor, f_hasTangent, f_size, f_pending, f_factor, f_work, f_open, f_loops, f_steps, f_faultItem, f_nextItem, f_nextCell, nI (d + 2), a_kinds, a_args, a_inputs, a_weights, a_tangents, a_marks, a_cell, a_dcell, a_seen, a_val, a_der, a_start, a_counter, a_total) 2 :=
  ry_ahd2 hd (by decide) (by decide) hb hdb ha hda (br_f (by decide) (br_f (by decide) (br_t rfl (nm_e (And.intro (nI_ne0 (by omega) (by omega)) (And.intro (nI_ne0 (by omega) (by omega)) (nm_e (br_f (by decide) (br_f (by decide) (br_f (by decide) (ry_a256 hq (by omega) K)))))))))))
theorem ry_a3 {post : SY → Prop} {q d b : Nat} {a da db : Int32} (hp : ra_pr q) (hb0 : 0 < b) (hbq : b < q + 1) (hd : d < 7) (hb : a_val (d + 1) = nI b) (hdb : a_der (d + 1) = db) (ha : a_val d = a) (hda : a_der d = da)
    (K : post (nI (q + 1), f_n, f_room, f_phase, f_items, f_cursor, f_hasTangent, f_size, f_pending, f_factor, f_work, f_open, f_loops, f_steps, f_faultItem, f_nextItem, f_nextCell, nI (d + 1), a_kinds, a_args, a_inputs, a_weights, a_tangents, a_marks, a_cell, a_dcell, a_seen, upd a_val d (ra_yr (nI (q + 1)) ((a * nI (ra_iv (q + 1) b)) - (a * nI (ra_iv (q + 1) b)) / nI (q + 1) * nI (q + 1))), upd a_der d (ra_yr (nI (q + 1)) (((da - ((((a * nI (ra_iv (q + 1) b)) - (a * nI (ra_iv (q + 1) b)) / nI (q + 1) * nI (q + 1)) * db) - (((a * nI (ra_iv (q + 1) b)) - (a * nI (ra_iv (q + 1) b)) / nI (q + 1) * nI (q + 1)) * db) / nI (q + 1) * nI (q + 1))) - (da - ((((a * nI (ra_iv (q + 1) b)) - (a * nI (ra_iv (q + 1) b)) / nI (q + 1) * nI (q + 1)) * db) - (((a * nI (ra_iv (q + 1) b)) - (a * nI (ra_iv (q + 1) b)) / nI (q + 1) * nI (q + 1)) * db) / nI (q + 1) * nI (q + 1))) / nI (q + 1) * nI (q + 1)) * nI (ra_iv (q + 1) b))), a_start, a_counter, a_total)) : wpY_apply post (nI (q + 1), f_n, f_room, f_phase, f_items, f_cursor, f_hasTangent, f_size, f_pending, f_factor, f_work, f_open, f_loops, f_steps, f_faultItem, f_nextItem, f_nextCell, nI (d + 2), a_kinds, a_args, a_inputs, a_weights, a_tangents, a_marks, a_cell, a_dcell, a_seen, a_val, a_der, a_start, a_counter, a_total) 3 := by
  have hq := (ra_pr_lt hp).1
  refine ry_ahd2 hd (by decide) (by decide) hb hdb ha hda (br_f (by decide) (br_f (by decide) (br_f (by decide) (br_t rfl (ry_inv hp hb0 hbq ?_)))))
  refine And.intro (nI_ne0 (by omega) (by omega)) (nm_e (And.intro (nI_ne0 (by omega) (by omega)) (And.intro (nI_ne0 (by omega) (by omega)) (nm_e ?_))))
  exact br_f (by decide) (br_f (by decide) (ry_a256 hq (by omega) K))
theorem ry_a4 {post : SY → Prop} {q d : Nat} {b db : Int32} (hq : q < 32749) (hd : d < 8) (hb : a_val d = b) (hdb : a_der d = db)
    (K : post (nI (q + 1), f_n, f_room, f_phase, f_items, f_cursor, f_hasTangent, f_size, f_pending, f_factor, f_work, f_open, f_loops, f_steps, f_faultItem, f_nextItem, f_nextCell, nI (d + 1), a_kinds, a_args, a_inputs, a_weights, a_tangents, a_marks, a_cell, a_dcell, a_seen, upd a_val d (ra_yr (nI (q + 1)) (-b)), upd a_der d (ra_yr (nI (q + 1)) (-db)), a_start, a_counter, a_total)) : wpY_apply post (nI (q + 1), f_n, f_room, f_phase, f_items, f_cursor, f_hasTangent, f_size, f_pending, f_factor, f_work, f_open, f_loops, f_steps, f_faultItem, f_nextItem, f_nextCell, nI (d + 1), a_kinds, a_args, a_inputs, a_weights, a_tangents, a_marks, a_cell, a_dcell, a_seen, a_val, a_der, a_start, a_counter, a_total) 4 := by
  have e : nI (d + 1) - 1 = nI d := nI_pred d
  unfold wpY_apply
  dsimp only
  rw [e, nI_clamp (by omega)]
  refine ⟨vp_in_nI (by omega) (by decide), nm_r hb ⟨vp_in_nI (by omega) (by decide), nm_r hdb (br_f (by decide) (br_t (by decide) ?_))⟩⟩
  refine nm_r (e' := nI (d + 1)) (Int32.add_zero _) (nm_r (nI_pred d) ⟨vp_in_nI (by omega) (by decide), nm_e ⟨vp_in_nI (by omega) (by decide), nm_e ?_⟩⟩)
  exact br_f (by decide) (br_f (by decide) (br_f (by decide) (br_f (by decide) (br_t rfl (nm_e (nm_e (br_f (by decide) (ry_a256 hq (by omega) K))))))))
theorem ry_a5 {post : SY → Prop} {q d : Nat} {b db : Int32} (hq : q < 32749) (hd : d < 7) (hb : a_val d = b) (hdb : a_der d = db)
    (K : post (nI (q + 1), f_n, f_room, f_phase, f_items, f_cursor, f_hasTangent, f_size, f_pending, f_factor, f_work, f_open, f_loops, f_steps, f_faultItem, f_nextItem, f_nextCell, nI (d + 2), a_kinds, a_args, a_inputs, a_weights, a_tangents, a_marks, a_cell, a_dcell, a_seen, upd a_val (d + 1) (ra_yr (nI (q + 1)) b), upd a_der (d + 1) (ra_yr (nI (q + 1)) db), a_start, a_counter, a_total)) : wpY_apply post (nI (q + 1), f_n, f_room, f_phase, f_items, f_cursor, f_hasTangent, f_size, f_pending, f_factor, f_work, f_open, f_loops, f_steps, f_faultItem, f_nextItem, f_nextCell, nI (d + 1), a_kinds, a_args, a_inputs, a_weights, a_tangents, a_marks, a_cell, a_dcell, a_seen, a_val, a_der, a_start, a_counter, a_total) 5 := by
  have e : nI (d + 1) - 1 = nI d := nI_pred d
  unfold wpY_apply
  dsimp only
  rw [e, nI_clamp (by omega)]
  refine ⟨vp_in_nI (by omega) (by decide), nm_r hb ⟨vp_in_nI (by omega) (by decide), nm_r hdb (br_t rfl ?_)⟩⟩
  refine nm_r (e' := nI (d + 2)) (nI_1 (d + 1)) (nm_r (nI_pred (d + 1)) ⟨vp_in_nI (by omega) (by decide), nm_e ⟨vp_in_nI (by omega) (by decide), nm_e ?_⟩⟩)
  exact br_f (by decide) (br_f (by decide) (br_f (by decide) (br_f (by decide) (br_f (by decide) (br_f (by decide) (ry_a256 hq (by omega) K))))))
theorem ry_a6 {post : SY → Prop} {q d : Nat} {a b da db : Int32} (hq : q < 32749) (hd : d < 7) (hb : a_val (d + 1) = b) (hdb : a_der (d + 1) = db) (ha : a_val d = a) (hda : a_der d = da)
    (K : post (nI (q + 1), f_n, f_room, f_phase, f_items, f_cursor, f_hasTangent, f_size, f_pending, f_factor, f_work, f_open, f_loops, f_steps, f_faultItem, f_nextItem, f_nextCell, nI (d + 2), a_kinds, a_args, a_inputs, a_weights, a_tangents, a_marks, a_cell, a_dcell, a_seen, upd (upd a_val d b) (d + 1) (ra_yr (nI (q + 1)) a), upd (upd a_der d db) (d + 1) (ra_yr (nI (q + 1)) da), a_start, a_counter, a_total)) : wpY_apply post (nI (q + 1), f_n, f_room, f_phase, f_items, f_cursor, f_hasTangent, f_size, f_pending, f_factor, f_work, f_open, f_loops, f_steps, f_faultItem, f_nextItem, f_nextCell, nI (d + 2), a_kinds, a_args, a_inputs, a_weights, a_tangents, a_marks, a_cell, a_dcell, a_seen, a_val, a_der, a_start, a_counter, a_total) 6 := by
  have e : nI (d + 2) - 1 = nI (d + 1) := nI_pred (d + 1)
  have e2 : nI (d + 1) - 1 = nI d := nI_pred d
  unfold wpY_apply
  dsimp only
  rw [e, nI_clamp (by omega)]
  refine ⟨vp_in_nI (by omega) (by decide), nm_r hb ⟨vp_in_nI (by omega) (by decide), nm_r hdb (br_f (by decide) (br_t (by decide) ?_))⟩⟩
  refine nm_r (e' := nI (d + 2)) (Int32.add_zero _) (nm_r e ⟨vp_in_nI (by omega) (by decide), nm_e ⟨vp_in_nI (by omega) (by decide), nm_e ?_⟩⟩)
  refine br_f (by decide) (br_f (by decide) (br_f (by decide) (br_f (by decide) (br_f (by decide) (br_t rfl ?_)))))
  rw [e2, nI_clamp (by omega)]
  refine ⟨vp_in_nI (by omega) (by decide), nm_r ha ⟨vp_in_nI (by omega) (by decide), nm_r hda ⟨vp_in_nI (by omega) (by decide), nm_e ⟨vp_in_nI (by omega) (by decide), nm_e ?_⟩⟩⟩⟩
  exact ry_a256 hq (by omega) K
/-! the head of a round -/
theorem ry_hd1 {post : SY → Prop} {kk jj x4 : Int32} {m pc t N : Nat} {k a : Int32} (ht : t < 1024) (hpc : pc < N) (hN : N ≤ 128) (hk : a_kinds pc = k) (ha : a_args pc = a) (h2 : ¬ k = 2) (h5 : ¬ k = 5)
    (K : wY_simulate_161 post (wY_simulate_88 post kk jj m) kk jj (nI pc) x4 (nI t) k a (nI (pc + 1)) a f_p f_n f_room f_phase (nI N) f_cursor f_hasTangent f_size f_pending f_factor f_work f_open f_loops f_steps (-1) f_nextItem f_nextCell f_top a_kinds a_args a_inputs a_weights a_tangents a_marks a_cell a_dcell a_seen a_val a_der a_start a_counter a_total) : wY_simulate_88 post kk jj (m + 1) (nI pc) x4 (nI t) f_p f_n f_room f_phase (nI N) f_cursor f_hasTangent f_size f_pending f_factor f_work f_open f_loops f_steps (-1) f_nextItem f_nextCell f_top a_kinds a_args a_inputs a_weights a_tangents a_marks a_cell a_dcell a_seen a_val a_der a_start a_counter a_total := by
  refine br_f (nI_ge (a := t) (b := 1024) ht (by decide)) (br_f (nI_ge (a := pc) (b := N) hpc (by omega)) (br_f (by decide) (And.intro (vp_in_nI (by omega) (by decide)) ?_)))
  rw [nI_clamp (by omega)]
  exact nm_r hk (And.intro (vp_in_nI (by omega) (by decide)) (nm_r ha (nm_r (nI_1 pc) (br_f h2 (br_f h5 K)))))
theorem ry_hd2 {post : SY → Prop} {kk jj x4 : Int32} {m pc t N : Nat} {i n v : Nat} {k : Int32} (ht : t < 1024) (hpc : pc < N) (hN : N ≤ 128) (hk : a_kinds pc = k) (ha : a_args pc = nI i) (h25 : k = 2 ∨ k = 5) (hi : i < 8) (h0 : 0 < n) (hn : n ≤ 8) (hv : v < 2 ^ 31) (hc : a_cell i = nI v)
    (K : wY_simulate_161 post (wY_simulate_88 post kk jj m) kk jj (nI pc) x4 (nI t) k (nI i) (nI (pc + 1)) (nI (v % n)) f_p (nI n) f_room f_phase (nI N) f_cursor f_hasTangent f_size f_pending f_factor f_work f_open f_loops f_steps (-1) f_nextItem f_nextCell f_top a_kinds a_args a_inputs a_weights a_tangents a_marks a_cell a_dcell a_seen a_val a_der a_start a_counter a_total) : wY_simulate_88 post kk jj (m + 1) (nI pc) x4 (nI t) f_p (nI n) f_room f_phase (nI N) f_cursor f_hasTangent f_size f_pending f_factor f_work f_open f_loops f_steps (-1) f_nextItem f_nextCell f_top a_kinds a_args a_inputs a_weights a_tangents a_marks a_cell a_dcell a_seen a_val a_der a_start a_counter a_total := by
  have body : wY_simulate_144 post (wY_simulate_88 post kk jj m) kk jj (nI pc) x4 (nI t) k (nI i) (nI (pc + 1)) f_p (nI n) f_room f_phase (nI N) f_cursor f_hasTangent f_size f_pending f_factor f_work f_open f_loops f_steps (-1) f_nextItem f_nextCell f_top a_kinds a_args a_inputs a_weights a_tangents a_marks a_cell a_dcell a_seen a_val a_der a_start a_counter a_total := by
    refine And.intro (vp_in_nI hi (by decide)) (And.intro (nI_ne0 h0 (by omega)) ?_)
    rw [nI_clamp (by omega), hc, pk_rem hv h0 (by omega)]
    exact K
  refine br_f (nI_ge (a := t) (b := 1024) ht (by decide)) (br_f (nI_ge (a := pc) (b := N) hpc (by omega)) (br_f (by decide) (And.intro (vp_in_nI (by omega) (by decide)) ?_)))
  rw [nI_clamp (by omega)]
  refine nm_r hk (And.intro (vp_in_nI (by omega) (by decide)) (nm_r ha (nm_r (nI_1 pc) ?_)))
  exact br_c (fun _ => body) (fun z => br_t (h25.elim (fun y => absurd y z) id) body)
theorem ry_288 {post : SY → Prop} {kk jj x4 : Int32} {m t : Nat} {d : Nat} {x8 z0 : Int32} (hd : d < 8)
    (K : wY_simulate_88 post kk jj m x8 x4 (nI (t + 1)) f_p f_n f_room f_phase f_items f_cursor f_hasTangent f_size f_pending f_factor f_work f_open f_loops f_steps f_faultItem f_nextItem f_nextCell (nI (d + 1)) a_kinds a_args a_inputs a_weights a_tangents a_marks a_cell a_dcell a_seen a_val (upd a_der d z0) a_start a_counter a_total) : wY_simulate_288 post (wY_simulate_88 post kk jj m) kk jj x4 (nI t) x8 z0 (nI d) f_p f_n f_room f_phase f_items f_cursor f_hasTangent f_size f_pending f_factor f_work f_open f_loops f_steps f_faultItem f_nextItem f_nextCell (nI d) a_kinds a_args a_inputs a_weights a_tangents a_marks a_cell a_dcell a_seen a_val a_der a_start a_counter a_total :=
  And.intro (vp_in_nI hd (by decide)) (nm_r (e' := upd a_der d z0) (by rw [nI_clamp (by omega)]) (nm_r (nI_1 d) (nm_r (nI_1 t) K)))
theorem ry_k0 {post : SY → Prop} {kk jj x4 : Int32} {m pc t N : Nat} {d : Nat} {a : Int32} (ht : t < 1024) (hpc : pc < N) (hN : N ≤ 128) (hk : a_kinds pc = 0) (ha : a_args pc = a) (hd : d < 8)
    (K : wY_simulate_88 post kk jj m (nI (pc + 1)) x4 (nI (t + 1)) f_p f_n f_room f_phase (nI N) f_cursor f_hasTangent f_size f_pending f_factor f_work f_open f_loops f_steps (-1) f_nextItem f_nextCell (nI (d + 1)) a_kinds a_args a_inputs a_weights a_tangents a_marks a_cell a_dcell a_seen (upd a_val d a) (upd a_der d 0) a_start a_counter a_total) : wY_simulate_88 post kk jj (m + 1) (nI pc) x4 (nI t) f_p f_n f_room f_phase (nI N) f_cursor f_hasTangent f_size f_pending f_factor f_work f_open f_loops f_steps (-1) f_nextItem f_nextCell (nI d) a_kinds a_args a_inputs a_weights a_tangents a_marks a_cell a_dcell a_seen a_val a_der a_start a_counter a_total := by
  refine ry_hd1 ht hpc hN hk ha (by decide) (by decide) (br_f (by decide) (br_f (by decide) (br_f (by decide) (br_f (by decide) (?_)))))
  refine br_f (by decide) (br_t rfl (And.intro (vp_in_nI hd (by decide)) (nm_r (e' := upd a_val d a) (by rw [nI_clamp (by omega)]) ?_)))
  exact br_f (by decide) (br_f (by decide) (ry_288 hd K))
theorem ry_k12 {post : SY → Prop} {kk jj x4 : Int32} {m pc t N : Nat} {d c : Nat} {k x7 : Int32} (hk12 : k = 1 ∨ k = 2) (hd : d < 8) (hc : c < 8)
    (K : wY_simulate_88 post kk jj m (nI (pc + 1)) x4 (nI (t + 1)) f_p f_n f_room f_phase (nI N) f_cursor f_hasTangent f_size f_pending f_factor f_work f_open f_loops f_steps (-1) f_nextItem f_nextCell (nI (d + 1)) a_kinds a_args a_inputs a_weights a_tangents a_marks a_cell a_dcell a_seen (upd a_val d (a_cell c)) (upd a_der d (a_dcell c)) a_start a_counter a_total) : wY_simulate_161 post (wY_simulate_88 post kk jj m) kk jj (nI pc) x4 (nI t) k x7 (nI (pc + 1)) (nI c) f_p f_n f_room f_phase (nI N) f_cursor f_hasTangent f_size f_pending f_factor f_work f_open f_loops f_steps (-1) f_nextItem f_nextCell (nI d) a_kinds a_args a_inputs a_weights a_tangents a_marks a_cell a_dcell a_seen a_val a_der a_start a_counter a_total := by
  have go : wY_simulate_277 post (wY_simulate_88 post kk jj m) kk jj x4 (nI t) (nI (pc + 1)) (nI c) (nI d) f_p f_n f_room f_phase (nI N) f_cursor f_hasTangent f_size f_pending f_factor f_work f_open f_loops f_steps (-1) f_nextItem f_nextCell (nI d) a_kinds a_args a_inputs a_weights a_tangents a_marks a_cell a_dcell a_seen (upd a_val d (a_cell c)) a_der a_start a_counter a_total := by
    refine And.intro (vp_in_nI hc (by decide)) ?_
    rw [nI_clamp (by omega)]
    exact ry_288 hd K
  rcases hk12 with rfl | rfl
  · refine br_f (by decide) (br_f (by decide) (br_f (by decide) (br_f (by decide) (?_))))
    refine br_f (by decide) (br_f (by decide) (br_f (by decide) (And.intro (vp_in_nI hc (by decide)) ?_)))
    rw [nI_clamp (by omega)]
    exact And.intro (vp_in_nI hd (by decide)) (nm_r (e' := upd a_val d (a_cell c)) (by rw [nI_clamp (by omega)]) (br_t rfl go))
  · refine br_f (by decide) (br_f (by decide) (br_f (by decide) (br_f (by decide) (?_))))
    refine br_f (by decide) (br_f (by decide) (br_f (by decide) (And.intro (vp_in_nI hc (by decide)) ?_)))
    rw [nI_clamp (by omega)]
    exact And.intro (vp_in_nI hd (by decide)) (nm_r (e' := upd a_val d (a_cell c)) (by rw [nI_clamp (by omega)]) (br_f (by decide) (br_t rfl go)))
theorem ry_k1 {post : SY → Prop} {kk jj x4 : Int32} {m pc t N : Nat} {d i : Nat} (ht : t < 1024) (hpc : pc < N) (hN : N ≤ 128) (hk : a_kinds pc = 1) (ha : a_args pc = nI i) (hi : i < 8) (hd : d < 8)
    (K : wY_simulate_88 post kk jj m (nI (pc + 1)) x4 (nI (t + 1)) f_p f_n f_room f_phase (nI N) f_cursor f_hasTangent f_size f_pending f_factor f_work f_open f_loops f_steps (-1) f_nextItem f_nextCell (nI (d + 1)) a_kinds a_args a_inputs a_weights a_tangents a_marks a_cell a_dcell a_seen (upd a_val d (a_cell i)) (upd a_der d (a_dcell i)) a_start a_counter a_total) : wY_simulate_88 post kk jj (m + 1) (nI pc) x4 (nI t) f_p f_n f_room f_phase (nI N) f_cursor f_hasTangent f_size f_pending f_factor f_work f_open f_loops f_steps (-1) f_nextItem f_nextCell (nI d) a_kinds a_args a_inputs a_weights a_tangents a_marks a_cell a_dcell a_seen a_val a_der a_start a_counter a_total :=
  ry_hd1 ht hpc hN hk ha (by decide) (by decide) (ry_k12 (Or.inl rfl) hd hi K)
theorem ry_k2 {post : SY → Prop} {kk jj x4 : Int32} {m pc t N : Nat} {d i n v : Nat} (ht : t < 1024) (hpc : pc < N) (hN : N ≤ 128) (hk : a_kinds pc = 2) (ha : a_args pc = nI i) (hi : i < 8) (h0 : 0 < n) (hn : n ≤ 8) (hv : v < 2 ^ 31) (hc : a_cell i = nI v) (hd : d < 8)
    (K : wY_simulate_88 post kk jj m (nI (pc + 1)) x4 (nI (t + 1)) f_p (nI n) f_room f_phase (nI N) f_cursor f_hasTangent f_size f_pending f_factor f_work f_open f_loops f_steps (-1) f_nextItem f_nextCell (nI (d + 1)) a_kinds a_args a_inputs a_weights a_tangents a_marks a_cell a_dcell a_seen (upd a_val d (a_cell (v % n))) (upd a_der d (a_dcell (v % n))) a_start a_counter a_total) : wY_simulate_88 post kk jj (m + 1) (nI pc) x4 (nI t) f_p (nI n) f_room f_phase (nI N) f_cursor f_hasTangent f_size f_pending f_factor f_work f_open f_loops f_steps (-1) f_nextItem f_nextCell (nI d) a_kinds a_args a_inputs a_weights a_tangents a_marks a_cell a_dcell a_seen a_val a_der a_start a_counter a_total :=
  ry_hd2 ht hpc hN hk ha (Or.inl rfl) hi h0 hn hv hc (ry_k12 (Or.inr rfl) hd (by have := Nat.mod_lt v h0; omega) K)
theorem ry_k3 {post : SY → Prop} {kk jj x4 : Int32} {m pc t N : Nat} {d lv ld q : Nat} (ht : t < 1024) (hpc : pc < N) (hN : N ≤ 128) (hk : a_kinds pc = 3) (ha : a_args pc = nI lv) (hl : lv < ld) (h6 : ld ≤ 6) (hq : q < 32749) (hd : d < 8)
    (K : wY_simulate_88 post kk jj m (nI (pc + 1)) (nI ld) (nI (t + 1)) (nI (q + 1)) f_n f_room f_phase (nI N) f_cursor f_hasTangent f_size f_pending f_factor f_work f_open f_loops f_steps (-1) f_nextItem f_nextCell (nI (d + 1)) a_kinds a_args a_inputs a_weights a_tangents a_marks a_cell a_dcell a_seen (upd a_val d (a_counter (ld - 1 - lv) - a_counter (ld - 1 - lv) / nI (q + 1) * nI (q + 1))) (upd a_der d 0) a_start a_counter a_total) : wY_simulate_88 post kk jj (m + 1) (nI pc) (nI ld) (nI t) (nI (q + 1)) f_n f_room f_phase (nI N) f_cursor f_hasTangent f_size f_pending f_factor f_work f_open f_loops f_steps (-1) f_nextItem f_nextCell (nI d) a_kinds a_args a_inputs a_weights a_tangents a_marks a_cell a_dcell a_seen a_val a_der a_start a_counter a_total := by
  have e : (nI ld - 1) - nI lv = nI (ld - 1 - lv) := by
    rw [show nI ld - 1 = nI (ld - 1) from pk_sub (a := ld) (b := 1) (by omega), pk_sub (by omega)]
  refine ry_hd1 ht hpc hN hk ha (by decide) (by decide) (br_f (by decide) (br_f (by decide) (br_f (by decide) (br_f (by decide) (?_)))))
  refine br_f (by decide) (br_f (by decide) (br_t rfl ?_))
  rw [e]
  refine And.intro (vp_in_nI (by omega) (by decide)) (And.intro (nI_ne0 (by omega) (by omega)) ?_)
  rw [nI_clamp (show ld - 1 - lv < 2 ^ 31 by omega)]
  exact And.intro (vp_in_nI hd (by decide)) (nm_r (e' := upd a_val d (a_counter (ld - 1 - lv) - a_counter (ld - 1 - lv) / nI (q + 1) * nI (q + 1))) (by rw [nI_clamp (by omega)]) (br_f (by decide) (br_f (by decide) (ry_288 hd K))))
/-- a write of val 0 into cell c -/
theorem ry_w {post : SY → Prop} {kk x4 : Int32} {m t : Nat} {ns n c j : Nat} {x8 : Int32} (hn : n ≤ 8) (hc : c < 8) (hj : j < 8)
    (K1 : nI (ns + 1) = kk → ∀ sn dc, (∀ i, i < n → sn i = upd a_cell c (a_val 0) i) → (∀ i, i < n → dc i = rt_e j i) → wY_simulate_88 post kk (nI j) m x8 x4 (nI (t + 1)) f_p (nI n) f_room f_phase f_items f_cursor f_hasTangent f_size f_pending f_factor f_work f_open f_loops (nI (ns + 1)) f_faultItem f_nextItem f_nextCell (nI 0) a_kinds a_args a_inputs a_weights a_tangents a_marks (upd a_cell c (a_val 0)) dc sn a_val a_der a_start a_counter a_total)
    (K2 : ¬ nI (ns + 1) = kk → wY_simulate_88 post kk (nI j) m x8 x4 (nI (t + 1)) f_p (nI n) f_room f_phase f_items f_cursor f_hasTangent f_size f_pending f_factor f_work f_open f_loops (nI (ns + 1)) f_faultItem f_nextItem f_nextCell (nI 0) a_kinds a_args a_inputs a_weights a_tangents a_marks (upd a_cell c (a_val 0)) (upd a_dcell c (a_der 0)) a_seen a_val a_der a_start a_counter a_total) :
    wY_simulate_327 post (wY_simulate_88 post kk (nI j) m) kk (nI j) x4 (nI t) x8 (nI c) f_p (nI n) f_room f_phase f_items f_cursor f_hasTangent f_size f_pending f_factor f_work f_open f_loops (nI ns) f_faultItem f_nextItem f_nextCell (nI 0) a_kinds a_args a_inputs a_weights a_tangents a_marks a_cell a_dcell a_seen a_val a_der a_start a_counter a_total := by
  refine And.intro (vp_in_nI (by decide) (by decide)) (And.intro (vp_in_nI hc (by decide)) (nm_r (e' := upd a_cell c (a_val 0)) (by rw [nI_clamp (by omega), nI_clamp (by omega)])
    (And.intro (vp_in_nI (by decide) (by decide)) (And.intro (vp_in_nI hc (by decide)) (nm_r (e' := upd a_dcell c (a_der 0)) (by rw [nI_clamp (by omega), nI_clamp (by omega)]) (nm_r (nI_1 ns) (br_c (fun h => ?_) (fun h => ?_))))))))
  · exact ry_seed hn hj (fun sn dc h1 h2 => nm_r (nI_1 t) (K1 h sn dc h1 h2))
  · exact nm_r (nI_1 t) (K2 h)
theorem ry_k45 {post : SY → Prop} {kk x4 : Int32} {m pc t N : Nat} {ns n c j : Nat} {k x7 : Int32} (h45 : k = 4 ∨ k = 5) (hn : n ≤ 8) (hc : c < 8) (hj : j < 8)
    (K : ∀ nit ncl, (nI ns = kk → nit = nI pc ∧ ncl = nI c) → (¬ nI ns = kk → nit = f_nextItem ∧ ncl = f_nextCell) →
      (nI (ns + 1) = kk → ∀ sn dc, (∀ i, i < n → sn i = upd a_cell c (a_val 0) i) → (∀ i, i < n → dc i = rt_e j i) → wY_simulate_88 post kk (nI j) m (nI (pc + 1)) x4 (nI (t + 1)) f_p (nI n) f_room f_phase (nI N) f_cursor f_hasTangent f_size f_pending f_factor f_work f_open f_loops (nI (ns + 1)) (-1) nit ncl (nI 0) a_kinds a_args a_inputs a_weights a_tangents a_marks (upd a_cell c (a_val 0)) dc sn a_val a_der a_start a_counter a_total)
      ∧ (¬ nI (ns + 1) = kk → wY_simulate_88 post kk (nI j) m (nI (pc + 1)) x4 (nI (t + 1)) f_p (nI n) f_room f_phase (nI N) f_cursor f_hasTangent f_size f_pending f_factor f_work f_open f_loops (nI (ns + 1)) (-1) nit ncl (nI 0) a_kinds a_args a_inputs a_weights a_tangents a_marks (upd a_cell c (a_val 0)) (upd a_dcell c (a_der 0)) a_seen a_val a_der a_start a_counter a_total)) :
    wY_simulate_161 post (wY_simulate_88 post kk (nI j) m) kk (nI j) (nI pc) x4 (nI t) k x7 (nI (pc + 1)) (nI c) f_p (nI n) f_room f_phase (nI N) f_cursor f_hasTangent f_size f_pending f_factor f_work f_open f_loops (nI ns) (-1) f_nextItem f_nextCell (nI 1) a_kinds a_args a_inputs a_weights a_tangents a_marks a_cell a_dcell a_seen a_val a_der a_start a_counter a_total := by
  have go : wY_simulate_189 post (wY_simulate_88 post kk (nI j) m) kk (nI j) (nI pc) x4 (nI t) k x7 (nI (pc + 1)) (nI c) f_p (nI n) f_room f_phase (nI N) f_cursor f_hasTangent f_size f_pending f_factor f_work f_open f_loops (nI ns) (-1) f_nextItem f_nextCell (nI 1) a_kinds a_args a_inputs a_weights a_tangents a_marks a_cell a_dcell a_seen a_val a_der a_start a_counter a_total := by
    refine nm_r (nI_pred 0) (br_t (by rcases h45 with z | z <;> rw [z] <;> decide) (br_f (by rcases h45 with z | z <;> rw [z] <;> decide) (br_c (fun h => ?_) (fun h => ?_))))
    · have k := K (nI pc) (nI c) (fun _ => ⟨rfl, rfl⟩) (fun z => absurd h z)
      exact ry_w hn hc hj k.1 k.2
    · have k := K f_nextItem f_nextCell (fun z => absurd z h) (fun _ => ⟨rfl, rfl⟩)
      exact ry_w hn hc hj k.1 k.2
  exact br_c (fun _ => go) (fun z => br_t (h45.elim (fun y => absurd y z) id) go)
theorem ry_k6 {post : SY → Prop} {kk jj x4 : Int32} {m pc t N : Nat} {a : Int32} (ht : t < 1024) (hpc : pc < N) (hN : N ≤ 128) (hk : a_kinds pc = 6) (ha : a_args pc = a) (hz : a = 3 → ∃ d, d < 8 ∧ f_top = nI (d + 1) ∧ ¬ a_val d = 0)
    (go : wY_simulate_420 post (wY_simulate_88 post kk jj m) kk jj x4 (nI t) a (nI (pc + 1)) f_p f_n f_room f_phase (nI N) f_cursor f_hasTangent f_size f_pending f_factor f_work f_open f_loops f_steps (-1) f_nextItem f_nextCell f_top a_kinds a_args a_inputs a_weights a_tangents a_marks a_cell a_dcell a_seen a_val a_der a_start a_counter a_total) : wY_simulate_88 post kk jj (m + 1) (nI pc) x4 (nI t) f_p f_n f_room f_phase (nI N) f_cursor f_hasTangent f_size f_pending f_factor f_work f_open f_loops f_steps (-1) f_nextItem f_nextCell f_top a_kinds a_args a_inputs a_weights a_tangents a_marks a_cell a_dcell a_seen a_val a_der a_start a_counter a_total := by
  refine ry_hd1 ht hpc hN hk ha (by decide) (by decide) (br_f (by decide) (br_f (by decide) (br_f (by decide) (br_f (by decide) (?_)))))
  refine br_t (by decide) (br_t (by decide) (br_t rfl (br_c (fun h => ?_) (fun _ => go))))
  obtain ⟨d, hd, e, hv⟩ := hz h
  rw [e, nI_pred d, nI_clamp (by omega)]
  rw [e] at go
  exact And.intro (vp_in_nI hd (by decide)) (br_f hv go)
theorem ry_k6f {post : SY → Prop} {kk jj x4 : Int32} {m pc t N : Nat} {d : Nat} (ht : t < 1024) (hpc : pc < N) (hN : N ≤ 128) (hk : a_kinds pc = 6) (ha : a_args pc = 3) (hd : d < 8) (hv : a_val d = 0)
    (K : wY_simulate_88 post kk jj m (nI (pc + 1)) x4 (nI (t + 1)) f_p f_n f_room f_phase (nI N) f_cursor f_hasTangent f_size f_pending f_factor f_work f_open f_loops f_steps (nI pc) f_nextItem f_nextCell (nI (d + 1)) a_kinds a_args a_inputs a_weights a_tangents a_marks a_cell a_dcell a_seen a_val a_der a_start a_counter a_total) : wY_simulate_88 post kk jj (m + 1) (nI pc) x4 (nI t) f_p f_n f_room f_phase (nI N) f_cursor f_hasTangent f_size f_pending f_factor f_work f_open f_loops f_steps (-1) f_nextItem f_nextCell (nI (d + 1)) a_kinds a_args a_inputs a_weights a_tangents a_marks a_cell a_dcell a_seen a_val a_der a_start a_counter a_total := by
  refine ry_hd1 ht hpc hN hk ha (by decide) (by decide) (br_f (by decide) (br_f (by decide) (br_f (by decide) (br_f (by decide) (?_)))))
  refine br_t (by decide) (br_t (by decide) (br_t rfl (br_t rfl ?_)))
  rw [nI_pred d, nI_clamp (by omega)]
  exact And.intro (vp_in_nI hd (by decide)) (br_t hv (nm_r (nI_1 t) K))
theorem ry_k6_0 {post : SY → Prop} {kk jj x4 : Int32} {m pc t N : Nat} {q d : Nat} {a b da db : Int32} (ht : t < 1024) (hpc : pc < N) (hN : N ≤ 128) (hk : a_kinds pc = 6) (ha : a_args pc = 0) (hq : q < 32749) (hd : d < 7) (hb : a_val (d + 1) = b) (hdb : a_der (d + 1) = db) (hva : a_val d = a) (hda : a_der d = da)
    (K : wY_simulate_88 post kk jj m (nI (pc + 1)) x4 (nI (t + 1)) (nI (q + 1)) f_n f_room f_phase (nI N) f_cursor f_hasTangent f_size f_pending f_factor f_work f_open f_loops f_steps (-1) f_nextItem f_nextCell (nI (d + 1)) a_kinds a_args a_inputs a_weights a_tangents a_marks a_cell a_dcell a_seen (upd a_val d (ra_yr (nI (q + 1)) (a + b))) (upd a_der d (ra_yr (nI (q + 1)) (da + db))) a_start a_counter a_total) : wY_simulate_88 post kk jj (m + 1) (nI pc) x4 (nI t) (nI (q + 1)) f_n f_room f_phase (nI N) f_cursor f_hasTangent f_size f_pending f_factor f_work f_open f_loops f_steps (-1) f_nextItem f_nextCell (nI (d + 2)) a_kinds a_args a_inputs a_weights a_tangents a_marks a_cell a_dcell a_seen a_val a_der a_start a_counter a_total :=
  ry_k6 ht hpc hN hk ha (fun z => absurd z (by decide)) (ry_a0 hq hd hb hdb hva hda (nm_r (nI_1 t) K))
theorem ry_k6_1 {post : SY → Prop} {kk jj x4 : Int32} {m pc t N : Nat} {q d : Nat} {a b da db : Int32} (ht : t < 1024) (hpc : pc < N) (hN : N ≤ 128) (hk : a_kinds pc = 6) (ha : a_args pc = 1) (hq : q < 32749) (hd : d < 7) (hb : a_val (d + 1) = b) (hdb : a_der (d + 1) = db) (hva : a_val d = a) (hda : a_der d = da)
    (K : wY_simulate_88 post kk jj m (nI (pc + 1)) x4 (nI (t + 1)) (nI (q + 1)) f_n f_room f_phase (nI N) f_cursor f_hasTangent f_size f_pending f_factor f_work f_open f_loops f_steps (-1) f_nextItem f_nextCell (nI (d + 1)) a_kinds a_args a_inputs a_weights a_tangents a_marks a_cell a_dcell a_seen (upd a_val d (ra_yr (nI (q + 1)) (a - b))) (upd a_der d (ra_yr (nI (q + 1)) (da - db))) a_start a_counter a_total) : wY_simulate_88 post kk jj (m + 1) (nI pc) x4 (nI t) (nI (q + 1)) f_n f_room f_phase (nI N) f_cursor f_hasTangent f_size f_pending f_factor f_work f_open f_loops f_steps (-1) f_nextItem f_nextCell (nI (d + 2)) a_kinds a_args a_inputs a_weights a_tangents a_marks a_cell a_dcell a_seen a_val a_der a_start a_counter a_total :=
  ry_k6 ht hpc hN hk ha (fun z => absurd z (by decide)) (ry_a1 hq hd hb hdb hva hda (nm_r (nI_1 t) K))
theorem ry_k6_2 {post : SY → Prop} {kk jj x4 : Int32} {m pc t N : Nat} {q d : Nat} {a b da db : Int32} (ht : t < 1024) (hpc : pc < N) (hN : N ≤ 128) (hk : a_kinds pc = 6) (ha : a_args pc = 2) (hq : q < 32749) (hd : d < 7) (hb : a_val (d + 1) = b) (hdb : a_der (d + 1) = db) (hva : a_val d = a) (hda : a_der d = da)
    (K : wY_simulate_88 post kk jj m (nI (pc + 1)) x4 (nI (t + 1)) (nI (q + 1)) f_n f_room f_phase (nI N) f_cursor f_hasTangent f_size f_pending f_factor f_work f_open f_loops f_steps (-1) f_nextItem f_nextCell (nI (d + 1)) a_kinds a_args a_inputs a_weights a_tangents a_marks a_cell a_dcell a_seen (upd a_val d (ra_yr (nI (q + 1)) (a * b))) (upd a_der d (ra_yr (nI (q + 1)) (((da * b) - (da * b) / nI (q + 1) * nI (q + 1)) + ((a * db) - (a * db) / nI (q + 1) * nI (q + 1))))) a_start a_counter a_total) : wY_simulate_88 post kk jj (m + 1) (nI pc) x4 (nI t) (nI (q + 1)) f_n f_room f_phase (nI N) f_cursor f_hasTangent f_size f_pending f_factor f_work f_open f_loops f_steps (-1) f_nextItem f_nextCell (nI (d + 2)) a_kinds a_args a_inputs a_weights a_tangents a_marks a_cell a_dcell a_seen a_val a_der a_start a_counter a_total :=
  ry_k6 ht hpc hN hk ha (fun z => absurd z (by decide)) (ry_a2 hq hd hb hdb hva hda (nm_r (nI_1 t) K))
theorem ry_k6_3 {post : SY → Prop} {kk jj x4 : Int32} {m pc t N : Nat} {q d b : Nat} {a da db : Int32} (ht : t < 1024) (hpc : pc < N) (hN : N ≤ 128) (hk : a_kinds pc = 6) (ha : a_args pc = 3) (hp : ra_pr q) (hb0 : 0 < b) (hbq : b < q + 1) (hd : d < 7) (hb : a_val (d + 1) = nI b) (hdb : a_der (d + 1) = db) (hva : a_val d = a) (hda : a_der d = da)
    (K : wY_simulate_88 post kk jj m (nI (pc + 1)) x4 (nI (t + 1)) (nI (q + 1)) f_n f_room f_phase (nI N) f_cursor f_hasTangent f_size f_pending f_factor f_work f_open f_loops f_steps (-1) f_nextItem f_nextCell (nI (d + 1)) a_kinds a_args a_inputs a_weights a_tangents a_marks a_cell a_dcell a_seen (upd a_val d (ra_yr (nI (q + 1)) ((a * nI (ra_iv (q + 1) b)) - (a * nI (ra_iv (q + 1) b)) / nI (q + 1) * nI (q + 1)))) (upd a_der d (ra_yr (nI (q + 1)) (((da - ((((a * nI (ra_iv (q + 1) b)) - (a * nI (ra_iv (q + 1) b)) / nI (q + 1) * nI (q + 1)) * db) - (((a * nI (ra_iv (q + 1) b)) - (a * nI (ra_iv (q + 1) b)) / nI (q + 1) * nI (q + 1)) * db) / nI (q + 1) * nI (q + 1))) - (da - ((((a * nI (ra_iv (q + 1) b)) - (a * nI (ra_iv (q + 1) b)) / nI (q + 1) * nI (q + 1)) * db) - (((a * nI (ra_iv (q + 1) b)) - (a * nI (ra_iv (q + 1) b)) / nI (q + 1) * nI (q + 1)) * db) / nI (q + 1) * nI (q + 1))) / nI (q + 1) * nI (q + 1)) * nI (ra_iv (q + 1) b)))) a_start a_counter a_total) : wY_simulate_88 post kk jj (m + 1) (nI pc) x4 (nI t) (nI (q + 1)) f_n f_room f_phase (nI N) f_cursor f_hasTangent f_size f_pending f_factor f_work f_open f_loops f_steps (-1) f_nextItem f_nextCell (nI (d + 2)) a_kinds a_args a_inputs a_weights a_tangents a_marks a_cell a_dcell a_seen a_val a_der a_start a_counter a_total :=
  ry_k6 ht hpc hN hk ha (fun _ => ⟨d + 1, by omega, rfl, by rw [hb]; exact nI_ne0 hb0 (by have := ra_pr_lt hp; omega)⟩) (ry_a3 hp hb0 hbq hd hb hdb hva hda (nm_r (nI_1 t) K))
theorem ry_k6_4 {post : SY → Prop} {kk jj x4 : Int32} {m pc t N : Nat} {q d : Nat} {b db : Int32} (ht : t < 1024) (hpc : pc < N) (hN : N ≤ 128) (hk : a_kinds pc = 6) (ha : a_args pc = 4) (hq : q < 32749) (hd : d < 8) (hb : a_val d = b) (hdb : a_der d = db)
    (K : wY_simulate_88 post kk jj m (nI (pc + 1)) x4 (nI (t + 1)) (nI (q + 1)) f_n f_room f_phase (nI N) f_cursor f_hasTangent f_size f_pending f_factor f_work f_open f_loops f_steps (-1) f_nextItem f_nextCell (nI (d + 1)) a_kinds a_args a_inputs a_weights a_tangents a_marks a_cell a_dcell a_seen (upd a_val d (ra_yr (nI (q + 1)) (-b))) (upd a_der d (ra_yr (nI (q + 1)) (-db))) a_start a_counter a_total) : wY_simulate_88 post kk jj (m + 1) (nI pc) x4 (nI t) (nI (q + 1)) f_n f_room f_phase (nI N) f_cursor f_hasTangent f_size f_pending f_factor f_work f_open f_loops f_steps (-1) f_nextItem f_nextCell (nI (d + 1)) a_kinds a_args a_inputs a_weights a_tangents a_marks a_cell a_dcell a_seen a_val a_der a_start a_counter a_total :=
  ry_k6 ht hpc hN hk ha (fun z => absurd z (by decide)) (ry_a4 hq hd hb hdb (nm_r (nI_1 t) K))
theorem ry_k6_5 {post : SY → Prop} {kk jj x4 : Int32} {m pc t N : Nat} {q d : Nat} {b db : Int32} (ht : t < 1024) (hpc : pc < N) (hN : N ≤ 128) (hk : a_kinds pc = 6) (ha : a_args pc = 5) (hq : q < 32749) (hd : d < 7) (hb : a_val d = b) (hdb : a_der d = db)
    (K : wY_simulate_88 post kk jj m (nI (pc + 1)) x4 (nI (t + 1)) (nI (q + 1)) f_n f_room f_phase (nI N) f_cursor f_hasTangent f_size f_pending f_factor f_work f_open f_loops f_steps (-1) f_nextItem f_nextCell (nI (d + 2)) a_kinds a_args a_inputs a_weights a_tangents a_marks a_cell a_dcell a_seen (upd a_val (d + 1) (ra_yr (nI (q + 1)) b)) (upd a_der (d + 1) (ra_yr (nI (q + 1)) db)) a_start a_counter a_total) : wY_simulate_88 post kk jj (m + 1) (nI pc) x4 (nI t) (nI (q + 1)) f_n f_room f_phase (nI N) f_cursor f_hasTangent f_size f_pending f_factor f_work f_open f_loops f_steps (-1) f_nextItem f_nextCell (nI (d + 1)) a_kinds a_args a_inputs a_weights a_tangents a_marks a_cell a_dcell a_seen a_val a_der a_start a_counter a_total :=
  ry_k6 ht hpc hN hk ha (fun z => absurd z (by decide)) (ry_a5 hq hd hb hdb (nm_r (nI_1 t) K))
theorem ry_k6_6 {post : SY → Prop} {kk jj x4 : Int32} {m pc t N : Nat} {q d : Nat} {a b da db : Int32} (ht : t < 1024) (hpc : pc < N) (hN : N ≤ 128) (hk : a_kinds pc = 6) (ha : a_args pc = 6) (hq : q < 32749) (hd : d < 7) (hb : a_val (d + 1) = b) (hdb : a_der (d + 1) = db) (hva : a_val d = a) (hda : a_der d = da)
    (K : wY_simulate_88 post kk jj m (nI (pc + 1)) x4 (nI (t + 1)) (nI (q + 1)) f_n f_room f_phase (nI N) f_cursor f_hasTangent f_size f_pending f_factor f_work f_open f_loops f_steps (-1) f_nextItem f_nextCell (nI (d + 2)) a_kinds a_args a_inputs a_weights a_tangents a_marks a_cell a_dcell a_seen (upd (upd a_val d b) (d + 1) (ra_yr (nI (q + 1)) a)) (upd (upd a_der d db) (d + 1) (ra_yr (nI (q + 1)) da)) a_start a_counter a_total) : wY_simulate_88 post kk jj (m + 1) (nI pc) x4 (nI t) (nI (q + 1)) f_n f_room f_phase (nI N) f_cursor f_hasTangent f_size f_pending f_factor f_work f_open f_loops f_steps (-1) f_nextItem f_nextCell (nI (d + 2)) a_kinds a_args a_inputs a_weights a_tangents a_marks a_cell a_dcell a_seen a_val a_der a_start a_counter a_total :=
  ry_k6 ht hpc hN hk ha (fun z => absurd z (by decide)) (ry_a6 hq hd hb hdb hva hda (nm_r (nI_1 t) K))
end
end
section
/-! Y: one round of simulate, the blocks -/
section
variable {f_p f_n f_room f_phase f_items f_cursor f_hasTangent f_size f_pending f_factor f_work f_open f_loops f_steps f_faultItem f_nextItem f_nextCell f_top : Int32} {a_kinds a_args a_inputs a_weights a_tangents a_marks a_cell a_dcell a_seen a_val a_der a_start a_counter a_total : Nat → Int32}
theorem ry_471 {post : SY → Prop} {kk jj : Int32} {m pc t : Nat} {ld c : Nat} (hl : ld < 6) (hc : 0 < c) (hc2 : c ≤ 16)
    (K : wY_simulate_88 post kk jj m (nI (pc + 1)) (nI (ld + 1)) (nI (t + 1)) f_p f_n f_room f_phase f_items f_cursor f_hasTangent f_size f_pending f_factor f_work f_open f_loops f_steps f_faultItem f_nextItem f_nextCell f_top a_kinds a_args a_inputs a_weights a_tangents a_marks a_cell a_dcell a_seen a_val a_der (upd a_start ld (nI pc)) (upd a_counter ld 0) (upd a_total ld (nI c))) :
    wY_simulate_471 post (wY_simulate_88 post kk jj m) kk jj (nI pc) (nI ld) (nI t) (nI (pc + 1)) (nI c) f_p f_n f_room f_phase f_items f_cursor f_hasTangent f_size f_pending f_factor f_work f_open f_loops f_steps f_faultItem f_nextItem f_nextCell f_top a_kinds a_args a_inputs a_weights a_tangents a_marks a_cell a_dcell a_seen a_val a_der a_start a_counter a_total :=
  And.intro (vp_in_nI hl (by decide)) (nm_r (e' := upd a_start ld (nI pc)) (by rw [nI_clamp (by omega)]) (And.intro (vp_in_nI hl (by decide)) (nm_r (e' := upd a_counter ld 0) (by rw [nI_clamp (by omega)])
    (And.intro (vp_in_nI hl (by decide)) (nm_r (e' := upd a_total ld (nI c)) (by rw [nI_clamp (by omega)]) (br_f (nI_ne0 hc (by omega)) (nm_r (nI_1 ld) (nm_r (nI_1 t) K))))))))
theorem ry_k7 {post : SY → Prop} {kk jj : Int32} {m pc t N : Nat} {ld c : Nat} (ht : t < 1024) (hpc : pc < N) (hN : N ≤ 128) (hk : a_kinds pc = 7) (ha : a_args pc = nI c) (hl : ld < 6) (hc : 0 < c) (hc2 : c ≤ 16)
    (K : wY_simulate_88 post kk jj m (nI (pc + 1)) (nI (ld + 1)) (nI (t + 1)) f_p f_n f_room f_phase (nI N) f_cursor f_hasTangent f_size f_pending f_factor f_work f_open f_loops f_steps (-1) f_nextItem f_nextCell f_top a_kinds a_args a_inputs a_weights a_tangents a_marks a_cell a_dcell a_seen a_val a_der (upd a_start ld (nI pc)) (upd a_counter ld 0) (upd a_total ld (nI c))) : wY_simulate_88 post kk jj (m + 1) (nI pc) (nI ld) (nI t) f_p f_n f_room f_phase (nI N) f_cursor f_hasTangent f_size f_pending f_factor f_work f_open f_loops f_steps (-1) f_nextItem f_nextCell f_top a_kinds a_args a_inputs a_weights a_tangents a_marks a_cell a_dcell a_seen a_val a_der a_start a_counter a_total := by
  refine ry_hd1 ht hpc hN hk ha (by decide) (by decide) (br_f (by decide) (br_f (by decide) (br_f (by decide) (br_f (by decide) (?_)))))
  refine br_t (by decide) (br_t (by decide) (br_f (by decide) (br_f (by decide) (br_f (by decide) ?_))))
  exact ry_471 hl hc hc2 K
theorem ry_k8 {post : SY → Prop} {kk jj : Int32} {m pc t N : Nat} {ld c v : Nat} (ht : t < 1024) (hpc : pc < N) (hN : N ≤ 128) (hk : a_kinds pc = 8) (ha : a_args pc = nI c) (hl : ld < 6) (hc : 0 < c) (hc2 : c ≤ 16) (hs : a_val 0 = nI v) (hv0 : 0 < v) (hv : v < 2 ^ 31)
    (K : wY_simulate_88 post kk jj m (nI (pc + 1)) (nI (ld + 1)) (nI (t + 1)) f_p f_n f_room f_phase (nI N) f_cursor f_hasTangent f_size f_pending f_factor f_work f_open f_loops f_steps (-1) f_nextItem f_nextCell (nI 0) a_kinds a_args a_inputs a_weights a_tangents a_marks a_cell a_dcell a_seen a_val a_der (upd a_start ld (nI pc)) (upd a_counter ld 0) (upd a_total ld (nI (min v c)))) : wY_simulate_88 post kk jj (m + 1) (nI pc) (nI ld) (nI t) f_p f_n f_room f_phase (nI N) f_cursor f_hasTangent f_size f_pending f_factor f_work f_open f_loops f_steps (-1) f_nextItem f_nextCell (nI 1) a_kinds a_args a_inputs a_weights a_tangents a_marks a_cell a_dcell a_seen a_val a_der a_start a_counter a_total := by
  refine ry_hd1 ht hpc hN hk ha (by decide) (by decide) (br_f (by decide) (br_f (by decide) (br_t rfl (nm_r (nI_pred 0) ?_))))
  refine br_t (by decide) (br_t (by decide) (br_f (by decide) (br_f (by decide) (br_t rfl (And.intro (vp_in_nI (by decide) (by decide)) ?_)))))
  rw [nI_clamp (by decide), hs]
  refine pk_le c v (fun h => ?_) (fun h => And.intro (vp_in_nI (by decide) (by decide)) ?_)
  · rw [Nat.min_eq_right h] at K; exact ry_471 hl hc hc2 K
  · rw [Nat.min_eq_left (by omega)] at K; exact ry_471 hl hv0 (by omega) K
theorem ry_k8z {post : SY → Prop} {kk jj : Int32} {m pc t N : Nat} {ld c : Nat} (ht : t < 1024) (hpc : pc < N) (hN : N ≤ 128) {q n : Nat} (pv : rs_PV q n a_kinds a_args N) (hsk : rs_sk a_kinds N = []) (hk : a_kinds pc = 8) (ha : a_args pc = nI c) (hl : ld < 6) (hc : 0 < c) (hc2 : c ≤ 16) (hs : a_val 0 = 0)
    (K : ∀ j, pc < j → j < N → rs_sk a_kinds j = (pc, pc) :: rs_sk a_kinds pc → a_kinds j = 11 → wY_simulate_88 post kk jj m (nI (j + 1)) (nI ld) (nI (t + 1)) f_p f_n f_room f_phase (nI N) f_cursor f_hasTangent f_size f_pending f_factor f_work f_open f_loops f_steps (-1) f_nextItem f_nextCell (nI 0) a_kinds a_args a_inputs a_weights a_tangents a_marks a_cell a_dcell a_seen a_val a_der (upd a_start ld (nI pc)) (upd a_counter ld 0) (upd a_total ld 0)) : wY_simulate_88 post kk jj (m + 1) (nI pc) (nI ld) (nI t) f_p f_n f_room f_phase (nI N) f_cursor f_hasTangent f_size f_pending f_factor f_work f_open f_loops f_steps (-1) f_nextItem f_nextCell (nI 1) a_kinds a_args a_inputs a_weights a_tangents a_marks a_cell a_dcell a_seen a_val a_der a_start a_counter a_total := by
  refine ry_hd1 ht hpc hN hk ha (by decide) (by decide) (br_f (by decide) (br_f (by decide) (br_t rfl (nm_r (nI_pred 0) ?_))))
  refine br_t (by decide) (br_t (by decide) (br_f (by decide) (br_f (by decide) (br_t rfl (And.intro (vp_in_nI (by decide) (by decide)) ?_)))))
  rw [nI_clamp (by decide), hs]
  refine br_f (nI_ge (a := 0) (b := c) hc (by omega)) (And.intro (vp_in_nI (by decide) (by decide)) ?_)
  refine And.intro (vp_in_nI hl (by decide)) (nm_r (e' := upd a_start ld (nI pc)) (by rw [nI_clamp (by omega)]) (And.intro (vp_in_nI hl (by decide)) (nm_r (e' := upd a_counter ld 0) (by rw [nI_clamp (by omega)])
    (And.intro (vp_in_nI hl (by decide)) (nm_r (e' := upd a_total ld 0) (by rw [nI_clamp (by omega)]) (br_t rfl ?_))))))
  refine ry_partner hN pv hsk hpc (Or.inl ⟨rfl, Or.inr (Or.inl hk)⟩) (rs_skO (Or.inr (Or.inl hk))) (fun j h1 h2 h3 h4 => nm_r (nI_1 j) (nm_r (nI_1 t) (K j h1 h2 h3 (h4.elim id (fun z => ?_)))))
  have := z.2; rw [hk] at this; exact absurd this (by decide)
theorem ry_k9t {post : SY → Prop} {kk jj : Int32} {m pc t N : Nat} {c v q x4 : Nat} (ht : t < 1024) (hpc : pc < N) (hN : N ≤ 128) (hk : a_kinds pc = 9) (ha : a_args pc = nI c) (hc : c ≤ 3) (hv : v < q + 1) (hq : q < 32749) (hs : a_val 0 = nI v) (hh : rs_hold q c v = true)
    (K : wY_simulate_88 post kk jj m (nI (pc + 1)) (nI x4) (nI (t + 1)) (nI (q + 1)) f_n f_room f_phase (nI N) f_cursor f_hasTangent f_size f_pending f_factor f_work f_open f_loops f_steps (-1) f_nextItem f_nextCell (nI 0) a_kinds a_args a_inputs a_weights a_tangents a_marks a_cell a_dcell a_seen a_val a_der a_start a_counter a_total) : wY_simulate_88 post kk jj (m + 1) (nI pc) (nI x4) (nI t) (nI (q + 1)) f_n f_room f_phase (nI N) f_cursor f_hasTangent f_size f_pending f_factor f_work f_open f_loops f_steps (-1) f_nextItem f_nextCell (nI 1) a_kinds a_args a_inputs a_weights a_tangents a_marks a_cell a_dcell a_seen a_val a_der a_start a_counter a_total := by
  refine ry_hd1 ht hpc hN hk ha (by decide) (by decide) (br_f (by decide) (br_f (by decide) (br_f (by decide) (br_t rfl (nm_r (nI_pred 0) ?_)))))
  refine br_t (by decide) (br_t (by decide) (br_f (by decide) (br_t (by decide) (br_t rfl (And.intro (vp_in_nI (by decide) (by decide)) ?_)))))
  rw [nI_clamp (by decide), hs]
  refine ry_holds hc hv hq ?_
  rw [hh]
  exact br_f (by decide) (nm_r (nI_1 t) K)
theorem ry_k9f {post : SY → Prop} {kk jj : Int32} {m pc t N : Nat} {c v x4 : Nat} (ht : t < 1024) (hpc : pc < N) (hN : N ≤ 128) {q n : Nat} (pv : rs_PV q n a_kinds a_args N) (hsk : rs_sk a_kinds N = []) (hk : a_kinds pc = 9) (ha : a_args pc = nI c) (hc : c ≤ 3) (hv : v < q + 1) (hq : q < 32749) (hs : a_val 0 = nI v) (hh : rs_hold q c v = false)
    (K : ∀ j, pc < j → j < N → rs_sk a_kinds j = (pc, pc) :: rs_sk a_kinds pc → (a_kinds j = 11 ∨ a_kinds j = 10) → wY_simulate_88 post kk jj m (nI (j + 1)) (nI x4) (nI (t + 1)) (nI (q + 1)) f_n f_room f_phase (nI N) f_cursor f_hasTangent f_size f_pending f_factor f_work f_open f_loops f_steps (-1) f_nextItem f_nextCell (nI 0) a_kinds a_args a_inputs a_weights a_tangents a_marks a_cell a_dcell a_seen a_val a_der a_start a_counter a_total) : wY_simulate_88 post kk jj (m + 1) (nI pc) (nI x4) (nI t) (nI (q + 1)) f_n f_room f_phase (nI N) f_cursor f_hasTangent f_size f_pending f_factor f_work f_open f_loops f_steps (-1) f_nextItem f_nextCell (nI 1) a_kinds a_args a_inputs a_weights a_tangents a_marks a_cell a_dcell a_seen a_val a_der a_start a_counter a_total := by
  refine ry_hd1 ht hpc hN hk ha (by decide) (by decide) (br_f (by decide) (br_f (by decide) (br_f (by decide) (br_t rfl (nm_r (nI_pred 0) ?_)))))
  refine br_t (by decide) (br_t (by decide) (br_f (by decide) (br_t (by decide) (br_t rfl (And.intro (vp_in_nI (by decide) (by decide)) ?_)))))
  rw [nI_clamp (by decide), hs]
  refine ry_holds hc hv hq ?_
  rw [hh]
  refine br_t rfl ?_
  exact ry_partner hN pv hsk hpc (Or.inr ⟨rfl, hk⟩) (rs_skO (Or.inr (Or.inr hk))) (fun j h1 h2 h3 h4 => nm_r (nI_1 j) (nm_r (nI_1 t) (K j h1 h2 h3 (h4.elim Or.inl (fun z => Or.inr z.1)))))
theorem ry_k10 {post : SY → Prop} {kk jj : Int32} {m pc t N : Nat} {x4 o : Nat} {l : List (Nat × Nat)} {a : Int32} (ht : t < 1024) (hpc : pc < N) (hN : N ≤ 128) {q n : Nat} (pv : rs_PV q n a_kinds a_args N) (hsk : rs_sk a_kinds N = []) (hk : a_kinds pc = 10) (ha : a_args pc = a) (ho : rs_sk a_kinds (pc + 1) = (o, pc) :: l)
    (K : ∀ j, pc < j → j < N → rs_sk a_kinds j = (o, pc) :: l → a_kinds j = 11 → wY_simulate_88 post kk jj m (nI (j + 1)) (nI x4) (nI (t + 1)) f_p f_n f_room f_phase (nI N) f_cursor f_hasTangent f_size f_pending f_factor f_work f_open f_loops f_steps (-1) f_nextItem f_nextCell f_top a_kinds a_args a_inputs a_weights a_tangents a_marks a_cell a_dcell a_seen a_val a_der a_start a_counter a_total) : wY_simulate_88 post kk jj (m + 1) (nI pc) (nI x4) (nI t) f_p f_n f_room f_phase (nI N) f_cursor f_hasTangent f_size f_pending f_factor f_work f_open f_loops f_steps (-1) f_nextItem f_nextCell f_top a_kinds a_args a_inputs a_weights a_tangents a_marks a_cell a_dcell a_seen a_val a_der a_start a_counter a_total := by
  refine ry_hd1 ht hpc hN hk ha (by decide) (by decide) (br_f (by decide) (br_f (by decide) (br_f (by decide) (br_f (by decide) (?_)))))
  refine br_t (by decide) (br_t (by decide) (br_f (by decide) (br_t (by decide) (br_f (by decide) (br_t rfl ?_)))))
  refine ry_partner hN pv hsk hpc (Or.inl ⟨rfl, Or.inr (Or.inr hk)⟩) ho (fun j h1 h2 h3 h4 => nm_r (nI_1 j) (nm_r (nI_1 t) (K j h1 h2 h3 (h4.elim id (fun z => ?_)))))
  have := z.2; rw [hk] at this; exact absurd this (by decide)
/-- an end without an open loop around -/
theorem ry_k11z {post : SY → Prop} {kk jj : Int32} {m pc t N : Nat} {a : Int32} (ht : t < 1024) (hpc : pc < N) (hN : N ≤ 128) (hk : a_kinds pc = 11) (ha : a_args pc = a) (K : wY_simulate_88 post kk jj m (nI (pc + 1)) (nI 0) (nI (t + 1)) f_p f_n f_room f_phase (nI N) f_cursor f_hasTangent f_size f_pending f_factor f_work f_open f_loops f_steps (-1) f_nextItem f_nextCell f_top a_kinds a_args a_inputs a_weights a_tangents a_marks a_cell a_dcell a_seen a_val a_der a_start a_counter a_total) : wY_simulate_88 post kk jj (m + 1) (nI pc) (nI 0) (nI t) f_p f_n f_room f_phase (nI N) f_cursor f_hasTangent f_size f_pending f_factor f_work f_open f_loops f_steps (-1) f_nextItem f_nextCell f_top a_kinds a_args a_inputs a_weights a_tangents a_marks a_cell a_dcell a_seen a_val a_der a_start a_counter a_total := by
  refine ry_hd1 ht hpc hN hk ha (by decide) (by decide) (br_f (by decide) (br_f (by decide) (br_f (by decide) (br_f (by decide) (?_)))))
  refine br_t (by decide) (br_t (by decide) (br_f (by decide) (br_t (by decide) (br_f (by decide) (br_f (by decide) ?_)))))
  exact br_t (by decide) (nm_r (nI_1 t) K)
/-- the end of an if inside a loop -/
theorem ry_k11i {post : SY → Prop} {kk jj : Int32} {m pc t N : Nat} {ld s o m0 : Nat} {l : List (Nat × Nat)} {a : Int32} (ht : t < 1024) (hpc : pc < N) (hN : N ≤ 128) {q n : Nat} (pv : rs_PV q n a_kinds a_args N) (hsk : rs_sk a_kinds N = []) (hk : a_kinds pc = 11) (ha : a_args pc = a) (hld : ld < 6) (hs : a_start ld = nI s) (hsN : s < N) (hks : a_kinds s = 7 ∨ a_kinds s = 8) (ho : rs_sk a_kinds pc = (o, m0) :: l) (hne : m0 ≠ s)
    (K : wY_simulate_88 post kk jj m (nI (pc + 1)) (nI (ld + 1)) (nI (t + 1)) f_p f_n f_room f_phase (nI N) f_cursor f_hasTangent f_size f_pending f_factor f_work f_open f_loops f_steps (-1) f_nextItem f_nextCell f_top a_kinds a_args a_inputs a_weights a_tangents a_marks a_cell a_dcell a_seen a_val a_der a_start a_counter a_total) : wY_simulate_88 post kk jj (m + 1) (nI pc) (nI (ld + 1)) (nI t) f_p f_n f_room f_phase (nI N) f_cursor f_hasTangent f_size f_pending f_factor f_work f_open f_loops f_steps (-1) f_nextItem f_nextCell f_top a_kinds a_args a_inputs a_weights a_tangents a_marks a_cell a_dcell a_seen a_val a_der a_start a_counter a_total := by
  refine ry_hd1 ht hpc hN hk ha (by decide) (by decide) (br_f (by decide) (br_f (by decide) (br_f (by decide) (br_f (by decide) (?_)))))
  refine br_t (by decide) (br_t (by decide) (br_f (by decide) (br_t (by decide) (br_f (by decide) (br_f (by decide) ?_)))))
  refine br_f (nI_nle (by omega) (by omega)) ?_
  rw [nI_pred ld]
  refine And.intro (vp_in_nI hld (by decide)) ?_
  rw [nI_clamp (by omega), hs]
  refine ry_partner hN pv hsk hsN (Or.inl ⟨rfl, hks.elim Or.inl (fun z => Or.inr (Or.inl z))⟩) (rs_skO (hks.elim Or.inl (fun z => Or.inr (Or.inl z)))) (fun j h1 h2 h3 h4 => ?_)
  refine br_f (fun z => ?_) (nm_r (nI_1 t) K)
  rw [nI_eq (by omega) (by omega)] at z
  subst z
  rw [ho] at h3
  injection h3 with e1 e2
  injection e1 with e3 e4
  exact hne e4
theorem ry_k11b {post : SY → Prop} {kk jj : Int32} {m pc t N : Nat} {ld s ct lim : Nat} {a : Int32} (ht : t < 1024) (hpc : pc < N) (hN : N ≤ 128) {q n : Nat} (pv : rs_PV q n a_kinds a_args N) (hsk : rs_sk a_kinds N = []) (hk : a_kinds pc = 11) (ha : a_args pc = a) (hld : ld < 6) (hs : a_start ld = nI s) (hsN : s < N) (hks : a_kinds s = 7 ∨ a_kinds s = 8)
    (hjm : ∀ j, s < j → j < N → rs_sk a_kinds j = (s, s) :: rs_sk a_kinds s → a_kinds j = 11 → j = pc)
    (hct : a_counter ld = nI ct) (hlim : a_total ld = nI lim) (h16 : lim ≤ 16) (hcl : ct < lim) (hc : ct + 1 < lim)
    (K : wY_simulate_88 post kk jj m (nI (s + 1)) (nI (ld + 1)) (nI (t + 1)) f_p f_n f_room f_phase (nI N) f_cursor f_hasTangent f_size f_pending f_factor f_work f_open f_loops f_steps (-1) f_nextItem f_nextCell f_top a_kinds a_args a_inputs a_weights a_tangents a_marks a_cell a_dcell a_seen a_val a_der a_start (upd a_counter ld (nI (ct + 1))) a_total) : wY_simulate_88 post kk jj (m + 1) (nI pc) (nI (ld + 1)) (nI t) f_p f_n f_room f_phase (nI N) f_cursor f_hasTangent f_size f_pending f_factor f_work f_open f_loops f_steps (-1) f_nextItem f_nextCell f_top a_kinds a_args a_inputs a_weights a_tangents a_marks a_cell a_dcell a_seen a_val a_der a_start a_counter a_total := by
  refine ry_hd1 ht hpc hN hk ha (by decide) (by decide) (br_f (by decide) (br_f (by decide) (br_f (by decide) (br_f (by decide) (?_)))))
  refine br_t (by decide) (br_t (by decide) (br_f (by decide) (br_t (by decide) (br_f (by decide) (br_f (by decide) ?_)))))
  refine br_f (nI_nle (by omega) (by omega)) ?_
  have e0 : nI (ld + 1) - 1 = nI ld := nI_pred ld
  rw [e0]
  refine And.intro (vp_in_nI hld (by decide)) ?_
  rw [nI_clamp (show ld < 2 ^ 31 by omega), hs]
  refine ry_partner hN pv hsk hsN (Or.inl ⟨rfl, hks.elim Or.inl (fun z => Or.inr (Or.inl z))⟩) (rs_skO (hks.elim Or.inl (fun z => Or.inr (Or.inl z)))) (fun j h1 h2 h3 h4 => ?_)
  have ej : j = pc := hjm j h1 h2 h3 (h4.elim id (fun z => by have := z.2; rcases hks with y | y <;> rw [y] at this <;> exact absurd this (by decide)))
  refine br_t (by rw [ej]) (And.intro (vp_in_nI hld (by decide)) (And.intro (vp_in_nI hld (by decide)) (nm_r (e' := upd a_counter ld (nI (ct + 1))) (by rw [hct, nI_1 ct]) (And.intro (vp_in_nI hld (by decide)) (And.intro (vp_in_nI hld (by decide)) ?_)))))
  rw [pk_us, hlim]
  refine br_f (nI_ge (a := ct + 1) (b := lim) hc (by omega)) (And.intro (vp_in_nI hld (by decide)) ?_)
  exact nm_r (nI_1 s) (nm_r (nI_1 t) K)
theorem ry_k11x {post : SY → Prop} {kk jj : Int32} {m pc t N : Nat} {ld s ct lim : Nat} {a : Int32} (ht : t < 1024) (hpc : pc < N) (hN : N ≤ 128) {q n : Nat} (pv : rs_PV q n a_kinds a_args N) (hsk : rs_sk a_kinds N = []) (hk : a_kinds pc = 11) (ha : a_args pc = a) (hld : ld < 6) (hs : a_start ld = nI s) (hsN : s < N) (hks : a_kinds s = 7 ∨ a_kinds s = 8)
    (hjm : ∀ j, s < j → j < N → rs_sk a_kinds j = (s, s) :: rs_sk a_kinds s → a_kinds j = 11 → j = pc)
    (hct : a_counter ld = nI ct) (hlim : a_total ld = nI lim) (h16 : lim ≤ 16) (hcl : ct < lim) (hc : lim ≤ ct + 1)
    (K : wY_simulate_88 post kk jj m (nI (pc + 1)) (nI (ld)) (nI (t + 1)) f_p f_n f_room f_phase (nI N) f_cursor f_hasTangent f_size f_pending f_factor f_work f_open f_loops f_steps (-1) f_nextItem f_nextCell f_top a_kinds a_args a_inputs a_weights a_tangents a_marks a_cell a_dcell a_seen a_val a_der a_start (upd a_counter ld (nI (ct + 1))) a_total) : wY_simulate_88 post kk jj (m + 1) (nI pc) (nI (ld + 1)) (nI t) f_p f_n f_room f_phase (nI N) f_cursor f_hasTangent f_size f_pending f_factor f_work f_open f_loops f_steps (-1) f_nextItem f_nextCell f_top a_kinds a_args a_inputs a_weights a_tangents a_marks a_cell a_dcell a_seen a_val a_der a_start a_counter a_total := by
  refine ry_hd1 ht hpc hN hk ha (by decide) (by decide) (br_f (by decide) (br_f (by decide) (br_f (by decide) (br_f (by decide) (?_)))))
  refine br_t (by decide) (br_t (by decide) (br_f (by decide) (br_t (by decide) (br_f (by decide) (br_f (by decide) ?_)))))
  refine br_f (nI_nle (by omega) (by omega)) ?_
  have e0 : nI (ld + 1) - 1 = nI ld := nI_pred ld
  rw [e0]
  refine And.intro (vp_in_nI hld (by decide)) ?_
  rw [nI_clamp (show ld < 2 ^ 31 by omega), hs]
  refine ry_partner hN pv hsk hsN (Or.inl ⟨rfl, hks.elim Or.inl (fun z => Or.inr (Or.inl z))⟩) (rs_skO (hks.elim Or.inl (fun z => Or.inr (Or.inl z)))) (fun j h1 h2 h3 h4 => ?_)
  have ej : j = pc := hjm j h1 h2 h3 (h4.elim id (fun z => by have := z.2; rcases hks with y | y <;> rw [y] at this <;> exact absurd this (by decide)))
  refine br_t (by rw [ej]) (And.intro (vp_in_nI hld (by decide)) (And.intro (vp_in_nI hld (by decide)) (nm_r (e' := upd a_counter ld (nI (ct + 1))) (by rw [hct, nI_1 ct]) (And.intro (vp_in_nI hld (by decide)) (And.intro (vp_in_nI hld (by decide)) ?_)))))
  rw [pk_us, hlim]
  exact br_t (nI_le hc (by omega)) (nm_r (pk_m1 ld) (nm_r (nI_1 t) K))
end
end
section
/-! the two sides' pictures of a configuration -/
def rc_X (c : rc_C) (u : SX) (post : SX → Prop) : Prop := match u with
  | (f_STORE_CELL, f_STORE_AT, f_OPERATOR, f_LOOP, f_LOOP_BY, f_IF, f_ELSE, f_END, f_ACT_ZERO, f_ACT_READ, f_ACT_WRITE, f_ACT_DROP, f_ACT_COMBINE, f_ACT_NEGATE, f_ACT_COPY, f_ACT_EXCHANGE, f_prime, f_cellCount, f_room, f_phase, f_itemCount, f_size, f_pending, f_factor, f_work, f_openCount, f_openLoops, f_depth, f_loopDepth, f_faultItem, f_actCount, f_stepCount, f_cursor, f_hasTangent, f_flowDepth, a_inputs, a_weights, a_itemKind, a_itemArg, a_itemJump, a_openItem, a_openElse, a_openFactor, a_cells, a_stack, a_loopCounter, a_loopLimit, a_actCode, a_actLeft, a_actRight, a_stepItem, a_stepCell, a_stepOld, a_stepNew, a_stepEnd, a_adjoints, a_tangents, a_flow) => match c with
    | (pc, cells, st, lp, AC, AL, AR, na, SI, SC, SO, SN, SE, ns) => ∀ S C L : rc_F, rl_A (fun x => x) S st → rl_A (fun x : Nat × Nat × Nat => nI x.2.1) C lp → rl_A (fun x : Nat × Nat × Nat => nI x.2.2) L lp → post (f_STORE_CELL, f_STORE_AT, f_OPERATOR, f_LOOP, f_LOOP_BY, f_IF, f_ELSE, f_END, f_ACT_ZERO, f_ACT_READ, f_ACT_WRITE, f_ACT_DROP, f_ACT_COMBINE, f_ACT_NEGATE, f_ACT_COPY, f_ACT_EXCHANGE, f_prime, f_cellCount, f_room, f_phase, f_itemCount, f_size, f_pending, f_factor, f_work, f_openCount, f_openLoops, nI st.length, nI lp.length, f_faultItem, nI na, nI ns, f_cursor, f_hasTangent, f_flowDepth, a_inputs, a_weights, a_itemKind, a_itemArg, a_itemJump, a_openItem, a_openElse, a_openFactor, cells, S, C, L, AC, AL, AR, SI, SC, SO, SN, SE, a_adjoints, a_tangents, a_flow)
def rc_XF (c : rc_C) (u : SX) (post : SX → Prop) : Prop := match u with
  | (f_STORE_CELL, f_STORE_AT, f_OPERATOR, f_LOOP, f_LOOP_BY, f_IF, f_ELSE, f_END, f_ACT_ZERO, f_ACT_READ, f_ACT_WRITE, f_ACT_DROP, f_ACT_COMBINE, f_ACT_NEGATE, f_ACT_COPY, f_ACT_EXCHANGE, f_prime, f_cellCount, f_room, f_phase, f_itemCount, f_size, f_pending, f_factor, f_work, f_openCount, f_openLoops, f_depth, f_loopDepth, f_faultItem, f_actCount, f_stepCount, f_cursor, f_hasTangent, f_flowDepth, a_inputs, a_weights, a_itemKind, a_itemArg, a_itemJump, a_openItem, a_openElse, a_openFactor, a_cells, a_stack, a_loopCounter, a_loopLimit, a_actCode, a_actLeft, a_actRight, a_stepItem, a_stepCell, a_stepOld, a_stepNew, a_stepEnd, a_adjoints, a_tangents, a_flow) => match c with
    | (pc, cells, st, lp, AC, AL, AR, na, SI, SC, SO, SN, SE, ns) => ∀ (dep : Int32) (S C L : rc_F), post (f_STORE_CELL, f_STORE_AT, f_OPERATOR, f_LOOP, f_LOOP_BY, f_IF, f_ELSE, f_END, f_ACT_ZERO, f_ACT_READ, f_ACT_WRITE, f_ACT_DROP, f_ACT_COMBINE, f_ACT_NEGATE, f_ACT_COPY, f_ACT_EXCHANGE, f_prime, f_cellCount, f_room, f_phase, f_itemCount, f_size, f_pending, f_factor, f_work, f_openCount, f_openLoops, dep, nI lp.length, f_faultItem, nI na, nI ns, f_cursor, f_hasTangent, f_flowDepth, a_inputs, a_weights, a_itemKind, a_itemArg, a_itemJump, a_openItem, a_openElse, a_openFactor, cells, S, C, L, AC, AL, AR, SI, SC, SO, SN, SE, a_adjoints, a_tangents, a_flow)
def rc_XW (q n N : Nat) (kd ar jm : rc_F) (c c' : rc_C) : Prop := ∀ (f_STORE_CELL f_STORE_AT f_OPERATOR f_LOOP f_LOOP_BY f_IF f_ELSE f_END f_ACT_ZERO f_ACT_READ f_ACT_WRITE f_ACT_DROP f_ACT_COMBINE f_ACT_NEGATE f_ACT_COPY f_ACT_EXCHANGE f_prime f_cellCount f_room f_phase f_itemCount f_size f_pending f_factor f_work f_openCount f_openLoops f_depth f_loopDepth f_faultItem f_actCount f_stepCount f_cursor f_hasTangent f_flowDepth : Int32) (a_inputs a_weights a_itemKind a_itemArg a_itemJump a_openItem a_openElse a_openFactor a_cells a_stack a_loopCounter a_loopLimit a_actCode a_actLeft a_actRight a_stepItem a_stepCell a_stepOld a_stepNew a_stepEnd a_adjoints a_tangents a_flow : Nat → Int32) (post : Int32 → SX → Prop), rc_X c' (f_STORE_CELL, f_STORE_AT, f_OPERATOR, f_LOOP, f_LOOP_BY, f_IF, f_ELSE, f_END, f_ACT_ZERO, f_ACT_READ, f_ACT_WRITE, f_ACT_DROP, f_ACT_COMBINE, f_ACT_NEGATE, f_ACT_COPY, f_ACT_EXCHANGE, nI (q + 1), nI n, f_room, f_phase, nI N, f_size, f_pending, f_factor, f_work, f_openCount, f_openLoops, f_depth, f_loopDepth, f_faultItem, f_actCount, f_stepCount, f_cursor, f_hasTangent, f_flowDepth, a_inputs, a_weights, kd, ar, jm, a_openItem, a_openElse, a_openFactor, a_cells, a_stack, a_loopCounter, a_loopLimit, a_actCode, a_actLeft, a_actRight, a_stepItem, a_stepCell, a_stepOld, a_stepNew, a_stepEnd, a_adjoints, a_tangents, a_flow) (post (nI c'.1)) → rc_X c (f_STORE_CELL, f_STORE_AT, f_OPERATOR, f_LOOP, f_LOOP_BY, f_IF, f_ELSE, f_END, f_ACT_ZERO, f_ACT_READ, f_ACT_WRITE, f_ACT_DROP, f_ACT_COMBINE, f_ACT_NEGATE, f_ACT_COPY, f_ACT_EXCHANGE, nI (q + 1), nI n, f_room, f_phase, nI N, f_size, f_pending, f_factor, f_work, f_openCount, f_openLoops, f_depth, f_loopDepth, f_faultItem, f_actCount, f_stepCount, f_cursor, f_hasTangent, f_flowDepth, a_inputs, a_weights, kd, ar, jm, a_openItem, a_openElse, a_openFactor, a_cells, a_stack, a_loopCounter, a_loopLimit, a_actCode, a_actLeft, a_actRight, a_stepItem, a_stepCell, a_stepOld, a_stepNew, a_stepEnd, a_adjoints, a_tangents, a_flow) (fun w => wpX_executeItem post w (nI c.1))
def rc_XD (q n N : Nat) (kd ar jm : rc_F) (c : rc_C) : Prop := ∀ (f_STORE_CELL f_STORE_AT f_OPERATOR f_LOOP f_LOOP_BY f_IF f_ELSE f_END f_ACT_ZERO f_ACT_READ f_ACT_WRITE f_ACT_DROP f_ACT_COMBINE f_ACT_NEGATE f_ACT_COPY f_ACT_EXCHANGE f_prime f_cellCount f_room f_phase f_itemCount f_size f_pending f_factor f_work f_openCount f_openLoops f_depth f_loopDepth f_faultItem f_actCount f_stepCount f_cursor f_hasTangent f_flowDepth : Int32) (a_inputs a_weights a_itemKind a_itemArg a_itemJump a_openItem a_openElse a_openFactor a_cells a_stack a_loopCounter a_loopLimit a_actCode a_actLeft a_actRight a_stepItem a_stepCell a_stepOld a_stepNew a_stepEnd a_adjoints a_tangents a_flow : Nat → Int32) (post : Int32 → SX → Prop), rc_XF c (f_STORE_CELL, f_STORE_AT, f_OPERATOR, f_LOOP, f_LOOP_BY, f_IF, f_ELSE, f_END, f_ACT_ZERO, f_ACT_READ, f_ACT_WRITE, f_ACT_DROP, f_ACT_COMBINE, f_ACT_NEGATE, f_ACT_COPY, f_ACT_EXCHANGE, nI (q + 1), nI n, f_room, f_phase, nI N, f_size, f_pending, f_factor, f_work, f_openCount, f_openLoops, f_depth, f_loopDepth, f_faultItem, f_actCount, f_stepCount, f_cursor, f_hasTangent, f_flowDepth, a_inputs, a_weights, kd, ar, jm, a_openItem, a_openElse, a_openFactor, a_cells, a_stack, a_loopCounter, a_loopLimit, a_actCode, a_actLeft, a_actRight, a_stepItem, a_stepCell, a_stepOld, a_stepNew, a_stepEnd, a_adjoints, a_tangents, a_flow) (post (-1)) → rc_X c (f_STORE_CELL, f_STORE_AT, f_OPERATOR, f_LOOP, f_LOOP_BY, f_IF, f_ELSE, f_END, f_ACT_ZERO, f_ACT_READ, f_ACT_WRITE, f_ACT_DROP, f_ACT_COMBINE, f_ACT_NEGATE, f_ACT_COPY, f_ACT_EXCHANGE, nI (q + 1), nI n, f_room, f_phase, nI N, f_size, f_pending, f_factor, f_work, f_openCount, f_openLoops, f_depth, f_loopDepth, f_faultItem, f_actCount, f_stepCount, f_cursor, f_hasTangent, f_flowDepth, a_inputs, a_weights, kd, ar, jm, a_openItem, a_openElse, a_openFactor, a_cells, a_stack, a_loopCounter, a_loopLimit, a_actCode, a_actLeft, a_actRight, a_stepItem, a_stepCell, a_stepOld, a_stepNew, a_stepEnd, a_adjoints, a_tangents, a_flow) (fun w => wpX_executeItem post w (nI c.1))
/-- what Y's k-th state is, if it is reached: the next item and cell, the cells seen, the derivatives -/
def rc_D (q n N : Nat) (inp : rc_F) (AC AL AR : rc_F) (na : Nat) (SI SC SN SE : rc_F) (ns : Nat) (kk : Int32) (j : Nat) (nit ncl : Int32) (dcell seen der : rc_F) : Prop :=
  ∀ k, kk = nI k → k ≤ 1024 → (k < ns → nit = SI k ∧ ncl = SC k) ∧ (ns ≤ k → nit = nI N ∧ ncl = nI n)
    ∧ (k ≤ ns → (∀ i, i < n → seen i = rc_A inp SC SN k i)
        ∧ rl_A (fun x => x) der (rt_fR (nI (q + 1)) AC AL AR (rc_tp SE k) (rt_e j, []) (na - rc_tp SE k)).2
        ∧ ∀ i, i < n → dcell i = (rt_fR (nI (q + 1)) AC AL AR (rc_tp SE k) (rt_e j, []) (na - rc_tp SE k)).1 i)
def rc_Y (q n N : Nat) (inp : rc_F) (c : rc_C) (kk : Int32) (j : Nat) (v : SY) (Q : SY → Prop) : Prop := match v with
  | (f_p, f_n, f_room, f_phase, f_items, f_cursor, f_hasTangent, f_size, f_pending, f_factor, f_work, f_open, f_loops, f_steps, f_faultItem, f_nextItem, f_nextCell, f_top, a_kinds, a_args, a_inputs, a_weights, a_tangents, a_marks, a_cell, a_dcell, a_seen, a_val, a_der, a_start, a_counter, a_total) => match c with
    | (pc, cells, st, lp, AC, AL, AR, na, SI, SC, SO, SN, SE, ns) => ∀ (nit ncl : Int32) (cell dcell seen val der start counter total : rc_F), (∀ i, i < n → cell i = cells i) → rl_A (fun x => x) val st
        → rl_A (fun x : Nat × Nat × Nat => nI x.1) start lp → rl_A (fun x : Nat × Nat × Nat => nI x.2.1) counter lp → rl_A (fun x : Nat × Nat × Nat => nI x.2.2) total lp
        → rc_D q n N inp AC AL AR na SI SC SN SE ns kk j nit ncl dcell seen der → Q (f_p, f_n, f_room, f_phase, f_items, f_cursor, f_hasTangent, f_size, f_pending, f_factor, f_work, f_open, f_loops, nI ns, (-1), nit, ncl, nI st.length, a_kinds, a_args, a_inputs, a_weights, a_tangents, a_marks, cell, dcell, seen, val, der, start, counter, total)
def rc_W (post : SY → Prop) (kk jj : Int32) (m : Nat) (x3 x4 x5 : Int32) (v : SY) : Prop := match v with
  | (f_p, f_n, f_room, f_phase, f_items, f_cursor, f_hasTangent, f_size, f_pending, f_factor, f_work, f_open, f_loops, f_steps, f_faultItem, f_nextItem, f_nextCell, f_top, a_kinds, a_args, a_inputs, a_weights, a_tangents, a_marks, a_cell, a_dcell, a_seen, a_val, a_der, a_start, a_counter, a_total) => wY_simulate_88 post kk jj m x3 x4 x5 f_p f_n f_room f_phase f_items f_cursor f_hasTangent f_size f_pending f_factor f_work f_open f_loops f_steps f_faultItem f_nextItem f_nextCell f_top a_kinds a_args a_inputs a_weights a_tangents a_marks a_cell a_dcell a_seen a_val a_der a_start a_counter a_total
def rc_fl (v : SY) (it : Int32) : SY := match v with
  | (f_p, f_n, f_room, f_phase, f_items, f_cursor, f_hasTangent, f_size, f_pending, f_factor, f_work, f_open, f_loops, f_steps, f_faultItem, f_nextItem, f_nextCell, f_top, a_kinds, a_args, a_inputs, a_weights, a_tangents, a_marks, a_cell, a_dcell, a_seen, a_val, a_der, a_start, a_counter, a_total) => (f_p, f_n, f_room, f_phase, f_items, f_cursor, f_hasTangent, f_size, f_pending, f_factor, f_work, f_open, f_loops, f_steps, it, f_nextItem, f_nextCell, f_top, a_kinds, a_args, a_inputs, a_weights, a_tangents, a_marks, a_cell, a_dcell, a_seen, a_val, a_der, a_start, a_counter, a_total)
def rc_YW (q n N : Nat) (kd ar inp : rc_F) (c c' : rc_C) : Prop := ∀ (f_p f_n f_room f_phase f_items f_cursor f_hasTangent f_size f_pending f_factor f_work f_open f_loops f_steps f_faultItem f_nextItem f_nextCell f_top : Int32) (a_kinds a_args a_inputs a_weights a_tangents a_marks a_cell a_dcell a_seen a_val a_der a_start a_counter a_total : Nat → Int32) (post : SY → Prop) (kk : Int32) (j m t : Nat), j < 8 → t < 1024 →
  rc_Y q n N inp c' kk j (nI (q + 1), nI n, f_room, f_phase, nI N, f_cursor, f_hasTangent, f_size, f_pending, f_factor, f_work, f_open, f_loops, f_steps, f_faultItem, f_nextItem, f_nextCell, f_top, kd, ar, a_inputs, a_weights, a_tangents, a_marks, a_cell, a_dcell, a_seen, a_val, a_der, a_start, a_counter, a_total) (rc_W post kk (nI j) m (nI c'.1) (nI c'.2.2.2.1.length) (nI (t + 1))) → rc_Y q n N inp c kk j (nI (q + 1), nI n, f_room, f_phase, nI N, f_cursor, f_hasTangent, f_size, f_pending, f_factor, f_work, f_open, f_loops, f_steps, f_faultItem, f_nextItem, f_nextCell, f_top, kd, ar, a_inputs, a_weights, a_tangents, a_marks, a_cell, a_dcell, a_seen, a_val, a_der, a_start, a_counter, a_total) (rc_W post kk (nI j) (m + 1) (nI c.1) (nI c.2.2.2.1.length) (nI t))
def rc_YD (q n N : Nat) (kd ar inp : rc_F) (c : rc_C) : Prop := ∀ (f_p f_n f_room f_phase f_items f_cursor f_hasTangent f_size f_pending f_factor f_work f_open f_loops f_steps f_faultItem f_nextItem f_nextCell f_top : Int32) (a_kinds a_args a_inputs a_weights a_tangents a_marks a_cell a_dcell a_seen a_val a_der a_start a_counter a_total : Nat → Int32) (post : SY → Prop) (kk : Int32) (j m t : Nat), j < 8 → t < 1024 →
  rc_Y q n N inp c kk j (nI (q + 1), nI n, f_room, f_phase, nI N, f_cursor, f_hasTangent, f_size, f_pending, f_factor, f_work, f_open, f_loops, f_steps, f_faultItem, f_nextItem, f_nextCell, f_top, kd, ar, a_inputs, a_weights, a_tangents, a_marks, a_cell, a_dcell, a_seen, a_val, a_der, a_start, a_counter, a_total) (fun v => post (rc_fl v (nI c.1))) → rc_Y q n N inp c kk j (nI (q + 1), nI n, f_room, f_phase, nI N, f_cursor, f_hasTangent, f_size, f_pending, f_factor, f_work, f_open, f_loops, f_steps, f_faultItem, f_nextItem, f_nextCell, f_top, kd, ar, a_inputs, a_weights, a_tangents, a_marks, a_cell, a_dcell, a_seen, a_val, a_der, a_start, a_counter, a_total) (rc_W post kk (nI j) (m + 2) (nI c.1) (nI c.2.2.2.1.length) (nI t))
/-- one round from c: a next configuration, or a fault -/
def rc_St (q n N : Nat) (kd ar jm inp : rc_F) (c : rc_C) : Prop :=
  (∃ c' : rc_C, rc_G q n N kd ar inp c' ∧ c'.2.2.2.2.2.2.2.1 ≤ c.2.2.2.2.2.2.2.1 + 1 ∧ rc_XW q n N kd ar jm c c' ∧ rc_YW q n N kd ar inp c c')
  ∨ (rc_XD q n N kd ar jm c ∧ rc_YD q n N kd ar inp c)
section
variable {q n N : Nat} {inp cells AC AL AR SI SC SO SN SE : rc_F} {d na ns : Nat} {kk : Int32} {j : Nat} {nit ncl : Int32} {dcell seen der : rc_F}
/-- an action that is no write -/
theorem rc_D_emit (hq : q < 32749) (h1q : 1 ≤ q) (hn : n ≤ 8) (h : rc_TI q n inp cells d AC AL AR na SC SO SN SE ns) (D : rc_D q n N inp AC AL AR na SI SC SN SE ns kk j nit ncl dcell seen der) {c l r : Int32} {dcell' der' : rc_F}
    (H : ∀ (T : rc_F) (S : List Int32), rt_Cf q n T → rt_Cl q S → S.length = d → rl_A (fun x => x) der S → (∀ i, i < n → dcell i = T i) → rl_A (fun x => x) der' (rt_fw (nI (q + 1)) c l r (T, S)).2 ∧ ∀ i, i < n → dcell' i = (rt_fw (nI (q + 1)) c l r (T, S)).1 i) :
    rc_D q n N inp (upd AC na c) (upd AL na l) (upd AR na r) (na + 1) SI SC SN SE ns kk j nit ncl dcell' seen der' := by
  intro k hk h1024
  obtain ⟨d1, d2, d3⟩ := D k hk h1024
  refine ⟨d1, d2, fun hks => ?_⟩
  obtain ⟨e1, e2, e3⟩ := d3 hks
  have t := h.2.2.2.2.2.1 k hks
  have c0 : rt_Cl q [] := fun x hx => absurd hx (List.not_mem_nil)
  have fi := rt_fR_inv hq hn h.1 (rt_e_C (n := n) (j := j) h1q) c0 t.2.symm (na - rc_tp SE k) (by omega)
  rw [show rc_tp SE k + (na - rc_tp SE k) = na by omega, h.2.1] at fi
  have eq : rt_fR (nI (q + 1)) (upd AC na c) (upd AL na l) (upd AR na r) (rc_tp SE k) (rt_e j, []) (na + 1 - rc_tp SE k) = rt_fw (nI (q + 1)) c l r (rt_fR (nI (q + 1)) AC AL AR (rc_tp SE k) (rt_e j, []) (na - rc_tp SE k)) := by
    rw [show na + 1 - rc_tp SE k = (na - rc_tp SE k) + 1 by omega]
    show rt_fw _ (upd AC na c (rc_tp SE k + (na - rc_tp SE k))) (upd AL na l (rc_tp SE k + (na - rc_tp SE k))) (upd AR na r (rc_tp SE k + (na - rc_tp SE k))) _ = _
    rw [show rc_tp SE k + (na - rc_tp SE k) = na by omega, pk_us, pk_us, pk_us, rt_fR_cg (na - rc_tp SE k) (fun t ht => ⟨pk_un (by omega), pk_un (by omega), pk_un (by omega)⟩)]
  rw [eq]
  have k2 := H _ _ fi.1 fi.2.1 fi.2.2 e2 e3
  exact ⟨e1, k2.1, k2.2⟩
/-- a step -/
theorem rc_D_step (hq : q < 32749) (h1q : 1 ≤ q) (hn : n ≤ 8) (h : rc_TI q n inp cells 1 AC AL AR na SC SO SN SE ns) (hna : na < 1024) (D : rc_D q n N inp AC AL AR na SI SC SN SE ns kk j nit ncl dcell seen der) {i : Nat} (hi : i < n) {v it : Int32}
    {cell : rc_F} (hcell : ∀ t, t < n → cell t = cells t) {nit' ncl' : Int32} {dcell' seen' : rc_F}
    (h1 : nI ns = kk → nit' = it ∧ ncl' = nI i) (h2 : ¬ nI ns = kk → nit' = nit ∧ ncl' = ncl)
    (h3 : nI (ns + 1) = kk → (∀ t, t < n → seen' t = upd cell i v t) ∧ (∀ t, t < n → dcell' t = rt_e j t))
    (h4 : ¬ nI (ns + 1) = kk → seen' = seen ∧ dcell' = upd dcell i (der 0)) :
    rc_D q n N inp (upd AC na 2) (upd AL na (nI i)) (upd AR na 0) (na + 1) (upd SI ns it) (upd SC ns (nI i)) (upd SN ns v) (upd SE ns (nI (na + 1))) (ns + 1) kk j nit' ncl' dcell' seen' der := by
  intro k hk h1024
  obtain ⟨d1, d2, d3⟩ := D k hk h1024
  have w : ∀ {f : rc_F} {x : Int32} {t : Nat}, t < ns → upd f ns x t = f t := fun ht => pk_un (by omega)
  have cA : ∀ s, s ≤ ns → rc_A inp (upd SC ns (nI i)) (upd SN ns v) s = rc_A inp SC SN s := fun s hs => rc_A_cg s (fun t ht => ⟨w (by omega), w (by omega)⟩)
  have tp : ∀ k, k ≤ ns → rc_tp (upd SE ns (nI (na + 1))) k = rc_tp SE k := fun k hk => rc_tp_cg (fun t ht => w (by omega))
  have nsl : ns ≤ 1024 := by have := h.2.2.1; omega
  have ek : ∀ t, t ≤ 1025 → (nI t = kk ↔ t = k) := by
    intro t ht
    rw [hk, nI_eq (by omega) (by omega)]
  refine ⟨fun hks => ?_, fun hks => ?_, fun hks => ?_⟩
  · by_cases e : k = ns
    · have := h1 ((ek ns (by omega)).mpr e.symm)
      rw [e, pk_us, pk_us]; exact this
    · have := h2 (fun z => e ((ek ns (by omega)).mp z).symm)
      rw [w (by omega), w (by omega), this.1, this.2]; exact d1 (by omega)
  · have := h2 (fun z => by have := (ek ns (by omega)).mp z; omega)
    rw [this.1, this.2]; exact d2 (by omega)
  · by_cases e : k = ns + 1
    · obtain ⟨g1, g2⟩ := h3 ((ek (ns + 1) (by omega)).mpr e.symm)
      have tpn : rc_tp (upd SE ns (nI (na + 1))) k = na + 1 := by
        rw [e]; show (upd SE ns (nI (na + 1)) ns).toNatClampNeg = na + 1
        rw [pk_us, nI_clamp (by omega)]
      rw [tpn, Nat.sub_self]
      refine ⟨fun t ht => ?_, True.intro, g2⟩
      rw [g1 t ht, e]
      show _ = upd (rc_A inp _ _ ns) (upd SC ns (nI i) ns).toNatClampNeg (upd SN ns v ns) t
      rw [pk_us, pk_us, nI_clamp (by omega), cA ns (Nat.le_refl _)]
      by_cases z : t = i
      · rw [z, pk_us, pk_us]
      · rw [pk_un z, pk_un z, hcell t ht]; exact h.2.2.2.2.2.2.2.2.2 t (by omega)
    · have hks' : k ≤ ns := by omega
      obtain ⟨g1, g2⟩ := h4 (fun z => e ((ek (ns + 1) (by omega)).mp z).symm)
      obtain ⟨e1, e2, e3⟩ := d3 hks'
      have t := h.2.2.2.2.2.1 k hks'
      rw [g1, g2, cA k hks', tp k hks']
      have c0 : rt_Cl q [] := fun x hx => absurd hx (List.not_mem_nil)
      have fi := rt_fR_inv hq hn h.1 (rt_e_C (n := n) (j := j) h1q) c0 t.2.symm (na - rc_tp SE k) (by omega)
      rw [show rc_tp SE k + (na - rc_tp SE k) = na by omega, h.2.1] at fi
      have eq : rt_fR (nI (q + 1)) (upd AC na 2) (upd AL na (nI i)) (upd AR na 0) (rc_tp SE k) (rt_e j, []) (na + 1 - rc_tp SE k) = rt_fw (nI (q + 1)) 2 (nI i) 0 (rt_fR (nI (q + 1)) AC AL AR (rc_tp SE k) (rt_e j, []) (na - rc_tp SE k)) := by
        rw [show na + 1 - rc_tp SE k = (na - rc_tp SE k) + 1 by omega]
        show rt_fw _ (upd AC na 2 (rc_tp SE k + (na - rc_tp SE k))) (upd AL na (nI i) (rc_tp SE k + (na - rc_tp SE k))) (upd AR na 0 (rc_tp SE k + (na - rc_tp SE k))) _ = _
        rw [show rc_tp SE k + (na - rc_tp SE k) = na by omega, pk_us, pk_us, pk_us, rt_fR_cg (na - rc_tp SE k) (fun t ht => ⟨pk_un (by omega), pk_un (by omega), pk_un (by omega)⟩)]
      rw [eq, rt_fw2, nI_clamp (by omega)]
      generalize rt_fR (nI (q + 1)) AC AL AR (rc_tp SE k) (rt_e j, []) (na - rc_tp SE k) = F at e2 e3 fi
      obtain ⟨T, S⟩ := F
      match S, fi.2.2, e2 with
      | [y], _, e2 =>
        refine ⟨e1, True.intro, fun t ht => ?_⟩
        have y0 : der 0 = y := e2.1
        rw [y0]
        show upd dcell i y t = upd T i y t
        by_cases z : t = i
        · rw [z, pk_us, pk_us]
        · rw [pk_un z, pk_un z]; exact e3 t ht
      | [], hl, _ => exact absurd hl (by simp)
      | _ :: _ :: _, hl, _ => exact absurd hl (by simp)
end
end
section
/-! one round of a run: values and operators -/
theorem rl_push' {α : Type} {f : α → Int32} {arr : Nat → Int32} {x : α} {l : List α} {k : Nat} {v : Int32} (a : rl_A f arr l) (hk : l.length = k) (e : v = f x) : rl_A f (upd arr k v) (x :: l) := by
  subst hk; subst e; exact rl_push a
theorem rl_get {α : Type} {f : α → Int32} {arr : Nat → Int32} : ∀ {l : List α} {k : Nat}, rl_A f arr l → (h : k < l.length) → ∃ x, x ∈ l ∧ arr (l.length - 1 - k) = f x ∧ l[k]'h = x
  | [], k, _, h => absurd h (Nat.not_lt_zero k)
  | x :: l, 0, a, _ => ⟨x, List.mem_cons_self .., a.1, rfl⟩
  | x :: l, k + 1, a, h => by
    obtain ⟨y, h1, h2, h3⟩ := rl_get (k := k) a.2 (by rw [List.length_cons] at h; omega)
    refine ⟨y, List.mem_cons_of_mem _ h1, ?_, h3⟩
    rw [← h2, List.length_cons]
    exact congrArg arr (by omega)
section
variable {q n N : Nat} {kd ar jm inp cells AC AL AR SI SC SO SN SE : rc_F} {pc na ns : Nat} {st : List Int32} {lp : List (Nat × Nat × Nat)}
theorem rk_len (pv : rs_PV q n kd ar N) (hpc : pc < N) (g5 : lp.map (fun x => x.1) = rs_lp kd (rs_sk kd pc)) : lp.length ≤ (rs_sk kd pc).length := by
  have h := congrArg List.length g5
  rw [List.length_map] at h
  have := rs_lpl (kd := kd) (rs_sk kd pc)
  omega
theorem rk_lpN (hk : kd pc < 7) (h7 : kd pc ≠ 7) (h8 : kd pc ≠ 8) (h9 : kd pc ≠ 9) (h10 : kd pc ≠ 10) (h11 : kd pc ≠ 11) (g5 : lp.map (fun x => x.1) = rs_lp kd (rs_sk kd pc)) : lp.map (fun x => x.1) = rs_lp kd (rs_sk kd (pc + 1)) := by
  rw [rs_skN h7 h8 h9 h10 h11]; exact g5
theorem rk_lpk {k : Int32} (hk : kd pc = k) (h : k < 7) (h7 : k ≠ 7) (h8 : k ≠ 8) (h9 : k ≠ 9) (h10 : k ≠ 10) (h11 : k ≠ 11) (g5 : lp.map (fun x => x.1) = rs_lp kd (rs_sk kd pc)) : lp.map (fun x => x.1) = rs_lp kd (rs_sk kd (pc + 1)) := by
  subst hk; exact rk_lpN h h7 h8 h9 h10 h11 g5
/-- a value is laid onto the stack -/
theorem rk_Gp {k v c l r : Int32} (hn : n ≤ 8) (hpc : pc < N) (hna : na < 1024) (G : rc_G q n N kd ar inp (pc, cells, st, lp, AC, AL, AR, na, SI, SC, SO, SN, SE, ns)) (hk : kd pc = k) (h : k < 7) (h7 : k ≠ 7) (h8 : k ≠ 8) (h9 : k ≠ 9) (h10 : k ≠ 10) (h11 : k ≠ 11) (hp1 : rs_p1 k (ar pc) st.length = st.length + 1)
    (hv : ra_Cn q v) (ok : rt_ok q n c l r st.length) (h2 : c ≠ 2) (hpo : st.length + 1 = st.length - rt_po c + rt_pu c) : rc_G q n N kd ar inp (pc + 1, cells, v :: st, lp, upd AC na c, upd AL na l, upd AR na r, na + 1, SI, SC, SO, SN, SE, ns) := by
  obtain ⟨g1, g2, g3, g4, g5, g6, g7⟩ := G
  refine ⟨hpc, g2, rt_Cl_cons hv g3, ?_, rk_lpk hk h h7 h8 h9 h10 h11 g5, g6, rc_emit g7 hna ok h2 hpo⟩
  show st.length + 1 = rs_p1 (kd pc) (ar pc) (rs_pd kd ar pc)
  rw [hk, ← g4, hp1]
/-- an operator -/
theorem rk_Go {st' : List Int32} {c l r : Int32} (hn : n ≤ 8) (hpc : pc < N) (hna : na < 1024) (G : rc_G q n N kd ar inp (pc, cells, st, lp, AC, AL, AR, na, SI, SC, SO, SN, SE, ns)) (hk : kd pc = 6) (hp1 : rs_p1 6 (ar pc) st.length = st'.length)
    (hv : rt_Cl q st') (ok : rt_ok q n c l r st.length) (h2 : c ≠ 2) (hpo : st'.length = st.length - rt_po c + rt_pu c) : rc_G q n N kd ar inp (pc + 1, cells, st', lp, upd AC na c, upd AL na l, upd AR na r, na + 1, SI, SC, SO, SN, SE, ns) := by
  obtain ⟨g1, g2, g3, g4, g5, g6, g7⟩ := G
  refine ⟨hpc, g2, hv, ?_, rk_lpk hk (by decide) (by decide) (by decide) (by decide) (by decide) (by decide) g5, g6, rc_emit g7 hna ok h2 hpo⟩
  show st'.length = rs_p1 (kd pc) (ar pc) (rs_pd kd ar pc)
  rw [hk, ← g4, hp1]
theorem rk_0 (hp : ra_pr q) (hn0 : 0 < n) (hn : n ≤ 8) (hN : N ≤ 128) (hpc : pc < N) (hna : na < 1024) (G : rc_G q n N kd ar inp (pc, cells, st, lp, AC, AL, AR, na, SI, SC, SO, SN, SE, ns)) (hk : kd pc = 0) (hd : st.length < 8) (ha : ra_Cn q (ar pc)) : rc_St q n N kd ar jm inp (pc, cells, st, lp, AC, AL, AR, na, SI, SC, SO, SN, SE, ns) := by
  have G0 := G
  obtain ⟨g1, g2, g3, g4, g5, g6, g7⟩ := G
  have hq := (ra_pr_lt hp).1
  have h1q : 1 ≤ q := by have := (ra_pr_lt hp).2; omega
  refine Or.inl ⟨(pc + 1, cells, ar pc :: st, lp, upd AC na 0, upd AL na 0, upd AR na 0, na + 1, SI, SC, SO, SN, SE, ns), rk_Gp hn hpc hna G0 hk (by decide) (by decide) (by decide) (by decide) (by decide) (by decide) rfl ha ⟨Or.inl ⟨rfl, hd⟩, by omega⟩ (by decide) rfl, Nat.le_refl _, ?_, ?_⟩
  · intro f_STORE_CELL f_STORE_AT f_OPERATOR f_LOOP f_LOOP_BY f_IF f_ELSE f_END f_ACT_ZERO f_ACT_READ f_ACT_WRITE f_ACT_DROP f_ACT_COMBINE f_ACT_NEGATE f_ACT_COPY f_ACT_EXCHANGE f_prime f_cellCount f_room f_phase f_itemCount f_size f_pending f_factor f_work f_openCount f_openLoops f_depth f_loopDepth f_faultItem f_actCount f_stepCount f_cursor f_hasTangent f_flowDepth a_inputs a_weights a_itemKind a_itemArg a_itemJump a_openItem a_openElse a_openFactor a_cells a_stack a_loopCounter a_loopLimit a_actCode a_actLeft a_actRight a_stepItem a_stepCell a_stepOld a_stepNew a_stepEnd a_adjoints a_tangents a_flow post K S C L hS hC hL
    exact rx_e0 (by omega) hk rfl hd hna (K (upd S st.length (ar pc)) C L (rl_push hS) hC hL)
  · intro f_p f_n f_room f_phase f_items f_cursor f_hasTangent f_size f_pending f_factor f_work f_open f_loops f_steps f_faultItem f_nextItem f_nextCell f_top a_kinds a_args a_inputs a_weights a_tangents a_marks a_cell a_dcell a_seen a_val a_der a_start a_counter a_total post kk j m t hj ht K nit ncl cell dcell seen val der start counter total h1 h2 h3 h4 h5 D
    refine ry_k0 ht hpc hN hk rfl hd (K nit ncl cell dcell seen (upd val st.length (ar pc)) (upd der st.length 0) start counter total h1 (rl_push h2) h3 h4 h5 (rc_D_emit hq h1q hn g7 D (fun T Q cT cQ hl hr he => ⟨rl_push' hr hl rfl, he⟩)))
theorem rk_rd {i : Nat} {k : Int32} (hp : ra_pr q) (hn0 : 0 < n) (hn : n ≤ 8) (hN : N ≤ 128) (hpc : pc < N) (hna : na < 1024) (G : rc_G q n N kd ar inp (pc, cells, st, lp, AC, AL, AR, na, SI, SC, SO, SN, SE, ns)) (hk : kd pc = k) (hk6 : k < 7 ∧ k ≠ 7 ∧ k ≠ 8 ∧ k ≠ 9 ∧ k ≠ 10 ∧ k ≠ 11) (hp1 : rs_p1 k (ar pc) st.length = st.length + 1) (hd : st.length < 8) (hi : i < n)
    (HX : ∀ (f_STORE_CELL f_STORE_AT f_OPERATOR f_LOOP f_LOOP_BY f_IF f_ELSE f_END f_ACT_ZERO f_ACT_READ f_ACT_WRITE f_ACT_DROP f_ACT_COMBINE f_ACT_NEGATE f_ACT_COPY f_ACT_EXCHANGE f_prime f_cellCount f_room f_phase f_itemCount f_size f_pending f_factor f_work f_openCount f_openLoops f_depth f_loopDepth f_faultItem f_actCount f_stepCount f_cursor f_hasTangent f_flowDepth : Int32) (a_inputs a_weights a_itemKind a_itemArg a_itemJump a_openItem a_openElse a_openFactor a_cells a_stack a_loopCounter a_loopLimit a_actCode a_actLeft a_actRight a_stepItem a_stepCell a_stepOld a_stepNew a_stepEnd a_adjoints a_tangents a_flow : Nat → Int32) (post : Int32 → SX → Prop), post (nI (pc + 1)) (f_STORE_CELL, f_STORE_AT, f_OPERATOR, f_LOOP, f_LOOP_BY, f_IF, f_ELSE, f_END, f_ACT_ZERO, f_ACT_READ, f_ACT_WRITE, f_ACT_DROP, f_ACT_COMBINE, f_ACT_NEGATE, f_ACT_COPY, f_ACT_EXCHANGE, f_prime, nI n, f_room, f_phase, f_itemCount, f_size, f_pending, f_factor, f_work, f_openCount, f_openLoops, nI (st.length + 1), f_loopDepth, f_faultItem, nI (na + 1), f_stepCount, f_cursor, f_hasTangent, f_flowDepth, a_inputs, a_weights, kd, ar, a_itemJump, a_openItem, a_openElse, a_openFactor, cells, upd a_stack st.length (cells i), a_loopCounter, a_loopLimit, upd a_actCode na 1, upd a_actLeft na (nI i), upd a_actRight na 0, a_stepItem, a_stepCell, a_stepOld, a_stepNew, a_stepEnd, a_adjoints, a_tangents, a_flow) → wpX_executeItem post (f_STORE_CELL, f_STORE_AT, f_OPERATOR, f_LOOP, f_LOOP_BY, f_IF, f_ELSE, f_END, f_ACT_ZERO, f_ACT_READ, f_ACT_WRITE, f_ACT_DROP, f_ACT_COMBINE, f_ACT_NEGATE, f_ACT_COPY, f_ACT_EXCHANGE, f_prime, nI n, f_room, f_phase, f_itemCount, f_size, f_pending, f_factor, f_work, f_openCount, f_openLoops, nI st.length, f_loopDepth, f_faultItem, nI na, f_stepCount, f_cursor, f_hasTangent, f_flowDepth, a_inputs, a_weights, kd, ar, a_itemJump, a_openItem, a_openElse, a_openFactor, cells, a_stack, a_loopCounter, a_loopLimit, a_actCode, a_actLeft, a_actRight, a_stepItem, a_stepCell, a_stepOld, a_stepNew, a_stepEnd, a_adjoints, a_tangents, a_flow) (nI pc))
    (HY : ∀ (f_p f_n f_room f_phase f_items f_cursor f_hasTangent f_size f_pending f_factor f_work f_open f_loops f_steps f_faultItem f_nextItem f_nextCell f_top : Int32) (a_kinds a_args a_inputs a_weights a_tangents a_marks a_cell a_dcell a_seen a_val a_der a_start a_counter a_total : Nat → Int32) (post : SY → Prop) (kk jj x4 : Int32) (m t : Nat), t < 1024 → (∀ t, t < n → a_cell t = cells t) → wY_simulate_88 post kk jj m (nI (pc + 1)) x4 (nI (t + 1)) f_p (nI n) f_room f_phase (nI N) f_cursor f_hasTangent f_size f_pending f_factor f_work f_open f_loops f_steps (-1) f_nextItem f_nextCell (nI (st.length + 1)) kd ar a_inputs a_weights a_tangents a_marks a_cell a_dcell a_seen (upd a_val st.length (a_cell i)) (upd a_der st.length (a_dcell i)) a_start a_counter a_total → wY_simulate_88 post kk jj (m + 1) (nI pc) x4 (nI t) f_p (nI n) f_room f_phase (nI N) f_cursor f_hasTangent f_size f_pending f_factor f_work f_open f_loops f_steps (-1) f_nextItem f_nextCell (nI st.length) kd ar a_inputs a_weights a_tangents a_marks a_cell a_dcell a_seen a_val a_der a_start a_counter a_total) : rc_St q n N kd ar jm inp (pc, cells, st, lp, AC, AL, AR, na, SI, SC, SO, SN, SE, ns) := by
  have G0 := G
  obtain ⟨g1, g2, g3, g4, g5, g6, g7⟩ := G
  have hq := (ra_pr_lt hp).1
  have h1q : 1 ≤ q := by have := (ra_pr_lt hp).2; omega
  refine Or.inl ⟨(pc + 1, cells, cells i :: st, lp, upd AC na 1, upd AL na (nI i), upd AR na 0, na + 1, SI, SC, SO, SN, SE, ns), rk_Gp hn hpc hna G0 hk hk6.1 hk6.2.1 hk6.2.2.1 hk6.2.2.2.1 hk6.2.2.2.2.1 hk6.2.2.2.2.2 hp1 (g2 i hi) ⟨Or.inr (Or.inl ⟨rfl, hd, i, hi, rfl⟩), by omega⟩ (by decide) rfl, Nat.le_refl _, ?_, ?_⟩
  · intro f_STORE_CELL f_STORE_AT f_OPERATOR f_LOOP f_LOOP_BY f_IF f_ELSE f_END f_ACT_ZERO f_ACT_READ f_ACT_WRITE f_ACT_DROP f_ACT_COMBINE f_ACT_NEGATE f_ACT_COPY f_ACT_EXCHANGE f_prime f_cellCount f_room f_phase f_itemCount f_size f_pending f_factor f_work f_openCount f_openLoops f_depth f_loopDepth f_faultItem f_actCount f_stepCount f_cursor f_hasTangent f_flowDepth a_inputs a_weights a_itemKind a_itemArg a_itemJump a_openItem a_openElse a_openFactor a_cells a_stack a_loopCounter a_loopLimit a_actCode a_actLeft a_actRight a_stepItem a_stepCell a_stepOld a_stepNew a_stepEnd a_adjoints a_tangents a_flow post K S C L hS hC hL
    exact HX f_STORE_CELL f_STORE_AT f_OPERATOR f_LOOP f_LOOP_BY f_IF f_ELSE f_END f_ACT_ZERO f_ACT_READ f_ACT_WRITE f_ACT_DROP f_ACT_COMBINE f_ACT_NEGATE f_ACT_COPY f_ACT_EXCHANGE (nI (q + 1)) f_cellCount f_room f_phase (nI N) f_size f_pending f_factor f_work f_openCount f_openLoops f_depth (nI lp.length) f_faultItem f_actCount (nI ns) f_cursor f_hasTangent f_flowDepth a_inputs a_weights a_itemKind a_itemArg jm a_openItem a_openElse a_openFactor a_cells S C L AC AL AR SI SC SO SN SE a_adjoints a_tangents a_flow post (K (upd S st.length (cells i)) C L (rl_push hS) hC hL)
  · intro f_p f_n f_room f_phase f_items f_cursor f_hasTangent f_size f_pending f_factor f_work f_open f_loops f_steps f_faultItem f_nextItem f_nextCell f_top a_kinds a_args a_inputs a_weights a_tangents a_marks a_cell a_dcell a_seen a_val a_der a_start a_counter a_total post kk j m t hj ht K nit ncl cell dcell seen val der start counter total h1 h2 h3 h4 h5 D
    refine HY (nI (q + 1)) f_n f_room f_phase f_items f_cursor f_hasTangent f_size f_pending f_factor f_work f_open f_loops (nI ns) f_faultItem nit ncl (nI st.length) a_kinds a_args a_inputs a_weights a_tangents a_marks cell dcell seen val der start counter total post kk (nI j) _ m t ht h1 (K nit ncl cell dcell seen (upd val st.length (cell i)) (upd der st.length (dcell i)) start counter total h1 (rl_push' h2 rfl (h1 i hi)) h3 h4 h5 (rc_D_emit hq h1q hn g7 D (fun T Q cT cQ hl hr he => ⟨?_, he⟩)))
    rw [rt_fw1, nI_clamp (by omega)]
    exact rl_push' hr hl (he i hi)
theorem rk_1 {i : Nat} (hp : ra_pr q) (hn0 : 0 < n) (hn : n ≤ 8) (hN : N ≤ 128) (hpc : pc < N) (hna : na < 1024) (G : rc_G q n N kd ar inp (pc, cells, st, lp, AC, AL, AR, na, SI, SC, SO, SN, SE, ns)) (hk : kd pc = 1) (hd : st.length < 8) (hi : i < n) (ha : ar pc = nI i) : rc_St q n N kd ar jm inp (pc, cells, st, lp, AC, AL, AR, na, SI, SC, SO, SN, SE, ns) :=
  rk_rd hp hn0 hn hN hpc hna G hk (by decide) rfl hd hi
    (fun f_STORE_CELL f_STORE_AT f_OPERATOR f_LOOP f_LOOP_BY f_IF f_ELSE f_END f_ACT_ZERO f_ACT_READ f_ACT_WRITE f_ACT_DROP f_ACT_COMBINE f_ACT_NEGATE f_ACT_COPY f_ACT_EXCHANGE f_prime f_cellCount f_room f_phase f_itemCount f_size f_pending f_factor f_work f_openCount f_openLoops f_depth f_loopDepth f_faultItem f_actCount f_stepCount f_cursor f_hasTangent f_flowDepth a_inputs a_weights a_itemKind a_itemArg a_itemJump a_openItem a_openElse a_openFactor a_cells a_stack a_loopCounter a_loopLimit a_actCode a_actLeft a_actRight a_stepItem a_stepCell a_stepOld a_stepNew a_stepEnd a_adjoints a_tangents a_flow post K => rx_e1 (by omega) hk ha (by omega) hd hna K)
    (fun f_p f_n f_room f_phase f_items f_cursor f_hasTangent f_size f_pending f_factor f_work f_open f_loops f_steps f_faultItem f_nextItem f_nextCell f_top a_kinds a_args a_inputs a_weights a_tangents a_marks a_cell a_dcell a_seen a_val a_der a_start a_counter a_total post kk jj x4 m t ht _ K => ry_k1 ht hpc hN hk ha (by omega) hd K)
theorem rk_2 {i : Nat} (hp : ra_pr q) (hn0 : 0 < n) (hn : n ≤ 8) (hN : N ≤ 128) (hpc : pc < N) (hna : na < 1024) (G : rc_G q n N kd ar inp (pc, cells, st, lp, AC, AL, AR, na, SI, SC, SO, SN, SE, ns)) (hk : kd pc = 2) (hd : st.length < 8) (hi : i < n) (ha : ar pc = nI i) : rc_St q n N kd ar jm inp (pc, cells, st, lp, AC, AL, AR, na, SI, SC, SO, SN, SE, ns) := by
  have hq := (ra_pr_lt hp).1
  obtain ⟨v, hv, ev⟩ := ra_Cn_get (G.2.1 i hi) hq
  exact rk_rd (i := v % n) hp hn0 hn hN hpc hna G hk (by decide) rfl hd (Nat.mod_lt _ hn0)
    (fun f_STORE_CELL f_STORE_AT f_OPERATOR f_LOOP f_LOOP_BY f_IF f_ELSE f_END f_ACT_ZERO f_ACT_READ f_ACT_WRITE f_ACT_DROP f_ACT_COMBINE f_ACT_NEGATE f_ACT_COPY f_ACT_EXCHANGE f_prime f_cellCount f_room f_phase f_itemCount f_size f_pending f_factor f_work f_openCount f_openLoops f_depth f_loopDepth f_faultItem f_actCount f_stepCount f_cursor f_hasTangent f_flowDepth a_inputs a_weights a_itemKind a_itemArg a_itemJump a_openItem a_openElse a_openFactor a_cells a_stack a_loopCounter a_loopLimit a_actCode a_actLeft a_actRight a_stepItem a_stepCell a_stepOld a_stepNew a_stepEnd a_adjoints a_tangents a_flow post K => rx_e2 (by omega) hk ha (by omega) hn0 hn (by omega) ev hd hna K)
    (fun f_p f_n f_room f_phase f_items f_cursor f_hasTangent f_size f_pending f_factor f_work f_open f_loops f_steps f_faultItem f_nextItem f_nextCell f_top a_kinds a_args a_inputs a_weights a_tangents a_marks a_cell a_dcell a_seen a_val a_der a_start a_counter a_total post kk jj x4 m t ht h1 K => ry_k2 ht hpc hN hk ha (by omega) hn0 hn (by omega) ((h1 i hi).trans ev) hd K)
theorem rk_3 {lv : Nat} (hp : ra_pr q) (hn0 : 0 < n) (hn : n ≤ 8) (hN : N ≤ 128) (hpc : pc < N) (hna : na < 1024) (pv : rs_PV q n kd ar N) (G : rc_G q n N kd ar inp (pc, cells, st, lp, AC, AL, AR, na, SI, SC, SO, SN, SE, ns)) (hk : kd pc = 3) (hd : st.length < 8) (hl : lv < (rs_lp kd (rs_sk kd pc)).length) (ha : ar pc = nI lv) : rc_St q n N kd ar jm inp (pc, cells, st, lp, AC, AL, AR, na, SI, SC, SO, SN, SE, ns) := by
  have G0 := G
  obtain ⟨g1, g2, g3, g4, g5, g6, g7⟩ := G
  have hq := (ra_pr_lt hp).1
  have h1q : 1 ≤ q := by have := (ra_pr_lt hp).2; omega
  have hll : lv < lp.length := by rw [← g5, List.length_map] at hl; exact hl
  have h6 : lp.length ≤ 6 := Nat.le_trans (rk_len pv hpc g5) (rs_len pc (fun t ht => pv t (by omega)))
  have hm := List.getElem_mem hll
  have h16 := g6 _ hm
  have er : ∀ x : Nat, x < 16 → nI x - nI x / nI (q + 1) * nI (q + 1) = nI (x % (q + 1)) := fun x hx => pk_rem (by omega) (by omega) (by omega)
  refine Or.inl ⟨(pc + 1, cells, nI ((lp[lv]'hll).2.1 % (q + 1)) :: st, lp, upd AC na 0, upd AL na 0, upd AR na 0, na + 1, SI, SC, SO, SN, SE, ns), rk_Gp hn hpc hna G0 hk (by decide) (by decide) (by decide) (by decide) (by decide) (by decide) rfl (ra_Cn_nI hq (Nat.mod_lt _ (by omega))) ⟨Or.inl ⟨rfl, hd⟩, by omega⟩ (by decide) rfl, Nat.le_refl _, ?_, ?_⟩
  · intro f_STORE_CELL f_STORE_AT f_OPERATOR f_LOOP f_LOOP_BY f_IF f_ELSE f_END f_ACT_ZERO f_ACT_READ f_ACT_WRITE f_ACT_DROP f_ACT_COMBINE f_ACT_NEGATE f_ACT_COPY f_ACT_EXCHANGE f_prime f_cellCount f_room f_phase f_itemCount f_size f_pending f_factor f_work f_openCount f_openLoops f_depth f_loopDepth f_faultItem f_actCount f_stepCount f_cursor f_hasTangent f_flowDepth a_inputs a_weights a_itemKind a_itemArg a_itemJump a_openItem a_openElse a_openFactor a_cells a_stack a_loopCounter a_loopLimit a_actCode a_actLeft a_actRight a_stepItem a_stepCell a_stepOld a_stepNew a_stepEnd a_adjoints a_tangents a_flow post K S C L hS hC hL
    obtain ⟨x, _, e1, e2⟩ := rl_get hC hll
    refine rx_e3 (by omega) hk ha hll h6 hq hd hna (K (upd S st.length (C (lp.length - 1 - lv) - C (lp.length - 1 - lv) / nI (q + 1) * nI (q + 1))) C L (rl_push' hS rfl ?_) hC hL)
    rw [e1, e2]; rw [e2] at h16; exact er _ (by omega)
  · intro f_p f_n f_room f_phase f_items f_cursor f_hasTangent f_size f_pending f_factor f_work f_open f_loops f_steps f_faultItem f_nextItem f_nextCell f_top a_kinds a_args a_inputs a_weights a_tangents a_marks a_cell a_dcell a_seen a_val a_der a_start a_counter a_total post kk j m t hj ht K nit ncl cell dcell seen val der start counter total h1 h2 h3 h4 h5 D
    obtain ⟨x, _, e1, e2⟩ := rl_get h4 hll
    refine ry_k3 (x4 := 0) ht hpc hN hk ha hll h6 hq hd (K nit ncl cell dcell seen (upd val st.length (counter (lp.length - 1 - lv) - counter (lp.length - 1 - lv) / nI (q + 1) * nI (q + 1))) (upd der st.length 0) start counter total h1 (rl_push' h2 rfl ?_) h3 h4 h5 (rc_D_emit hq h1q hn g7 D (fun T Q cT cQ hl hr he => ⟨rl_push' hr hl rfl, he⟩)))
    rw [e1, e2]; rw [e2] at h16; exact er _ (by omega)
theorem rk_wr {i : Nat} {k v x7 : Int32} (hp : ra_pr q) (hn0 : 0 < n) (hn : n ≤ 8) (hN : N ≤ 128) (hpc : pc < N) (hna : na < 1024) (G : rc_G q n N kd ar inp (pc, cells, [v], lp, AC, AL, AR, na, SI, SC, SO, SN, SE, ns)) (hk : kd pc = k) (h45 : k = 4 ∨ k = 5) (hi : i < n)
    (HX : ∀ (f_STORE_CELL f_STORE_AT f_OPERATOR f_LOOP f_LOOP_BY f_IF f_ELSE f_END f_ACT_ZERO f_ACT_READ f_ACT_WRITE f_ACT_DROP f_ACT_COMBINE f_ACT_NEGATE f_ACT_COPY f_ACT_EXCHANGE f_prime f_cellCount f_room f_phase f_itemCount f_size f_pending f_factor f_work f_openCount f_openLoops f_depth f_loopDepth f_faultItem f_actCount f_stepCount f_cursor f_hasTangent f_flowDepth : Int32) (a_inputs a_weights a_itemKind a_itemArg a_itemJump a_openItem a_openElse a_openFactor a_cells a_stack a_loopCounter a_loopLimit a_actCode a_actLeft a_actRight a_stepItem a_stepCell a_stepOld a_stepNew a_stepEnd a_adjoints a_tangents a_flow : Nat → Int32) (post : Int32 → SX → Prop), ns < 1024 → a_stack 0 = v → post (nI (pc + 1)) (f_STORE_CELL, f_STORE_AT, f_OPERATOR, f_LOOP, f_LOOP_BY, f_IF, f_ELSE, f_END, f_ACT_ZERO, f_ACT_READ, f_ACT_WRITE, f_ACT_DROP, f_ACT_COMBINE, f_ACT_NEGATE, f_ACT_COPY, f_ACT_EXCHANGE, f_prime, nI n, f_room, f_phase, f_itemCount, f_size, f_pending, f_factor, f_work, f_openCount, f_openLoops, nI 0, f_loopDepth, f_faultItem, nI (na + 1), nI (ns + 1), f_cursor, f_hasTangent, f_flowDepth, a_inputs, a_weights, kd, ar, a_itemJump, a_openItem, a_openElse, a_openFactor, upd cells i v, a_stack, a_loopCounter, a_loopLimit, upd a_actCode na 2, upd a_actLeft na (nI i), upd a_actRight na 0, upd a_stepItem ns (nI pc), upd a_stepCell ns (nI i), upd a_stepOld ns (cells i), upd a_stepNew ns v, upd a_stepEnd ns (nI (na + 1)), a_adjoints, a_tangents, a_flow) → wpX_executeItem post (f_STORE_CELL, f_STORE_AT, f_OPERATOR, f_LOOP, f_LOOP_BY, f_IF, f_ELSE, f_END, f_ACT_ZERO, f_ACT_READ, f_ACT_WRITE, f_ACT_DROP, f_ACT_COMBINE, f_ACT_NEGATE, f_ACT_COPY, f_ACT_EXCHANGE, f_prime, nI n, f_room, f_phase, f_itemCount, f_size, f_pending, f_factor, f_work, f_openCount, f_openLoops, nI 1, f_loopDepth, f_faultItem, nI na, nI ns, f_cursor, f_hasTangent, f_flowDepth, a_inputs, a_weights, kd, ar, a_itemJump, a_openItem, a_openElse, a_openFactor, cells, a_stack, a_loopCounter, a_loopLimit, a_actCode, a_actLeft, a_actRight, a_stepItem, a_stepCell, a_stepOld, a_stepNew, a_stepEnd, a_adjoints, a_tangents, a_flow) (nI pc))
    (HY : ∀ (f_p f_n f_room f_phase f_items f_cursor f_hasTangent f_size f_pending f_factor f_work f_open f_loops f_steps f_faultItem f_nextItem f_nextCell f_top : Int32) (a_kinds a_args a_inputs a_weights a_tangents a_marks a_cell a_dcell a_seen a_val a_der a_start a_counter a_total : Nat → Int32) (post : SY → Prop) (kk jj x4 : Int32) (m t : Nat), t < 1024 → (∀ t, t < n → a_cell t = cells t) → wY_simulate_161 post (wY_simulate_88 post kk jj m) kk jj (nI pc) x4 (nI t) k x7 (nI (pc + 1)) (nI i) f_p (nI n) f_room f_phase (nI N) f_cursor f_hasTangent f_size f_pending f_factor f_work f_open f_loops f_steps (-1) f_nextItem f_nextCell f_top kd ar a_inputs a_weights a_tangents a_marks a_cell a_dcell a_seen a_val a_der a_start a_counter a_total → wY_simulate_88 post kk jj (m + 1) (nI pc) x4 (nI t) f_p (nI n) f_room f_phase (nI N) f_cursor f_hasTangent f_size f_pending f_factor f_work f_open f_loops f_steps (-1) f_nextItem f_nextCell f_top kd ar a_inputs a_weights a_tangents a_marks a_cell a_dcell a_seen a_val a_der a_start a_counter a_total) : rc_St q n N kd ar jm inp (pc, cells, [v], lp, AC, AL, AR, na, SI, SC, SO, SN, SE, ns) := by
  obtain ⟨g1, g2, g3, g4, g5, g6, g7⟩ := G
  have hq := (ra_pr_lt hp).1
  have h1q : 1 ≤ q := by have := (ra_pr_lt hp).2; omega
  have hv : ra_Cn q v := g3 v (List.mem_cons_self ..)
  have hns : ns < 1024 := by have := g7.2.2.1; omega
  refine Or.inl ⟨(pc + 1, upd cells i v, [], lp, upd AC na 2, upd AL na (nI i), upd AR na 0, na + 1, upd SI ns (nI pc), upd SC ns (nI i), upd SO ns (cells i), upd SN ns v, upd SE ns (nI (na + 1)), ns + 1), ?_, Nat.le_refl _, ?_, ?_⟩
  · refine ⟨hpc, rt_Cf_upd g2 hv, fun x hx => absurd hx (List.not_mem_nil), ?_, ?_, g6, rc_step g7 hna hi hn⟩
    · show 0 = rs_p1 (kd pc) (ar pc) (rs_pd kd ar pc)
      rw [← g4]
      rcases h45 with e | e <;> rw [hk, e] <;> rfl
    · rcases h45 with e | e
      · subst e; exact rk_lpk hk (by decide) (by decide) (by decide) (by decide) (by decide) (by decide) g5
      · subst e; exact rk_lpk hk (by decide) (by decide) (by decide) (by decide) (by decide) (by decide) g5
  · intro f_STORE_CELL f_STORE_AT f_OPERATOR f_LOOP f_LOOP_BY f_IF f_ELSE f_END f_ACT_ZERO f_ACT_READ f_ACT_WRITE f_ACT_DROP f_ACT_COMBINE f_ACT_NEGATE f_ACT_COPY f_ACT_EXCHANGE f_prime f_cellCount f_room f_phase f_itemCount f_size f_pending f_factor f_work f_openCount f_openLoops f_depth f_loopDepth f_faultItem f_actCount f_stepCount f_cursor f_hasTangent f_flowDepth a_inputs a_weights a_itemKind a_itemArg a_itemJump a_openItem a_openElse a_openFactor a_cells a_stack a_loopCounter a_loopLimit a_actCode a_actLeft a_actRight a_stepItem a_stepCell a_stepOld a_stepNew a_stepEnd a_adjoints a_tangents a_flow post K S C L hS hC hL
    exact HX f_STORE_CELL f_STORE_AT f_OPERATOR f_LOOP f_LOOP_BY f_IF f_ELSE f_END f_ACT_ZERO f_ACT_READ f_ACT_WRITE f_ACT_DROP f_ACT_COMBINE f_ACT_NEGATE f_ACT_COPY f_ACT_EXCHANGE (nI (q + 1)) f_cellCount f_room f_phase (nI N) f_size f_pending f_factor f_work f_openCount f_openLoops f_depth (nI lp.length) f_faultItem f_actCount (nI ns) f_cursor f_hasTangent f_flowDepth a_inputs a_weights a_itemKind a_itemArg jm a_openItem a_openElse a_openFactor a_cells S C L AC AL AR SI SC SO SN SE a_adjoints a_tangents a_flow post hns hS.1 (K S C L True.intro hC hL)
  · intro f_p f_n f_room f_phase f_items f_cursor f_hasTangent f_size f_pending f_factor f_work f_open f_loops f_steps f_faultItem f_nextItem f_nextCell f_top a_kinds a_args a_inputs a_weights a_tangents a_marks a_cell a_dcell a_seen a_val a_der a_start a_counter a_total post kk j m t hj ht K nit ncl cell dcell seen val der start counter total h1 h2 h3 h4 h5 D
    have hv0 : val 0 = v := h2.1
    refine HY (nI (q + 1)) f_n f_room f_phase f_items f_cursor f_hasTangent f_size f_pending f_factor f_work f_open f_loops (nI ns) f_faultItem nit ncl (nI 1) a_kinds a_args a_inputs a_weights a_tangents a_marks cell dcell seen val der start counter total post kk (nI j) _ m t ht h1 (ry_k45 h45 hn (by omega) hj (fun nit' ncl' e1 e2 => ?_))
    rw [hv0]
    have hc' : ∀ t, t < n → upd cell i v t = upd cells i v t := by
      intro t ht
      by_cases z : t = i
      · rw [z, pk_us, pk_us]
      · rw [pk_un z, pk_un z]; exact h1 t ht
    refine ⟨fun e3 sn dc s1 s2 => ?_, fun e4 => ?_⟩
    · exact K nit' ncl' (upd cell i v) dc sn val der start counter total hc' True.intro h3 h4 h5 (rc_D_step hq h1q hn g7 hna D hi h1 e1 e2 (fun _ => ⟨s1, s2⟩) (fun z => absurd e3 z))
    · exact K nit' ncl' (upd cell i v) (upd dcell i (der 0)) seen val der start counter total hc' True.intro h3 h4 h5 (rc_D_step hq h1q hn g7 hna D hi h1 e1 e2 (fun z => absurd z e4) (fun _ => ⟨rfl, rfl⟩))
theorem rk_4 {i : Nat} {v : Int32} (hp : ra_pr q) (hn0 : 0 < n) (hn : n ≤ 8) (hN : N ≤ 128) (hpc : pc < N) (hna : na < 1024) (G : rc_G q n N kd ar inp (pc, cells, [v], lp, AC, AL, AR, na, SI, SC, SO, SN, SE, ns)) (hk : kd pc = 4) (hi : i < n) (ha : ar pc = nI i) : rc_St q n N kd ar jm inp (pc, cells, [v], lp, AC, AL, AR, na, SI, SC, SO, SN, SE, ns) :=
  rk_wr (x7 := nI i) hp hn0 hn hN hpc hna G hk (Or.inl rfl) hi
    (fun f_STORE_CELL f_STORE_AT f_OPERATOR f_LOOP f_LOOP_BY f_IF f_ELSE f_END f_ACT_ZERO f_ACT_READ f_ACT_WRITE f_ACT_DROP f_ACT_COMBINE f_ACT_NEGATE f_ACT_COPY f_ACT_EXCHANGE f_prime f_cellCount f_room f_phase f_itemCount f_size f_pending f_factor f_work f_openCount f_openLoops f_depth f_loopDepth f_faultItem f_actCount f_stepCount f_cursor f_hasTangent f_flowDepth a_inputs a_weights a_itemKind a_itemArg a_itemJump a_openItem a_openElse a_openFactor a_cells a_stack a_loopCounter a_loopLimit a_actCode a_actLeft a_actRight a_stepItem a_stepCell a_stepOld a_stepNew a_stepEnd a_adjoints a_tangents a_flow post hns hs K => rx_e4 (by omega) hk ha (by omega) hna hns hs K)
    (fun f_p f_n f_room f_phase f_items f_cursor f_hasTangent f_size f_pending f_factor f_work f_open f_loops f_steps f_faultItem f_nextItem f_nextCell f_top a_kinds a_args a_inputs a_weights a_tangents a_marks a_cell a_dcell a_seen a_val a_der a_start a_counter a_total post kk jj x4 m t ht _ K => ry_hd1 ht hpc hN hk ha (by decide) (by decide) K)
theorem rk_5 {i : Nat} {v : Int32} (hp : ra_pr q) (hn0 : 0 < n) (hn : n ≤ 8) (hN : N ≤ 128) (hpc : pc < N) (hna : na < 1024) (G : rc_G q n N kd ar inp (pc, cells, [v], lp, AC, AL, AR, na, SI, SC, SO, SN, SE, ns)) (hk : kd pc = 5) (hi : i < n) (ha : ar pc = nI i) : rc_St q n N kd ar jm inp (pc, cells, [v], lp, AC, AL, AR, na, SI, SC, SO, SN, SE, ns) := by
  have hq := (ra_pr_lt hp).1
  obtain ⟨x, hx, ex⟩ := ra_Cn_get (G.2.1 i hi) hq
  exact rk_wr (i := x % n) (x7 := nI i) hp hn0 hn hN hpc hna G hk (Or.inr rfl) (Nat.mod_lt _ hn0)
    (fun f_STORE_CELL f_STORE_AT f_OPERATOR f_LOOP f_LOOP_BY f_IF f_ELSE f_END f_ACT_ZERO f_ACT_READ f_ACT_WRITE f_ACT_DROP f_ACT_COMBINE f_ACT_NEGATE f_ACT_COPY f_ACT_EXCHANGE f_prime f_cellCount f_room f_phase f_itemCount f_size f_pending f_factor f_work f_openCount f_openLoops f_depth f_loopDepth f_faultItem f_actCount f_stepCount f_cursor f_hasTangent f_flowDepth a_inputs a_weights a_itemKind a_itemArg a_itemJump a_openItem a_openElse a_openFactor a_cells a_stack a_loopCounter a_loopLimit a_actCode a_actLeft a_actRight a_stepItem a_stepCell a_stepOld a_stepNew a_stepEnd a_adjoints a_tangents a_flow post hns hs K => rx_e5 (by omega) hk ha (by omega) hn0 hn (by omega) ex hna hns hs K)
    (fun f_p f_n f_room f_phase f_items f_cursor f_hasTangent f_size f_pending f_factor f_work f_open f_loops f_steps f_faultItem f_nextItem f_nextCell f_top a_kinds a_args a_inputs a_weights a_tangents a_marks a_cell a_dcell a_seen a_val a_der a_start a_counter a_total post kk jj x4 m t ht h1 K => ry_hd2 ht hpc hN hk ha (Or.inr rfl) (by omega) hn0 hn (by omega) ((h1 i hi).trans ex) K)
end
end
section
/-! one round of a run: operators -/
section
variable {q n N : Nat} {kd ar jm inp cells AC AL AR SI SC SO SN SE : rc_F} {pc na ns : Nat} {st : List Int32} {lp : List (Nat × Nat × Nat)}
theorem rk_6_0 {a b : Int32} (hp : ra_pr q) (hn0 : 0 < n) (hn : n ≤ 8) (hN : N ≤ 128) (hpc : pc < N) (hna : na < 1024) (G : rc_G q n N kd ar inp (pc, cells, b :: a :: st, lp, AC, AL, AR, na, SI, SC, SO, SN, SE, ns)) (hk : kd pc = 6) (ha : ar pc = 0) (hd : st.length + 2 ≤ 8) : rc_St q n N kd ar jm inp (pc, cells, b :: a :: st, lp, AC, AL, AR, na, SI, SC, SO, SN, SE, ns) := by
  have G0 := G
  obtain ⟨g1, g2, g3, g4, g5, g6, g7⟩ := G
  have hq := (ra_pr_lt hp).1
  have h1q : 1 ≤ q := by have := (ra_pr_lt hp).2; omega
  have cb : ra_Cn q b := g3 b (List.mem_cons_self ..)
  have ca : ra_Cn q a := g3 a (List.mem_cons_of_mem _ (List.mem_cons_self ..))
  have cs : rt_Cl q st := fun x hx => g3 x (List.mem_cons_of_mem _ (List.mem_cons_of_mem _ hx))
  refine Or.inl ⟨(pc + 1, cells, ra_ad (nI (q + 1)) a b :: st, lp, upd AC na 4, upd AL na 1, upd AR na 1, na + 1, SI, SC, SO, SN, SE, ns), rk_Go hn hpc hna G0 hk (by rw [ha]; rfl) (rt_Cl_cons (ra_ad_ok hq ca cb).1 cs) ⟨Or.inr (Or.inr (Or.inr (Or.inr (Or.inl ⟨rfl, by show 2 ≤ st.length + 2; omega, ra_Cn_1 h1q, ra_Cn_1 h1q⟩)))), by show st.length + 2 ≤ 8; omega⟩ (by decide) rfl, Nat.le_refl _, ?_, ?_⟩
  · intro f_STORE_CELL f_STORE_AT f_OPERATOR f_LOOP f_LOOP_BY f_IF f_ELSE f_END f_ACT_ZERO f_ACT_READ f_ACT_WRITE f_ACT_DROP f_ACT_COMBINE f_ACT_NEGATE f_ACT_COPY f_ACT_EXCHANGE f_prime f_cellCount f_room f_phase f_itemCount f_size f_pending f_factor f_work f_openCount f_openLoops f_depth f_loopDepth f_faultItem f_actCount f_stepCount f_cursor f_hasTangent f_flowDepth a_inputs a_weights a_itemKind a_itemArg a_itemJump a_openItem a_openElse a_openFactor a_cells a_stack a_loopCounter a_loopLimit a_actCode a_actLeft a_actRight a_stepItem a_stepCell a_stepOld a_stepNew a_stepEnd a_adjoints a_tangents a_flow post K S C L hS hC hL
    refine rx_e6 (by omega) hk ha (rx_op0 (by omega) hna hS.2.1 hS.1 (br_f (by decide) ?_))
    exact K (upd S st.length (ra_ad (nI (q + 1)) a b)) C L (rl_push hS.2.2) hC hL
  · intro f_p f_n f_room f_phase f_items f_cursor f_hasTangent f_size f_pending f_factor f_work f_open f_loops f_steps f_faultItem f_nextItem f_nextCell f_top a_kinds a_args a_inputs a_weights a_tangents a_marks a_cell a_dcell a_seen a_val a_der a_start a_counter a_total post kk j m t hj ht K nit ncl cell dcell seen val der start counter total h1 h2 h3 h4 h5 D
    refine ry_k6_0 ht hpc hN hk ha hq (d := st.length) (by omega) h2.1 rfl h2.2.1 rfl ?_
    refine K nit ncl cell dcell seen (upd val st.length (ra_yr (nI (q + 1)) (a + b))) _ start counter total h1 (rl_push' h2.2.2 rfl (ra_y0 hq ca cb)) h3 h4 h5 (rc_D_emit hq h1q hn g7 D (fun T Q cT cQ hl hr he => ⟨?_, he⟩))
    match Q, hl, hr, cQ with
    | db :: da :: Q', hl, hr, cQ =>
      have hl' : Q'.length = st.length := by simp only [List.length_cons] at hl; omega
      have cdb : ra_Cn q db := cQ db (List.mem_cons_self ..)
      have cda : ra_Cn q da := cQ da (List.mem_cons_of_mem _ (List.mem_cons_self ..))
      have e1 : der (st.length + 1) = db := by rw [← hl']; exact hr.1
      have e2 : der st.length = da := by rw [← hl']; exact hr.2.1
      rw [e1, e2]
      exact rl_push' hr.2.2 hl' (ra_y0d hq h1q cda cdb)
    | [], hl, _, _ => exact absurd hl (by simp)
    | [_], hl, _, _ => exact absurd hl (by simp)
theorem rk_6_1 {a b : Int32} (hp : ra_pr q) (hn0 : 0 < n) (hn : n ≤ 8) (hN : N ≤ 128) (hpc : pc < N) (hna : na < 1024) (G : rc_G q n N kd ar inp (pc, cells, b :: a :: st, lp, AC, AL, AR, na, SI, SC, SO, SN, SE, ns)) (hk : kd pc = 6) (ha : ar pc = 1) (hd : st.length + 2 ≤ 8) : rc_St q n N kd ar jm inp (pc, cells, b :: a :: st, lp, AC, AL, AR, na, SI, SC, SO, SN, SE, ns) := by
  have G0 := G
  obtain ⟨g1, g2, g3, g4, g5, g6, g7⟩ := G
  have hq := (ra_pr_lt hp).1
  have h1q : 1 ≤ q := by have := (ra_pr_lt hp).2; omega
  have cb : ra_Cn q b := g3 b (List.mem_cons_self ..)
  have ca : ra_Cn q a := g3 a (List.mem_cons_of_mem _ (List.mem_cons_self ..))
  have cs : rt_Cl q st := fun x hx => g3 x (List.mem_cons_of_mem _ (List.mem_cons_of_mem _ hx))
  refine Or.inl ⟨(pc + 1, cells, ra_sb (nI (q + 1)) a b :: st, lp, upd AC na 4, upd AL na 1, upd AR na (nI q), na + 1, SI, SC, SO, SN, SE, ns), rk_Go hn hpc hna G0 hk (by rw [ha]; rfl) (rt_Cl_cons (ra_sb_ok hq ca cb).1 cs) ⟨Or.inr (Or.inr (Or.inr (Or.inr (Or.inl ⟨rfl, by show 2 ≤ st.length + 2; omega, ra_Cn_1 h1q, ra_Cn_nI hq (by omega)⟩)))), by show st.length + 2 ≤ 8; omega⟩ (by decide) rfl, Nat.le_refl _, ?_, ?_⟩
  · intro f_STORE_CELL f_STORE_AT f_OPERATOR f_LOOP f_LOOP_BY f_IF f_ELSE f_END f_ACT_ZERO f_ACT_READ f_ACT_WRITE f_ACT_DROP f_ACT_COMBINE f_ACT_NEGATE f_ACT_COPY f_ACT_EXCHANGE f_prime f_cellCount f_room f_phase f_itemCount f_size f_pending f_factor f_work f_openCount f_openLoops f_depth f_loopDepth f_faultItem f_actCount f_stepCount f_cursor f_hasTangent f_flowDepth a_inputs a_weights a_itemKind a_itemArg a_itemJump a_openItem a_openElse a_openFactor a_cells a_stack a_loopCounter a_loopLimit a_actCode a_actLeft a_actRight a_stepItem a_stepCell a_stepOld a_stepNew a_stepEnd a_adjoints a_tangents a_flow post K S C L hS hC hL
    refine rx_e6 (by omega) hk ha (rx_op1 (by omega) hna hS.2.1 hS.1 (br_f (by decide) ?_))
    exact K (upd S st.length (ra_sb (nI (q + 1)) a b)) C L (rl_push hS.2.2) hC hL
  · intro f_p f_n f_room f_phase f_items f_cursor f_hasTangent f_size f_pending f_factor f_work f_open f_loops f_steps f_faultItem f_nextItem f_nextCell f_top a_kinds a_args a_inputs a_weights a_tangents a_marks a_cell a_dcell a_seen a_val a_der a_start a_counter a_total post kk j m t hj ht K nit ncl cell dcell seen val der start counter total h1 h2 h3 h4 h5 D
    refine ry_k6_1 ht hpc hN hk ha hq (d := st.length) (by omega) h2.1 rfl h2.2.1 rfl ?_
    refine K nit ncl cell dcell seen (upd val st.length (ra_yr (nI (q + 1)) (a - b))) _ start counter total h1 (rl_push' h2.2.2 rfl (ra_y1 hq ca cb)) h3 h4 h5 (rc_D_emit hq h1q hn g7 D (fun T Q cT cQ hl hr he => ⟨?_, he⟩))
    match Q, hl, hr, cQ with
    | db :: da :: Q', hl, hr, cQ =>
      have hl' : Q'.length = st.length := by simp only [List.length_cons] at hl; omega
      have cdb : ra_Cn q db := cQ db (List.mem_cons_self ..)
      have cda : ra_Cn q da := cQ da (List.mem_cons_of_mem _ (List.mem_cons_self ..))
      have e1 : der (st.length + 1) = db := by rw [← hl']; exact hr.1
      have e2 : der st.length = da := by rw [← hl']; exact hr.2.1
      rw [e1, e2]
      exact rl_push' hr.2.2 hl' (ra_y1d hq h1q cda cdb)
    | [], hl, _, _ => exact absurd hl (by simp)
    | [_], hl, _, _ => exact absurd hl (by simp)
theorem rk_6_2 {a b : Int32} (hp : ra_pr q) (hn0 : 0 < n) (hn : n ≤ 8) (hN : N ≤ 128) (hpc : pc < N) (hna : na < 1024) (G : rc_G q n N kd ar inp (pc, cells, b :: a :: st, lp, AC, AL, AR, na, SI, SC, SO, SN, SE, ns)) (hk : kd pc = 6) (ha : ar pc = 2) (hd : st.length + 2 ≤ 8) : rc_St q n N kd ar jm inp (pc, cells, b :: a :: st, lp, AC, AL, AR, na, SI, SC, SO, SN, SE, ns) := by
  have G0 := G
  obtain ⟨g1, g2, g3, g4, g5, g6, g7⟩ := G
  have hq := (ra_pr_lt hp).1
  have h1q : 1 ≤ q := by have := (ra_pr_lt hp).2; omega
  have cb : ra_Cn q b := g3 b (List.mem_cons_self ..)
  have ca : ra_Cn q a := g3 a (List.mem_cons_of_mem _ (List.mem_cons_self ..))
  have cs : rt_Cl q st := fun x hx => g3 x (List.mem_cons_of_mem _ (List.mem_cons_of_mem _ hx))
  refine Or.inl ⟨(pc + 1, cells, ra_mu (nI (q + 1)) a b :: st, lp, upd AC na 4, upd AL na b, upd AR na a, na + 1, SI, SC, SO, SN, SE, ns), rk_Go hn hpc hna G0 hk (by rw [ha]; rfl) (rt_Cl_cons (ra_mu_ok hq ca cb).1 cs) ⟨Or.inr (Or.inr (Or.inr (Or.inr (Or.inl ⟨rfl, by show 2 ≤ st.length + 2; omega, cb, ca⟩)))), by show st.length + 2 ≤ 8; omega⟩ (by decide) rfl, Nat.le_refl _, ?_, ?_⟩
  · intro f_STORE_CELL f_STORE_AT f_OPERATOR f_LOOP f_LOOP_BY f_IF f_ELSE f_END f_ACT_ZERO f_ACT_READ f_ACT_WRITE f_ACT_DROP f_ACT_COMBINE f_ACT_NEGATE f_ACT_COPY f_ACT_EXCHANGE f_prime f_cellCount f_room f_phase f_itemCount f_size f_pending f_factor f_work f_openCount f_openLoops f_depth f_loopDepth f_faultItem f_actCount f_stepCount f_cursor f_hasTangent f_flowDepth a_inputs a_weights a_itemKind a_itemArg a_itemJump a_openItem a_openElse a_openFactor a_cells a_stack a_loopCounter a_loopLimit a_actCode a_actLeft a_actRight a_stepItem a_stepCell a_stepOld a_stepNew a_stepEnd a_adjoints a_tangents a_flow post K S C L hS hC hL
    refine rx_e6 (by omega) hk ha (rx_op2 hq (by omega) hna hS.2.1 hS.1 (br_f (by decide) ?_))
    exact K (upd S st.length (ra_mu (nI (q + 1)) a b)) C L (rl_push hS.2.2) hC hL
  · intro f_p f_n f_room f_phase f_items f_cursor f_hasTangent f_size f_pending f_factor f_work f_open f_loops f_steps f_faultItem f_nextItem f_nextCell f_top a_kinds a_args a_inputs a_weights a_tangents a_marks a_cell a_dcell a_seen a_val a_der a_start a_counter a_total post kk j m t hj ht K nit ncl cell dcell seen val der start counter total h1 h2 h3 h4 h5 D
    refine ry_k6_2 ht hpc hN hk ha hq (d := st.length) (by omega) h2.1 rfl h2.2.1 rfl ?_
    refine K nit ncl cell dcell seen (upd val st.length (ra_yr (nI (q + 1)) (a * b))) _ start counter total h1 (rl_push' h2.2.2 rfl (ra_y2 hq ca cb)) h3 h4 h5 (rc_D_emit hq h1q hn g7 D (fun T Q cT cQ hl hr he => ⟨?_, he⟩))
    match Q, hl, hr, cQ with
    | db :: da :: Q', hl, hr, cQ =>
      have hl' : Q'.length = st.length := by simp only [List.length_cons] at hl; omega
      have cdb : ra_Cn q db := cQ db (List.mem_cons_self ..)
      have cda : ra_Cn q da := cQ da (List.mem_cons_of_mem _ (List.mem_cons_self ..))
      have e1 : der (st.length + 1) = db := by rw [← hl']; exact hr.1
      have e2 : der st.length = da := by rw [← hl']; exact hr.2.1
      rw [e1, e2]
      exact rl_push' hr.2.2 hl' (ra_y2d hq ca cb cda cdb)
    | [], hl, _, _ => exact absurd hl (by simp)
    | [_], hl, _, _ => exact absurd hl (by simp)
theorem rk_6_3 {a : Int32} {b : Nat} (hp : ra_pr q) (hn0 : 0 < n) (hn : n ≤ 8) (hN : N ≤ 128) (hpc : pc < N) (hna : na < 1024) (G : rc_G q n N kd ar inp (pc, cells, nI b :: a :: st, lp, AC, AL, AR, na, SI, SC, SO, SN, SE, ns)) (hk : kd pc = 6) (ha : ar pc = 3) (hd : st.length + 2 ≤ 8) (hb0 : 0 < b) (hbq : b < q + 1) : rc_St q n N kd ar jm inp (pc, cells, nI b :: a :: st, lp, AC, AL, AR, na, SI, SC, SO, SN, SE, ns) := by
  have G0 := G
  obtain ⟨g1, g2, g3, g4, g5, g6, g7⟩ := G
  have hq := (ra_pr_lt hp).1
  have h1q : 1 ≤ q := by have := (ra_pr_lt hp).2; omega
  have ca : ra_Cn q a := g3 a (List.mem_cons_of_mem _ (List.mem_cons_self ..))
  have cs : rt_Cl q st := fun x hx => g3 x (List.mem_cons_of_mem _ (List.mem_cons_of_mem _ hx))
  have ci : ra_Cn q (nI (ra_iv (q + 1) b)) := ra_iv_C hp
  have cv := (ra_mu_ok hq ca ci).1
  have cg := (ra_ng_ok hq (ra_mu_ok hq cv ci).1).1
  refine Or.inl ⟨(pc + 1, cells, ra_mu (nI (q + 1)) a (nI (ra_iv (q + 1) b)) :: st, lp, upd AC na 4, upd AL na (nI (ra_iv (q + 1) b)), upd AR na (ra_ng (nI (q + 1)) (ra_mu (nI (q + 1)) (ra_mu (nI (q + 1)) a (nI (ra_iv (q + 1) b))) (nI (ra_iv (q + 1) b)))), na + 1, SI, SC, SO, SN, SE, ns), rk_Go hn hpc hna G0 hk (by rw [ha]; rfl) (rt_Cl_cons cv cs) ⟨Or.inr (Or.inr (Or.inr (Or.inr (Or.inl ⟨rfl, by show 2 ≤ st.length + 2; omega, ci, cg⟩)))), by show st.length + 2 ≤ 8; omega⟩ (by decide) rfl, Nat.le_refl _, ?_, ?_⟩
  · intro f_STORE_CELL f_STORE_AT f_OPERATOR f_LOOP f_LOOP_BY f_IF f_ELSE f_END f_ACT_ZERO f_ACT_READ f_ACT_WRITE f_ACT_DROP f_ACT_COMBINE f_ACT_NEGATE f_ACT_COPY f_ACT_EXCHANGE f_prime f_cellCount f_room f_phase f_itemCount f_size f_pending f_factor f_work f_openCount f_openLoops f_depth f_loopDepth f_faultItem f_actCount f_stepCount f_cursor f_hasTangent f_flowDepth a_inputs a_weights a_itemKind a_itemArg a_itemJump a_openItem a_openElse a_openFactor a_cells a_stack a_loopCounter a_loopLimit a_actCode a_actLeft a_actRight a_stepItem a_stepCell a_stepOld a_stepNew a_stepEnd a_adjoints a_tangents a_flow post K S C L hS hC hL
    refine rx_e6 (by omega) hk ha (rx_op3 hp (by omega) hna hS.2.1 hS.1 hb0 hbq (br_f (by decide) ?_))
    exact K (upd S st.length (ra_mu (nI (q + 1)) a (nI (ra_iv (q + 1) b)))) C L (rl_push hS.2.2) hC hL
  · intro f_p f_n f_room f_phase f_items f_cursor f_hasTangent f_size f_pending f_factor f_work f_open f_loops f_steps f_faultItem f_nextItem f_nextCell f_top a_kinds a_args a_inputs a_weights a_tangents a_marks a_cell a_dcell a_seen a_val a_der a_start a_counter a_total post kk j m t hj ht K nit ncl cell dcell seen val der start counter total h1 h2 h3 h4 h5 D
    refine ry_k6_3 ht hpc hN hk ha hp hb0 hbq (d := st.length) (by omega) h2.1 rfl h2.2.1 rfl ?_
    refine K nit ncl cell dcell seen (upd val st.length (ra_yr (nI (q + 1)) ((a * (nI (ra_iv (q + 1) b))) - (a * (nI (ra_iv (q + 1) b))) / nI (q + 1) * nI (q + 1)))) _ start counter total h1 (rl_push' h2.2.2 rfl (ra_y3 hq ca ci)) h3 h4 h5 (rc_D_emit hq h1q hn g7 D (fun T Q cT cQ hl hr he => ⟨?_, he⟩))
    match Q, hl, hr, cQ with
    | db :: da :: Q', hl, hr, cQ =>
      have hl' : Q'.length = st.length := by simp only [List.length_cons] at hl; omega
      have cdb : ra_Cn q db := cQ db (List.mem_cons_self ..)
      have cda : ra_Cn q da := cQ da (List.mem_cons_of_mem _ (List.mem_cons_self ..))
      have e1 : der (st.length + 1) = db := by rw [← hl']; exact hr.1
      have e2 : der st.length = da := by rw [← hl']; exact hr.2.1
      rw [e1, e2]
      exact rl_push' hr.2.2 hl' (ra_y3d hq ca ci cda cdb)
    | [], hl, _, _ => exact absurd hl (by simp)
    | [_], hl, _, _ => exact absurd hl (by simp)
theorem rk_6_3f {a : Int32} (hp : ra_pr q) (hn0 : 0 < n) (hn : n ≤ 8) (hN : N ≤ 128) (hpc : pc < N) (hna : na < 1024) (G : rc_G q n N kd ar inp (pc, cells, 0 :: a :: st, lp, AC, AL, AR, na, SI, SC, SO, SN, SE, ns)) (hk : kd pc = 6) (ha : ar pc = 3) (hd : st.length + 2 ≤ 8) : rc_St q n N kd ar jm inp (pc, cells, 0 :: a :: st, lp, AC, AL, AR, na, SI, SC, SO, SN, SE, ns) := by
  obtain ⟨g1, g2, g3, g4, g5, g6, g7⟩ := G
  have hq := (ra_pr_lt hp).1
  have h1q : 1 ≤ q := by have := (ra_pr_lt hp).2; omega
  refine Or.inr ⟨?_, ?_⟩
  · intro f_STORE_CELL f_STORE_AT f_OPERATOR f_LOOP f_LOOP_BY f_IF f_ELSE f_END f_ACT_ZERO f_ACT_READ f_ACT_WRITE f_ACT_DROP f_ACT_COMBINE f_ACT_NEGATE f_ACT_COPY f_ACT_EXCHANGE f_prime f_cellCount f_room f_phase f_itemCount f_size f_pending f_factor f_work f_openCount f_openLoops f_depth f_loopDepth f_faultItem f_actCount f_stepCount f_cursor f_hasTangent f_flowDepth a_inputs a_weights a_itemKind a_itemArg a_itemJump a_openItem a_openElse a_openFactor a_cells a_stack a_loopCounter a_loopLimit a_actCode a_actLeft a_actRight a_stepItem a_stepCell a_stepOld a_stepNew a_stepEnd a_adjoints a_tangents a_flow post K S C L hS hC hL
    refine rx_e6 (by omega) hk ha (rx_op3f (by omega) hS.1 (br_t rfl ?_))
    exact K (nI st.length) S C L
  · intro f_p f_n f_room f_phase f_items f_cursor f_hasTangent f_size f_pending f_factor f_work f_open f_loops f_steps f_faultItem f_nextItem f_nextCell f_top a_kinds a_args a_inputs a_weights a_tangents a_marks a_cell a_dcell a_seen a_val a_der a_start a_counter a_total post kk j m t hj ht K nit ncl cell dcell seen val der start counter total h1 h2 h3 h4 h5 D
    refine ry_k6f (d := st.length + 1) ht hpc hN hk ha (by omega) h2.1 ?_
    have k := K nit ncl cell dcell seen val der start counter total h1 h2 h3 h4 h5 D
    exact br_c (fun _ => k) (fun _ => br_c (fun _ => k) (fun _ => br_t (nI_pos' (by omega)) k))
theorem rk_6_4 {b : Int32} (hp : ra_pr q) (hn0 : 0 < n) (hn : n ≤ 8) (hN : N ≤ 128) (hpc : pc < N) (hna : na < 1024) (G : rc_G q n N kd ar inp (pc, cells, b :: st, lp, AC, AL, AR, na, SI, SC, SO, SN, SE, ns)) (hk : kd pc = 6) (ha : ar pc = 4) (hd : st.length + 1 ≤ 8) : rc_St q n N kd ar jm inp (pc, cells, b :: st, lp, AC, AL, AR, na, SI, SC, SO, SN, SE, ns) := by
  have G0 := G
  obtain ⟨g1, g2, g3, g4, g5, g6, g7⟩ := G
  have hq := (ra_pr_lt hp).1
  have h1q : 1 ≤ q := by have := (ra_pr_lt hp).2; omega
  have cb : ra_Cn q b := g3 b (List.mem_cons_self ..)
  have cs : rt_Cl q st := fun x hx => g3 x (List.mem_cons_of_mem _ hx)
  refine Or.inl ⟨(pc + 1, cells, ra_ng (nI (q + 1)) b :: st, lp, upd AC na 5, upd AL na 0, upd AR na 0, na + 1, SI, SC, SO, SN, SE, ns), rk_Go hn hpc hna G0 hk (by rw [ha]; rfl) (rt_Cl_cons (ra_ng_ok hq cb).1 cs) ⟨Or.inr (Or.inr (Or.inr (Or.inr (Or.inr (Or.inl ⟨rfl, by show 1 ≤ st.length + 1; omega⟩))))), hd⟩ (by decide) rfl, Nat.le_refl _, ?_, ?_⟩
  · intro f_STORE_CELL f_STORE_AT f_OPERATOR f_LOOP f_LOOP_BY f_IF f_ELSE f_END f_ACT_ZERO f_ACT_READ f_ACT_WRITE f_ACT_DROP f_ACT_COMBINE f_ACT_NEGATE f_ACT_COPY f_ACT_EXCHANGE f_prime f_cellCount f_room f_phase f_itemCount f_size f_pending f_factor f_work f_openCount f_openLoops f_depth f_loopDepth f_faultItem f_actCount f_stepCount f_cursor f_hasTangent f_flowDepth a_inputs a_weights a_itemKind a_itemArg a_itemJump a_openItem a_openElse a_openFactor a_cells a_stack a_loopCounter a_loopLimit a_actCode a_actLeft a_actRight a_stepItem a_stepCell a_stepOld a_stepNew a_stepEnd a_adjoints a_tangents a_flow post K S C L hS hC hL
    refine rx_e6 (by omega) hk ha (rx_op4 (by omega) hna hS.1 (br_f (by decide) ?_))
    exact K (upd S st.length (ra_ng (nI (q + 1)) b)) C L (rl_push hS.2) hC hL
  · intro f_p f_n f_room f_phase f_items f_cursor f_hasTangent f_size f_pending f_factor f_work f_open f_loops f_steps f_faultItem f_nextItem f_nextCell f_top a_kinds a_args a_inputs a_weights a_tangents a_marks a_cell a_dcell a_seen a_val a_der a_start a_counter a_total post kk j m t hj ht K nit ncl cell dcell seen val der start counter total h1 h2 h3 h4 h5 D
    refine ry_k6_4 ht hpc hN hk ha hq (d := st.length) (by omega) h2.1 rfl ?_
    refine K nit ncl cell dcell seen (upd val st.length (ra_yr (nI (q + 1)) (-b))) _ start counter total h1 (rl_push' h2.2 rfl (ra_y4 hq cb)) h3 h4 h5 (rc_D_emit hq h1q hn g7 D (fun T Q cT cQ hl hr he => ⟨?_, he⟩))
    match Q, hl, hr, cQ with
    | db :: Q', hl, hr, cQ =>
      have hl' : Q'.length = st.length := by simp only [List.length_cons] at hl; omega
      have cdb : ra_Cn q db := cQ db (List.mem_cons_self ..)
      have e1 : der st.length = db := by rw [← hl']; exact hr.1
      rw [e1]
      exact rl_push' hr.2 hl' (ra_y4 hq cdb)
    | [], hl, _, _ => exact absurd hl (by simp)
theorem rk_6_5 {b : Int32} (hp : ra_pr q) (hn0 : 0 < n) (hn : n ≤ 8) (hN : N ≤ 128) (hpc : pc < N) (hna : na < 1024) (G : rc_G q n N kd ar inp (pc, cells, b :: st, lp, AC, AL, AR, na, SI, SC, SO, SN, SE, ns)) (hk : kd pc = 6) (ha : ar pc = 5) (hd : st.length + 1 < 8) : rc_St q n N kd ar jm inp (pc, cells, b :: st, lp, AC, AL, AR, na, SI, SC, SO, SN, SE, ns) := by
  have G0 := G
  obtain ⟨g1, g2, g3, g4, g5, g6, g7⟩ := G
  have hq := (ra_pr_lt hp).1
  have h1q : 1 ≤ q := by have := (ra_pr_lt hp).2; omega
  have cb : ra_Cn q b := g3 b (List.mem_cons_self ..)
  have cs : rt_Cl q st := fun x hx => g3 x (List.mem_cons_of_mem _ hx)
  refine Or.inl ⟨(pc + 1, cells, b :: b :: st, lp, upd AC na 6, upd AL na 0, upd AR na 0, na + 1, SI, SC, SO, SN, SE, ns), rk_Go hn hpc hna G0 hk (by rw [ha]; rfl) (rt_Cl_cons cb (rt_Cl_cons cb cs)) ⟨Or.inr (Or.inr (Or.inr (Or.inr (Or.inr (Or.inr (Or.inl ⟨rfl, by show 1 ≤ st.length + 1; omega, hd⟩)))))), by show st.length + 1 ≤ 8; omega⟩ (by decide) rfl, Nat.le_refl _, ?_, ?_⟩
  · intro f_STORE_CELL f_STORE_AT f_OPERATOR f_LOOP f_LOOP_BY f_IF f_ELSE f_END f_ACT_ZERO f_ACT_READ f_ACT_WRITE f_ACT_DROP f_ACT_COMBINE f_ACT_NEGATE f_ACT_COPY f_ACT_EXCHANGE f_prime f_cellCount f_room f_phase f_itemCount f_size f_pending f_factor f_work f_openCount f_openLoops f_depth f_loopDepth f_faultItem f_actCount f_stepCount f_cursor f_hasTangent f_flowDepth a_inputs a_weights a_itemKind a_itemArg a_itemJump a_openItem a_openElse a_openFactor a_cells a_stack a_loopCounter a_loopLimit a_actCode a_actLeft a_actRight a_stepItem a_stepCell a_stepOld a_stepNew a_stepEnd a_adjoints a_tangents a_flow post K S C L hS hC hL
    refine rx_e6 (by omega) hk ha (rx_op5 (by omega) hna hS.1 (br_f (by decide) ?_))
    exact K (upd (upd S st.length b) (st.length + 1) b) C L (rl_push' (rl_push' hS.2 rfl rfl) rfl rfl) hC hL
  · intro f_p f_n f_room f_phase f_items f_cursor f_hasTangent f_size f_pending f_factor f_work f_open f_loops f_steps f_faultItem f_nextItem f_nextCell f_top a_kinds a_args a_inputs a_weights a_tangents a_marks a_cell a_dcell a_seen a_val a_der a_start a_counter a_total post kk j m t hj ht K nit ncl cell dcell seen val der start counter total h1 h2 h3 h4 h5 D
    refine ry_k6_5 ht hpc hN hk ha hq (d := st.length) (by omega) h2.1 rfl ?_
    refine K nit ncl cell dcell seen (upd val (st.length + 1) (ra_yr (nI (q + 1)) b)) _ start counter total h1 (rl_push' h2 rfl (ra_yr_id hq cb)) h3 h4 h5 (rc_D_emit hq h1q hn g7 D (fun T Q cT cQ hl hr he => ⟨?_, he⟩))
    match Q, hl, hr, cQ with
    | db :: Q', hl, hr, cQ =>
      have hl' : Q'.length = st.length := by simp only [List.length_cons] at hl; omega
      have cdb : ra_Cn q db := cQ db (List.mem_cons_self ..)
      have e1 : der st.length = db := by rw [← hl']; exact hr.1
      rw [e1]
      exact rl_push' hr (congrArg Nat.succ hl') (ra_yr_id hq cdb)
    | [], hl, _, _ => exact absurd hl (by simp)
theorem rk_6_6 {a b : Int32} (hp : ra_pr q) (hn0 : 0 < n) (hn : n ≤ 8) (hN : N ≤ 128) (hpc : pc < N) (hna : na < 1024) (G : rc_G q n N kd ar inp (pc, cells, b :: a :: st, lp, AC, AL, AR, na, SI, SC, SO, SN, SE, ns)) (hk : kd pc = 6) (ha : ar pc = 6) (hd : st.length + 2 ≤ 8) : rc_St q n N kd ar jm inp (pc, cells, b :: a :: st, lp, AC, AL, AR, na, SI, SC, SO, SN, SE, ns) := by
  have G0 := G
  obtain ⟨g1, g2, g3, g4, g5, g6, g7⟩ := G
  have hq := (ra_pr_lt hp).1
  have h1q : 1 ≤ q := by have := (ra_pr_lt hp).2; omega
  have cb : ra_Cn q b := g3 b (List.mem_cons_self ..)
  have ca : ra_Cn q a := g3 a (List.mem_cons_of_mem _ (List.mem_cons_self ..))
  have cs : rt_Cl q st := fun x hx => g3 x (List.mem_cons_of_mem _ (List.mem_cons_of_mem _ hx))
  refine Or.inl ⟨(pc + 1, cells, a :: b :: st, lp, upd AC na 7, upd AL na 0, upd AR na 0, na + 1, SI, SC, SO, SN, SE, ns), rk_Go hn hpc hna G0 hk (by rw [ha]; rfl) (rt_Cl_cons ca (rt_Cl_cons cb cs)) ⟨Or.inr (Or.inr (Or.inr (Or.inr (Or.inr (Or.inr (Or.inr ⟨rfl, by show 2 ≤ st.length + 2; omega⟩)))))), by show st.length + 2 ≤ 8; omega⟩ (by decide) rfl, Nat.le_refl _, ?_, ?_⟩
  · intro f_STORE_CELL f_STORE_AT f_OPERATOR f_LOOP f_LOOP_BY f_IF f_ELSE f_END f_ACT_ZERO f_ACT_READ f_ACT_WRITE f_ACT_DROP f_ACT_COMBINE f_ACT_NEGATE f_ACT_COPY f_ACT_EXCHANGE f_prime f_cellCount f_room f_phase f_itemCount f_size f_pending f_factor f_work f_openCount f_openLoops f_depth f_loopDepth f_faultItem f_actCount f_stepCount f_cursor f_hasTangent f_flowDepth a_inputs a_weights a_itemKind a_itemArg a_itemJump a_openItem a_openElse a_openFactor a_cells a_stack a_loopCounter a_loopLimit a_actCode a_actLeft a_actRight a_stepItem a_stepCell a_stepOld a_stepNew a_stepEnd a_adjoints a_tangents a_flow post K S C L hS hC hL
    refine rx_e6 (by omega) hk ha (rx_op6 (by omega) hna hS.2.1 hS.1 (br_f (by decide) ?_))
    exact K (upd (upd S st.length b) (st.length + 1) a) C L (rl_push' (rl_push' hS.2.2 rfl rfl) rfl rfl) hC hL
  · intro f_p f_n f_room f_phase f_items f_cursor f_hasTangent f_size f_pending f_factor f_work f_open f_loops f_steps f_faultItem f_nextItem f_nextCell f_top a_kinds a_args a_inputs a_weights a_tangents a_marks a_cell a_dcell a_seen a_val a_der a_start a_counter a_total post kk j m t hj ht K nit ncl cell dcell seen val der start counter total h1 h2 h3 h4 h5 D
    refine ry_k6_6 ht hpc hN hk ha hq (d := st.length) (by omega) h2.1 rfl h2.2.1 rfl ?_
    refine K nit ncl cell dcell seen (upd (upd val st.length b) (st.length + 1) (ra_yr (nI (q + 1)) a)) _ start counter total h1 (rl_push' (rl_push' h2.2.2 rfl rfl) rfl (ra_yr_id hq ca)) h3 h4 h5 (rc_D_emit hq h1q hn g7 D (fun T Q cT cQ hl hr he => ⟨?_, he⟩))
    match Q, hl, hr, cQ with
    | db :: da :: Q', hl, hr, cQ =>
      have hl' : Q'.length = st.length := by simp only [List.length_cons] at hl; omega
      have cda : ra_Cn q da := cQ da (List.mem_cons_of_mem _ (List.mem_cons_self ..))
      have e1 : der (st.length + 1) = db := by rw [← hl']; exact hr.1
      have e2 : der st.length = da := by rw [← hl']; exact hr.2.1
      rw [e1, e2]
      exact rl_push' (rl_push' hr.2.2 hl' rfl) (congrArg Nat.succ hl') (ra_yr_id hq cda)
    | [], hl, _, _ => exact absurd hl (by simp)
    | [_], hl, _, _ => exact absurd hl (by simp)
end
end
section
/-! one round of a run: blocks -/
section
variable {q n N : Nat} {kd ar jm inp cells AC AL AR SI SC SO SN SE : rc_F} {pc na ns : Nat} {st : List Int32} {lp : List (Nat × Nat × Nat)}
theorem rk_drop {d : Nat} {T : rc_F} {Q : List Int32} {der : rc_F} {l r P : Int32} (hr : rl_A (fun x => x) der Q) : rl_A (fun x => x) der (rt_fw P 3 l r (T, Q)).2 := by
  rw [rt_fw3]
  match Q, hr with
  | [], _ => exact True.intro
  | _ :: _, hr => exact hr.2
theorem rk_7 {c : Nat} (hp : ra_pr q) (hn0 : 0 < n) (hn : n ≤ 8) (hN : N ≤ 128) (hpc : pc < N) (hna : na < 1024) (pv : rs_PV q n kd ar N) (G : rc_G q n N kd ar inp (pc, cells, [], lp, AC, AL, AR, na, SI, SC, SO, SN, SE, ns)) (hk : kd pc = 7) (ha : ar pc = nI c) (hc : 1 ≤ c) (hc2 : c ≤ 16) (h6 : (rs_sk kd pc).length < 6) : rc_St q n N kd ar jm inp (pc, cells, [], lp, AC, AL, AR, na, SI, SC, SO, SN, SE, ns) := by
  obtain ⟨g1, g2, g3, g4, g5, g6, g7⟩ := G
  have hq := (ra_pr_lt hp).1
  have h1q : 1 ≤ q := by have := (ra_pr_lt hp).2; omega
  have hl : lp.length < 6 := Nat.lt_of_le_of_lt (rk_len pv hpc g5) h6
  refine Or.inl ⟨(pc + 1, cells, [], (pc, 0, c) :: lp, AC, AL, AR, na, SI, SC, SO, SN, SE, ns), ⟨hpc, g2, g3, ?_, ?_, ?_, g7⟩, Nat.le_succ _, ?_, ?_⟩
  · show 0 = rs_p1 (kd pc) (ar pc) (rs_pd kd ar pc)
    rw [← g4, hk]; rfl
  · rw [rs_skO (Or.inl hk)]
    show pc :: lp.map (fun x => x.1) = if kd pc = 7 ∨ kd pc = 8 then pc :: rs_lp kd (rs_sk kd pc) else _
    rw [if_pos (Or.inl hk), g5]
  · intro x hx
    rcases List.mem_cons.mp hx with e | e
    · rw [e]; exact ⟨hc, hc2⟩
    · exact g6 x e
  · intro f_STORE_CELL f_STORE_AT f_OPERATOR f_LOOP f_LOOP_BY f_IF f_ELSE f_END f_ACT_ZERO f_ACT_READ f_ACT_WRITE f_ACT_DROP f_ACT_COMBINE f_ACT_NEGATE f_ACT_COPY f_ACT_EXCHANGE f_prime f_cellCount f_room f_phase f_itemCount f_size f_pending f_factor f_work f_openCount f_openLoops f_depth f_loopDepth f_faultItem f_actCount f_stepCount f_cursor f_hasTangent f_flowDepth a_inputs a_weights a_itemKind a_itemArg a_itemJump a_openItem a_openElse a_openFactor a_cells a_stack a_loopCounter a_loopLimit a_actCode a_actLeft a_actRight a_stepItem a_stepCell a_stepOld a_stepNew a_stepEnd a_adjoints a_tangents a_flow post K S C L hS hC hL
    exact rx_e7 (by omega) hk ha hc hc2 hl (K S (upd C lp.length 0) (upd L lp.length (nI c)) hS (rl_push' hC rfl rfl) (rl_push' hL rfl rfl))
  · intro f_p f_n f_room f_phase f_items f_cursor f_hasTangent f_size f_pending f_factor f_work f_open f_loops f_steps f_faultItem f_nextItem f_nextCell f_top a_kinds a_args a_inputs a_weights a_tangents a_marks a_cell a_dcell a_seen a_val a_der a_start a_counter a_total post kk j m t hj ht K nit ncl cell dcell seen val der start counter total h1 h2 h3 h4 h5 D
    exact ry_k7 ht hpc hN hk ha hl hc hc2 (K nit ncl cell dcell seen val der (upd start lp.length (nI pc)) (upd counter lp.length 0) (upd total lp.length (nI c)) h1 h2 (rl_push' h3 rfl rfl) (rl_push' h4 rfl rfl) (rl_push' h5 rfl rfl) D)
theorem rk_8 {c x : Nat} (hp : ra_pr q) (hn0 : 0 < n) (hn : n ≤ 8) (hN : N ≤ 128) (hpc : pc < N) (hna : na < 1024) (pv : rs_PV q n kd ar N) (G : rc_G q n N kd ar inp (pc, cells, [nI x], lp, AC, AL, AR, na, SI, SC, SO, SN, SE, ns)) (hk : kd pc = 8) (ha : ar pc = nI c) (hc : 1 ≤ c) (hc2 : c ≤ 16) (h6 : (rs_sk kd pc).length < 6) (hx0 : 0 < x) (hxq : x < q + 1) : rc_St q n N kd ar jm inp (pc, cells, [nI x], lp, AC, AL, AR, na, SI, SC, SO, SN, SE, ns) := by
  obtain ⟨g1, g2, g3, g4, g5, g6, g7⟩ := G
  have hq := (ra_pr_lt hp).1
  have h1q : 1 ≤ q := by have := (ra_pr_lt hp).2; omega
  have hl : lp.length < 6 := Nat.lt_of_le_of_lt (rk_len pv hpc g5) h6
  refine Or.inl ⟨(pc + 1, cells, [], (pc, 0, min x c) :: lp, upd AC na 3, upd AL na 0, upd AR na 0, na + 1, SI, SC, SO, SN, SE, ns), ⟨hpc, g2, fun x hx => absurd hx (List.not_mem_nil), ?_, ?_, ?_, rc_emit g7 hna ⟨Or.inr (Or.inr (Or.inr (Or.inl ⟨rfl, Nat.le_refl _⟩))), show (1 : Nat) ≤ 8 by decide⟩ (by decide) rfl⟩, Nat.le_refl _, ?_, ?_⟩
  · show 0 = rs_p1 (kd pc) (ar pc) (rs_pd kd ar pc)
    rw [← g4, hk]; rfl
  · rw [rs_skO (Or.inr (Or.inl hk))]
    show pc :: lp.map (fun x => x.1) = if kd pc = 7 ∨ kd pc = 8 then pc :: rs_lp kd (rs_sk kd pc) else _
    rw [if_pos (Or.inr hk), g5]
  · intro y hy
    rcases List.mem_cons.mp hy with e | e
    · rw [e]; show 0 < min x c ∧ min x c ≤ 16; omega
    · exact g6 y e
  · intro f_STORE_CELL f_STORE_AT f_OPERATOR f_LOOP f_LOOP_BY f_IF f_ELSE f_END f_ACT_ZERO f_ACT_READ f_ACT_WRITE f_ACT_DROP f_ACT_COMBINE f_ACT_NEGATE f_ACT_COPY f_ACT_EXCHANGE f_prime f_cellCount f_room f_phase f_itemCount f_size f_pending f_factor f_work f_openCount f_openLoops f_depth f_loopDepth f_faultItem f_actCount f_stepCount f_cursor f_hasTangent f_flowDepth a_inputs a_weights a_itemKind a_itemArg a_itemJump a_openItem a_openElse a_openFactor a_cells a_stack a_loopCounter a_loopLimit a_actCode a_actLeft a_actRight a_stepItem a_stepCell a_stepOld a_stepNew a_stepEnd a_adjoints a_tangents a_flow post K S C L hS hC hL
    exact rx_e8 (by omega) hk ha hc hc2 hl hna hS.1 hx0 (by omega) (K S (upd C lp.length 0) (upd L lp.length (nI (min x c))) True.intro (rl_push' hC rfl rfl) (rl_push' hL rfl rfl))
  · intro f_p f_n f_room f_phase f_items f_cursor f_hasTangent f_size f_pending f_factor f_work f_open f_loops f_steps f_faultItem f_nextItem f_nextCell f_top a_kinds a_args a_inputs a_weights a_tangents a_marks a_cell a_dcell a_seen a_val a_der a_start a_counter a_total post kk j m t hj ht K nit ncl cell dcell seen val der start counter total h1 h2 h3 h4 h5 D
    exact ry_k8 ht hpc hN hk ha hl hc hc2 h2.1 hx0 (by omega) (K nit ncl cell dcell seen val der (upd start lp.length (nI pc)) (upd counter lp.length 0) (upd total lp.length (nI (min x c))) h1 True.intro (rl_push' h3 rfl rfl) (rl_push' h4 rfl rfl) (rl_push' h5 rfl rfl) (rc_D_emit hq h1q hn g7 D (fun T Q cT cQ hl hr he => ⟨rk_drop (d := 0) hr, he⟩)))
theorem rk_8z {c : Nat} (hp : ra_pr q) (hn0 : 0 < n) (hn : n ≤ 8) (hN : N ≤ 128) (hpc : pc < N) (hna : na < 1024) (pv : rs_PV q n kd ar N) (hsk : rs_sk kd N = []) (jw : rs_JW kd jm N) (G : rc_G q n N kd ar inp (pc, cells, [0], lp, AC, AL, AR, na, SI, SC, SO, SN, SE, ns)) (hk : kd pc = 8) (ha : ar pc = nI c) (hc : 1 ≤ c) (hc2 : c ≤ 16) (h6 : (rs_sk kd pc).length < 6) : rc_St q n N kd ar jm inp (pc, cells, [0], lp, AC, AL, AR, na, SI, SC, SO, SN, SE, ns) := by
  obtain ⟨g1, g2, g3, g4, g5, g6, g7⟩ := G
  have hq := (ra_pr_lt hp).1
  have h1q : 1 ≤ q := by have := (ra_pr_lt hp).2; omega
  have hl : lp.length < 6 := Nat.lt_of_le_of_lt (rk_len pv hpc g5) h6
  obtain ⟨p, p1, p2, p3, p4, p5, p6⟩ := rs_pj hN pv hsk jw hpc (rs_skO (Or.inr (Or.inl hk)))
  have k11 : kd p = 11 := p5.elim id (fun z => by have := z.2; rw [hk] at this; exact absurd this (by decide))
  refine Or.inl ⟨(p + 1, cells, [], lp, upd AC na 3, upd AL na 0, upd AR na 0, na + 1, SI, SC, SO, SN, SE, ns), ⟨p2, g2, fun x hx => absurd hx (List.not_mem_nil), ?_, ?_, g6, rc_emit g7 hna ⟨Or.inr (Or.inr (Or.inr (Or.inl ⟨rfl, Nat.le_refl _⟩))), show (1 : Nat) ≤ 8 by decide⟩ (by decide) rfl⟩, Nat.le_refl _, ?_, ?_⟩
  · exact (rs_pd0 (pv p p2) (Or.inr k11)).2.symm
  · rw [rs_skX k11, p3]; exact g5
  · intro f_STORE_CELL f_STORE_AT f_OPERATOR f_LOOP f_LOOP_BY f_IF f_ELSE f_END f_ACT_ZERO f_ACT_READ f_ACT_WRITE f_ACT_DROP f_ACT_COMBINE f_ACT_NEGATE f_ACT_COPY f_ACT_EXCHANGE f_prime f_cellCount f_room f_phase f_itemCount f_size f_pending f_factor f_work f_openCount f_openLoops f_depth f_loopDepth f_faultItem f_actCount f_stepCount f_cursor f_hasTangent f_flowDepth a_inputs a_weights a_itemKind a_itemArg a_itemJump a_openItem a_openElse a_openFactor a_cells a_stack a_loopCounter a_loopLimit a_actCode a_actLeft a_actRight a_stepItem a_stepCell a_stepOld a_stepNew a_stepEnd a_adjoints a_tangents a_flow post K S C L hS hC hL
    exact rx_e8z (by omega) hk ha hna hS.1 p4 (K S C L True.intro hC hL) hc2
  · intro f_p f_n f_room f_phase f_items f_cursor f_hasTangent f_size f_pending f_factor f_work f_open f_loops f_steps f_faultItem f_nextItem f_nextCell f_top a_kinds a_args a_inputs a_weights a_tangents a_marks a_cell a_dcell a_seen a_val a_der a_start a_counter a_total post kk j m t hj ht K nit ncl cell dcell seen val der start counter total h1 h2 h3 h4 h5 D
    refine ry_k8z ht hpc hN pv hsk hk ha hl hc hc2 h2.1 (fun p' r1 r2 r3 r4 => ?_)
    have e := p6 p' r2 r3 (Or.inl r4)
    subst e
    exact K nit ncl cell dcell seen val der (upd start lp.length (nI pc)) (upd counter lp.length 0) (upd total lp.length 0) h1 True.intro (rl_up (Nat.le_refl _) h3) (rl_up (Nat.le_refl _) h4) (rl_up (Nat.le_refl _) h5) (rc_D_emit hq h1q hn g7 D (fun T Q cT cQ hl hr he => ⟨rk_drop (d := 0) hr, he⟩))
theorem rk_9t {c x : Nat} (hp : ra_pr q) (hn0 : 0 < n) (hn : n ≤ 8) (hN : N ≤ 128) (hpc : pc < N) (hna : na < 1024) (G : rc_G q n N kd ar inp (pc, cells, [nI x], lp, AC, AL, AR, na, SI, SC, SO, SN, SE, ns)) (hk : kd pc = 9) (ha : ar pc = nI c) (hc : c ≤ 3) (hxq : x < q + 1) (hh : rs_hold q c x = true) : rc_St q n N kd ar jm inp (pc, cells, [nI x], lp, AC, AL, AR, na, SI, SC, SO, SN, SE, ns) := by
  obtain ⟨g1, g2, g3, g4, g5, g6, g7⟩ := G
  have hq := (ra_pr_lt hp).1
  have h1q : 1 ≤ q := by have := (ra_pr_lt hp).2; omega
  refine Or.inl ⟨(pc + 1, cells, [], lp, upd AC na 3, upd AL na 0, upd AR na 0, na + 1, SI, SC, SO, SN, SE, ns), ⟨hpc, g2, fun x hx => absurd hx (List.not_mem_nil), ?_, ?_, g6, rc_emit g7 hna ⟨Or.inr (Or.inr (Or.inr (Or.inl ⟨rfl, Nat.le_refl _⟩))), show (1 : Nat) ≤ 8 by decide⟩ (by decide) rfl⟩, Nat.le_refl _, ?_, ?_⟩
  · show 0 = rs_p1 (kd pc) (ar pc) (rs_pd kd ar pc)
    rw [← g4, hk]; rfl
  · rw [rs_skO (Or.inr (Or.inr hk))]
    show lp.map (fun x => x.1) = if kd pc = 7 ∨ kd pc = 8 then _ else rs_lp kd (rs_sk kd pc)
    rw [if_neg (by rw [hk]; decide), g5]
  · intro f_STORE_CELL f_STORE_AT f_OPERATOR f_LOOP f_LOOP_BY f_IF f_ELSE f_END f_ACT_ZERO f_ACT_READ f_ACT_WRITE f_ACT_DROP f_ACT_COMBINE f_ACT_NEGATE f_ACT_COPY f_ACT_EXCHANGE f_prime f_cellCount f_room f_phase f_itemCount f_size f_pending f_factor f_work f_openCount f_openLoops f_depth f_loopDepth f_faultItem f_actCount f_stepCount f_cursor f_hasTangent f_flowDepth a_inputs a_weights a_itemKind a_itemArg a_itemJump a_openItem a_openElse a_openFactor a_cells a_stack a_loopCounter a_loopLimit a_actCode a_actLeft a_actRight a_stepItem a_stepCell a_stepOld a_stepNew a_stepEnd a_adjoints a_tangents a_flow post K S C L hS hC hL
    exact rx_e9t (by omega) hk ha hc hxq hq hna hS.1 hh (K S C L True.intro hC hL)
  · intro f_p f_n f_room f_phase f_items f_cursor f_hasTangent f_size f_pending f_factor f_work f_open f_loops f_steps f_faultItem f_nextItem f_nextCell f_top a_kinds a_args a_inputs a_weights a_tangents a_marks a_cell a_dcell a_seen a_val a_der a_start a_counter a_total post kk j m t hj ht K nit ncl cell dcell seen val der start counter total h1 h2 h3 h4 h5 D
    exact ry_k9t ht hpc hN hk ha hc hxq hq h2.1 hh (K nit ncl cell dcell seen val der start counter total h1 True.intro h3 h4 h5 (rc_D_emit hq h1q hn g7 D (fun T Q cT cQ hl hr he => ⟨rk_drop (d := 0) hr, he⟩)))
theorem rk_9f {c x : Nat} (hp : ra_pr q) (hn0 : 0 < n) (hn : n ≤ 8) (hN : N ≤ 128) (hpc : pc < N) (hna : na < 1024) (pv : rs_PV q n kd ar N) (hsk : rs_sk kd N = []) (jw : rs_JW kd jm N) (G : rc_G q n N kd ar inp (pc, cells, [nI x], lp, AC, AL, AR, na, SI, SC, SO, SN, SE, ns)) (hk : kd pc = 9) (ha : ar pc = nI c) (hc : c ≤ 3) (hxq : x < q + 1) (hh : rs_hold q c x = false) : rc_St q n N kd ar jm inp (pc, cells, [nI x], lp, AC, AL, AR, na, SI, SC, SO, SN, SE, ns) := by
  obtain ⟨g1, g2, g3, g4, g5, g6, g7⟩ := G
  have hq := (ra_pr_lt hp).1
  have h1q : 1 ≤ q := by have := (ra_pr_lt hp).2; omega
  obtain ⟨p, p1, p2, p3, p4, p5, p6⟩ := rs_pj hN pv hsk jw hpc (rs_skO (Or.inr (Or.inr hk)))
  refine Or.inl ⟨(p + 1, cells, [], lp, upd AC na 3, upd AL na 0, upd AR na 0, na + 1, SI, SC, SO, SN, SE, ns), ⟨p2, g2, fun x hx => absurd hx (List.not_mem_nil), ?_, ?_, g6, rc_emit g7 hna ⟨Or.inr (Or.inr (Or.inr (Or.inl ⟨rfl, Nat.le_refl _⟩))), show (1 : Nat) ≤ 8 by decide⟩ (by decide) rfl⟩, Nat.le_refl _, ?_, ?_⟩
  · exact (rs_pd0 (pv p p2) (p5.elim Or.inr (fun z => Or.inl z.1))).2.symm
  · rcases p5 with z | z
    · rw [rs_skX z, p3]; exact g5
    · rw [rs_skE z.1 p3]
      show lp.map (fun x => x.1) = if kd p = 7 ∨ kd p = 8 then _ else rs_lp kd (rs_sk kd pc)
      rw [if_neg (by rw [z.1]; decide), g5]
  · intro f_STORE_CELL f_STORE_AT f_OPERATOR f_LOOP f_LOOP_BY f_IF f_ELSE f_END f_ACT_ZERO f_ACT_READ f_ACT_WRITE f_ACT_DROP f_ACT_COMBINE f_ACT_NEGATE f_ACT_COPY f_ACT_EXCHANGE f_prime f_cellCount f_room f_phase f_itemCount f_size f_pending f_factor f_work f_openCount f_openLoops f_depth f_loopDepth f_faultItem f_actCount f_stepCount f_cursor f_hasTangent f_flowDepth a_inputs a_weights a_itemKind a_itemArg a_itemJump a_openItem a_openElse a_openFactor a_cells a_stack a_loopCounter a_loopLimit a_actCode a_actLeft a_actRight a_stepItem a_stepCell a_stepOld a_stepNew a_stepEnd a_adjoints a_tangents a_flow post K S C L hS hC hL
    exact rx_e9f (by omega) hk ha hc hxq hq hna hS.1 hh p4 (K S C L True.intro hC hL)
  · intro f_p f_n f_room f_phase f_items f_cursor f_hasTangent f_size f_pending f_factor f_work f_open f_loops f_steps f_faultItem f_nextItem f_nextCell f_top a_kinds a_args a_inputs a_weights a_tangents a_marks a_cell a_dcell a_seen a_val a_der a_start a_counter a_total post kk j m t hj ht K nit ncl cell dcell seen val der start counter total h1 h2 h3 h4 h5 D
    refine ry_k9f ht hpc hN pv hsk hk ha hc hxq hq h2.1 hh (fun p' r1 r2 r3 r4 => ?_)
    have e := p6 p' r2 r3 r4
    subst e
    exact K nit ncl cell dcell seen val der start counter total h1 True.intro h3 h4 h5 (rc_D_emit hq h1q hn g7 D (fun T Q cT cQ hl hr he => ⟨rk_drop (d := 0) hr, he⟩))
theorem rk_10 {o : Nat} {l : List (Nat × Nat)} (hp : ra_pr q) (hn0 : 0 < n) (hn : n ≤ 8) (hN : N ≤ 128) (hpc : pc < N) (hna : na < 1024) (pv : rs_PV q n kd ar N) (hsk : rs_sk kd N = []) (jw : rs_JW kd jm N) (G : rc_G q n N kd ar inp (pc, cells, [], lp, AC, AL, AR, na, SI, SC, SO, SN, SE, ns)) (hk : kd pc = 10) (ho : rs_sk kd pc = (o, o) :: l) (h9 : kd o = 9) : rc_St q n N kd ar jm inp (pc, cells, [], lp, AC, AL, AR, na, SI, SC, SO, SN, SE, ns) := by
  obtain ⟨g1, g2, g3, g4, g5, g6, g7⟩ := G
  have hq := (ra_pr_lt hp).1
  have h1q : 1 ≤ q := by have := (ra_pr_lt hp).2; omega
  have e1 := rs_skE hk ho
  obtain ⟨p, p1, p2, p3, p4, p5, p6⟩ := rs_pj hN pv hsk jw hpc e1
  have k11 : kd p = 11 := p5.elim id (fun z => by have := z.2; rw [hk] at this; exact absurd this (by decide))
  refine Or.inl ⟨(p + 1, cells, [], lp, AC, AL, AR, na, SI, SC, SO, SN, SE, ns), ⟨p2, g2, g3, ?_, ?_, g6, g7⟩, Nat.le_succ _, ?_, ?_⟩
  · exact (rs_pd0 (pv p p2) (Or.inr k11)).2.symm
  · rw [rs_skX k11, p3, g5, ho]
    show (if kd o = 7 ∨ kd o = 8 then _ else rs_lp kd l) = rs_lp kd l
    rw [if_neg (by rw [h9]; decide)]
  · intro f_STORE_CELL f_STORE_AT f_OPERATOR f_LOOP f_LOOP_BY f_IF f_ELSE f_END f_ACT_ZERO f_ACT_READ f_ACT_WRITE f_ACT_DROP f_ACT_COMBINE f_ACT_NEGATE f_ACT_COPY f_ACT_EXCHANGE f_prime f_cellCount f_room f_phase f_itemCount f_size f_pending f_factor f_work f_openCount f_openLoops f_depth f_loopDepth f_faultItem f_actCount f_stepCount f_cursor f_hasTangent f_flowDepth a_inputs a_weights a_itemKind a_itemArg a_itemJump a_openItem a_openElse a_openFactor a_cells a_stack a_loopCounter a_loopLimit a_actCode a_actLeft a_actRight a_stepItem a_stepCell a_stepOld a_stepNew a_stepEnd a_adjoints a_tangents a_flow post K S C L hS hC hL
    exact rx_e10 (by omega) hk rfl p4 (K S C L hS hC hL)
  · intro f_p f_n f_room f_phase f_items f_cursor f_hasTangent f_size f_pending f_factor f_work f_open f_loops f_steps f_faultItem f_nextItem f_nextCell f_top a_kinds a_args a_inputs a_weights a_tangents a_marks a_cell a_dcell a_seen a_val a_der a_start a_counter a_total post kk j m t hj ht K nit ncl cell dcell seen val der start counter total h1 h2 h3 h4 h5 D
    refine ry_k10 ht hpc hN pv hsk hk rfl e1 (fun p' r1 r2 r3 r4 => ?_)
    have e := p6 p' r2 r3 (Or.inl r4)
    subst e
    exact K nit ncl cell dcell seen val der start counter total h1 h2 h3 h4 h5 D
theorem rk_11i {o m0 : Nat} {l : List (Nat × Nat)} (hp : ra_pr q) (hn0 : 0 < n) (hn : n ≤ 8) (hN : N ≤ 128) (hpc : pc < N) (hna : na < 1024) (pv : rs_PV q n kd ar N) (hsk : rs_sk kd N = []) (jw : rs_JW kd jm N) (G : rc_G q n N kd ar inp (pc, cells, [], lp, AC, AL, AR, na, SI, SC, SO, SN, SE, ns)) (hk : kd pc = 11) (ho : rs_sk kd pc = (o, m0) :: l) (hm : ¬ (kd m0 = 7 ∨ kd m0 = 8)) (h9 : kd o = 9) : rc_St q n N kd ar jm inp (pc, cells, [], lp, AC, AL, AR, na, SI, SC, SO, SN, SE, ns) := by
  obtain ⟨g1, g2, g3, g4, g5, g6, g7⟩ := G
  have hq := (ra_pr_lt hp).1
  have h1q : 1 ≤ q := by have := (ra_pr_lt hp).2; omega
  have lt := rs_lt pc (fun t ht => pv t (by omega))
  have lo : o < pc := (lt (o, m0) (by rw [ho]; exact List.mem_cons_self ..)).1
  have J := (jw pc hpc o m0 l ho).2 hk
  refine Or.inl ⟨(pc + 1, cells, [], lp, AC, AL, AR, na, SI, SC, SO, SN, SE, ns), ⟨hpc, g2, g3, ?_, ?_, g6, g7⟩, Nat.le_succ _, ?_, ?_⟩
  · exact (rs_pd0 (pv pc hpc) (Or.inr hk)).2.symm
  · rw [rs_skX hk, g5, ho]
    show (if kd m0 = 7 ∨ kd m0 = 8 then _ else rs_lp kd l) = rs_lp kd l
    rw [if_neg hm]
  · intro f_STORE_CELL f_STORE_AT f_OPERATOR f_LOOP f_LOOP_BY f_IF f_ELSE f_END f_ACT_ZERO f_ACT_READ f_ACT_WRITE f_ACT_DROP f_ACT_COMBINE f_ACT_NEGATE f_ACT_COPY f_ACT_EXCHANGE f_prime f_cellCount f_room f_phase f_itemCount f_size f_pending f_factor f_work f_openCount f_openLoops f_depth f_loopDepth f_faultItem f_actCount f_stepCount f_cursor f_hasTangent f_flowDepth a_inputs a_weights a_itemKind a_itemArg a_itemJump a_openItem a_openElse a_openFactor a_cells a_stack a_loopCounter a_loopLimit a_actCode a_actLeft a_actRight a_stepItem a_stepCell a_stepOld a_stepNew a_stepEnd a_adjoints a_tangents a_flow post K S C L hS hC hL
    exact rx_e11i (by omega) hk rfl J.1 (by omega) h9 (K S C L hS hC hL)
  · intro f_p f_n f_room f_phase f_items f_cursor f_hasTangent f_size f_pending f_factor f_work f_open f_loops f_steps f_faultItem f_nextItem f_nextCell f_top a_kinds a_args a_inputs a_weights a_tangents a_marks a_cell a_dcell a_seen a_val a_der a_start a_counter a_total post kk j m t hj ht K nit ncl cell dcell seen val der start counter total h1 h2 h3 h4 h5 D
    have k := K nit ncl cell dcell seen val der start counter total h1 h2 h3 h4 h5 D
    have h6 : lp.length ≤ 6 := Nat.le_trans (rk_len pv hpc g5) (rs_len pc (fun t ht => pv t (by omega)))
    clear K
    match lp, h3, g5, h6, k with
    | [], _, _, _, k => exact ry_k11z ht hpc hN hk rfl k
    | x :: lp', h3, g5, h6, k =>
      have hs : x.1 ∈ rs_lp kd (rs_sk kd pc) := by rw [← g5]; exact List.mem_cons_self ..
      obtain ⟨y, y1, y2, y3⟩ := rs_lp_mem hs
      have yl := (lt y y1).2
      exact ry_k11i (s := x.1) ht hpc hN pv hsk hk rfl (by rw [List.length_cons] at h6; omega) h3.1 (by omega) y3 ho (fun z => hm (by rw [z]; exact y3)) k
theorem rk_11b {o ct lim : Nat} {l : List (Nat × Nat)} (hp : ra_pr q) (hn0 : 0 < n) (hn : n ≤ 8) (hN : N ≤ 128) (hpc : pc < N) (hna : na < 1024) (pv : rs_PV q n kd ar N) (hsk : rs_sk kd N = []) (jw : rs_JW kd jm N) (G : rc_G q n N kd ar inp (pc, cells, [], (o, ct, lim) :: lp, AC, AL, AR, na, SI, SC, SO, SN, SE, ns)) (hk : kd pc = 11) (ho : rs_sk kd pc = (o, o) :: l) (hm : kd o = 7 ∨ kd o = 8) (hcl : ct + 1 < lim) : rc_St q n N kd ar jm inp (pc, cells, [], (o, ct, lim) :: lp, AC, AL, AR, na, SI, SC, SO, SN, SE, ns) := by
  obtain ⟨g1, g2, g3, g4, g5, g6, g7⟩ := G
  have hq := (ra_pr_lt hp).1
  have h1q : 1 ≤ q := by have := (ra_pr_lt hp).2; omega
  have lt := rs_lt pc (fun t ht => pv t (by omega))
  have lo : o < pc := (lt (o, o) (by rw [ho]; exact List.mem_cons_self ..)).1
  have J := (jw pc hpc o o l ho).2 hk
  have si := rs_si pc (fun t ht => pv t (by omega)) o o l (by rw [ho]; exact List.suffix_refl _)
  have c16 := g6 (o, ct, lim) (List.mem_cons_self ..)
  have c1 : ct < lim := c16.1
  have c2 : lim ≤ 16 := c16.2
  have h6 : lp.length < 6 := Nat.lt_of_lt_of_le (Nat.lt_succ_self _) (Nat.le_trans (rk_len pv hpc g5) (rs_len pc (fun t ht => pv t (by omega))))
  have n9 : ¬ kd o = 9 := by rcases hm with z | z <;> rw [z] <;> decide
  have g5' : lp.map (fun x => x.1) = rs_lp kd l := by
    rw [ho] at g5
    have g5'' : o :: lp.map (fun x => x.1) = if kd o = 7 ∨ kd o = 8 then o :: rs_lp kd l else _ := g5
    rw [if_pos hm] at g5''
    injection g5''
  have hjm : ∀ j, o < j → j < N → rs_sk kd j = (o, o) :: rs_sk kd o → kd j = 11 → j = pc := by
    intro j r1 r2 r3 r4
    have J' := ((jw j r2 o o _ r3).2 r4).2
    rw [J.2, nI_eq (by omega) (by omega)] at J'
    omega
  refine Or.inl ⟨(o + 1, cells, [], (o, ct + 1, lim) :: lp, AC, AL, AR, na, SI, SC, SO, SN, SE, ns), ⟨by omega, g2, g3, ?_, ?_, ?_, g7⟩, Nat.le_succ _, ?_, ?_⟩
  · show 0 = rs_p1 (kd o) (ar o) (rs_pd kd ar o)
    rcases hm with z | z
    · have : rs_pd kd ar o = 0 := by
        rcases pv o (by omega) with ⟨e, k, _⟩ | ⟨e | e, k, _⟩ | ⟨e, k, _⟩ | ⟨e | e, k, _⟩ | ⟨e, _⟩ | ⟨e, _⟩ | ⟨e, _⟩ | ⟨e, k, _⟩ | ⟨e, k, _⟩ | ⟨e, k, _⟩ | ⟨e, k, _⟩ | ⟨e, k, _⟩ <;> first | exact k | (rw [z] at e; exact absurd e (by decide))
      rw [this, z]; rfl
    · have : rs_pd kd ar o = 1 := by
        rcases pv o (by omega) with ⟨e, k, _⟩ | ⟨e | e, k, _⟩ | ⟨e, k, _⟩ | ⟨e | e, k, _⟩ | ⟨e, _⟩ | ⟨e, _⟩ | ⟨e, _⟩ | ⟨e, k, _⟩ | ⟨e, k, _⟩ | ⟨e, k, _⟩ | ⟨e, k, _⟩ | ⟨e, k, _⟩ <;> first | (rw [z] at e; exact absurd e (by decide)) | exact k
      rw [this, z]; rfl
  · rw [rs_skO (hm.elim Or.inl (fun z => Or.inr (Or.inl z)))]
    show o :: lp.map (fun x => x.1) = if kd o = 7 ∨ kd o = 8 then o :: rs_lp kd (rs_sk kd o) else _
    rw [if_pos hm, si.2.2.1, g5']
  · intro y hy
    rcases List.mem_cons.mp hy with e | e
    · rw [e]; exact ⟨hcl, c2⟩
    · exact g6 y (List.mem_cons_of_mem _ e)
  · intro f_STORE_CELL f_STORE_AT f_OPERATOR f_LOOP f_LOOP_BY f_IF f_ELSE f_END f_ACT_ZERO f_ACT_READ f_ACT_WRITE f_ACT_DROP f_ACT_COMBINE f_ACT_NEGATE f_ACT_COPY f_ACT_EXCHANGE f_prime f_cellCount f_room f_phase f_itemCount f_size f_pending f_factor f_work f_openCount f_openLoops f_depth f_loopDepth f_faultItem f_actCount f_stepCount f_cursor f_hasTangent f_flowDepth a_inputs a_weights a_itemKind a_itemArg a_itemJump a_openItem a_openElse a_openFactor a_cells a_stack a_loopCounter a_loopLimit a_actCode a_actLeft a_actRight a_stepItem a_stepCell a_stepOld a_stepNew a_stepEnd a_adjoints a_tangents a_flow post K S C L hS hC hL
    exact rx_e11b (ct := ct) (lim := lim) (by omega) hk rfl J.1 (by omega) n9 h6 hC.1 hL.1 c2 c1 hcl (K S (upd C lp.length (nI (ct + 1))) L hS (rl_push' hC.2 rfl rfl) hL)
  · intro f_p f_n f_room f_phase f_items f_cursor f_hasTangent f_size f_pending f_factor f_work f_open f_loops f_steps f_faultItem f_nextItem f_nextCell f_top a_kinds a_args a_inputs a_weights a_tangents a_marks a_cell a_dcell a_seen a_val a_der a_start a_counter a_total post kk j m t hj ht K nit ncl cell dcell seen val der start counter total h1 h2 h3 h4 h5 D
    exact ry_k11b (ct := ct) (lim := lim) ht hpc hN pv hsk hk rfl h6 h3.1 (by omega) hm hjm h4.1 h5.1 c2 c1 hcl (K nit ncl cell dcell seen val der start (upd counter lp.length (nI (ct + 1))) total h1 h2 h3 (rl_push' h4.2 rfl rfl) h5 D)
theorem rk_11x {o ct lim : Nat} {l : List (Nat × Nat)} (hp : ra_pr q) (hn0 : 0 < n) (hn : n ≤ 8) (hN : N ≤ 128) (hpc : pc < N) (hna : na < 1024) (pv : rs_PV q n kd ar N) (hsk : rs_sk kd N = []) (jw : rs_JW kd jm N) (G : rc_G q n N kd ar inp (pc, cells, [], (o, ct, lim) :: lp, AC, AL, AR, na, SI, SC, SO, SN, SE, ns)) (hk : kd pc = 11) (ho : rs_sk kd pc = (o, o) :: l) (hm : kd o = 7 ∨ kd o = 8) (hcl : lim ≤ ct + 1) : rc_St q n N kd ar jm inp (pc, cells, [], (o, ct, lim) :: lp, AC, AL, AR, na, SI, SC, SO, SN, SE, ns) := by
  obtain ⟨g1, g2, g3, g4, g5, g6, g7⟩ := G
  have hq := (ra_pr_lt hp).1
  have h1q : 1 ≤ q := by have := (ra_pr_lt hp).2; omega
  have lt := rs_lt pc (fun t ht => pv t (by omega))
  have lo : o < pc := (lt (o, o) (by rw [ho]; exact List.mem_cons_self ..)).1
  have J := (jw pc hpc o o l ho).2 hk
  have si := rs_si pc (fun t ht => pv t (by omega)) o o l (by rw [ho]; exact List.suffix_refl _)
  have c16 := g6 (o, ct, lim) (List.mem_cons_self ..)
  have c1 : ct < lim := c16.1
  have c2 : lim ≤ 16 := c16.2
  have h6 : lp.length < 6 := Nat.lt_of_lt_of_le (Nat.lt_succ_self _) (Nat.le_trans (rk_len pv hpc g5) (rs_len pc (fun t ht => pv t (by omega))))
  have n9 : ¬ kd o = 9 := by rcases hm with z | z <;> rw [z] <;> decide
  have g5' : lp.map (fun x => x.1) = rs_lp kd l := by
    rw [ho] at g5
    have g5'' : o :: lp.map (fun x => x.1) = if kd o = 7 ∨ kd o = 8 then o :: rs_lp kd l else _ := g5
    rw [if_pos hm] at g5''
    injection g5''
  have hjm : ∀ j, o < j → j < N → rs_sk kd j = (o, o) :: rs_sk kd o → kd j = 11 → j = pc := by
    intro j r1 r2 r3 r4
    have J' := ((jw j r2 o o _ r3).2 r4).2
    rw [J.2, nI_eq (by omega) (by omega)] at J'
    omega
  refine Or.inl ⟨(pc + 1, cells, [], lp, AC, AL, AR, na, SI, SC, SO, SN, SE, ns), ⟨hpc, g2, g3, ?_, ?_, ?_, g7⟩, Nat.le_succ _, ?_, ?_⟩
  · exact (rs_pd0 (pv pc hpc) (Or.inr hk)).2.symm
  · rw [rs_skX hk, ho]; exact g5'
  · exact fun y hy => g6 y (List.mem_cons_of_mem _ hy)
  · intro f_STORE_CELL f_STORE_AT f_OPERATOR f_LOOP f_LOOP_BY f_IF f_ELSE f_END f_ACT_ZERO f_ACT_READ f_ACT_WRITE f_ACT_DROP f_ACT_COMBINE f_ACT_NEGATE f_ACT_COPY f_ACT_EXCHANGE f_prime f_cellCount f_room f_phase f_itemCount f_size f_pending f_factor f_work f_openCount f_openLoops f_depth f_loopDepth f_faultItem f_actCount f_stepCount f_cursor f_hasTangent f_flowDepth a_inputs a_weights a_itemKind a_itemArg a_itemJump a_openItem a_openElse a_openFactor a_cells a_stack a_loopCounter a_loopLimit a_actCode a_actLeft a_actRight a_stepItem a_stepCell a_stepOld a_stepNew a_stepEnd a_adjoints a_tangents a_flow post K S C L hS hC hL
    exact rx_e11x (ct := ct) (lim := lim) (by omega) hk rfl J.1 (by omega) n9 h6 hC.1 hL.1 c2 c1 hcl (K S (upd C lp.length (nI (ct + 1))) L hS (rl_up (Nat.le_refl _) hC.2) hL.2)
  · intro f_p f_n f_room f_phase f_items f_cursor f_hasTangent f_size f_pending f_factor f_work f_open f_loops f_steps f_faultItem f_nextItem f_nextCell f_top a_kinds a_args a_inputs a_weights a_tangents a_marks a_cell a_dcell a_seen a_val a_der a_start a_counter a_total post kk j m t hj ht K nit ncl cell dcell seen val der start counter total h1 h2 h3 h4 h5 D
    exact ry_k11x (ct := ct) (lim := lim) ht hpc hN pv hsk hk rfl h6 h3.1 (by omega) hm hjm h4.1 h5.1 c2 c1 hcl (K nit ncl cell dcell seen val der start (upd counter lp.length (nI (ct + 1))) total h1 h2 h3.2 (rl_up (Nat.le_refl _) h4.2) h5.2 D)
end
end
section
/-! whole runs -/
section
variable {q n N : Nat} {kd ar jm inp : rc_F}
theorem rk_all (hp : ra_pr q) (hn0 : 0 < n) (hn : n ≤ 8) (hN : N ≤ 128) (pv : rs_PV q n kd ar N) (hsk : rs_sk kd N = []) (jw : rs_JW kd jm N) : ∀ (c : rc_C), rc_G q n N kd ar inp c → c.1 < N → c.2.2.2.2.2.2.2.1 < 1024 → rc_St q n N kd ar jm inp c
  | (pc, cells, st, lp, AC, AL, AR, na, SI, SC, SO, SN, SE, ns), G, hpc, hna => by
    have hq := (ra_pr_lt hp).1
    have hpc : pc < N := hpc
    have hna : na < 1024 := hna
    have g3 := G.2.2.1
    have g4 := G.2.2.2.1
    have g5 := G.2.2.2.2.1
    have pd8 := rs_pd8 pc (fun t ht => pv t (by omega))
    have one : rs_pd kd ar pc = 1 → ∃ x, x < q + 1 ∧ st = [nI x] := by
      intro h
      rw [← g4] at h
      match st, h, g3 with
      | [v], _, g3 =>
        obtain ⟨x, h1, h2⟩ := ra_Cn_get (g3 v (List.mem_cons_self ..)) hq
        exact ⟨x, h1, by rw [h2]⟩
      | [], h, _ => exact absurd h (by simp)
      | _ :: _ :: _, h, _ => exact absurd h (by simp)
    have nil : rs_pd kd ar pc = 0 → st = [] := by
      intro h
      rw [← g4] at h
      exact List.eq_nil_of_length_eq_zero h
    have two : 2 ≤ rs_pd kd ar pc → ∃ b a st', st = b :: a :: st' ∧ st'.length + 2 ≤ 8 := by
      intro h
      rw [← g4] at h pd8
      match st, h, pd8 with
      | b :: a :: st', h, pd8 => exact ⟨b, a, st', rfl, pd8⟩
      | [], h, _ => exact absurd h (by simp)
      | [_], h, _ => exact absurd h (by simp)
    have cons : 1 ≤ rs_pd kd ar pc → ∃ b st', st = b :: st' ∧ st'.length + 1 = rs_pd kd ar pc := by
      intro h
      rw [← g4] at h ⊢
      match st, h with
      | b :: st', h => exact ⟨b, st', rfl, rfl⟩
      | [], h => exact absurd h (by simp)
    rcases pv pc hpc with ⟨e, k, ca⟩ | ⟨e | e, k, i, hi, ea⟩ | ⟨e, k, i, hi, ea⟩ | ⟨e | e, k, i, hi, ea⟩ | ⟨e, eo, k⟩ | ⟨e, eo, k⟩ | ⟨e, eo, k, k8⟩ | ⟨e, k, l6, i, i1, i2, ea⟩ | ⟨e, k, l6, i, i1, i2, ea⟩ | ⟨e, k, l6, i, i1, ea⟩ | ⟨e, k, o, l, s0, s9⟩ | ⟨e, k, o, m, l, s0⟩
    · exact rk_0 hp hn0 hn hN hpc hna G e (by omega) ca
    · exact rk_1 hp hn0 hn hN hpc hna G e (by omega) hi ea
    · exact rk_2 hp hn0 hn hN hpc hna G e (by omega) hi ea
    · exact rk_3 hp hn0 hn hN hpc hna pv G e (by omega) hi ea
    · obtain ⟨x, _, rfl⟩ := one k; exact rk_4 hp hn0 hn hN hpc hna G e hi ea
    · obtain ⟨x, _, rfl⟩ := one k; exact rk_5 hp hn0 hn hN hpc hna G e hi ea
    · obtain ⟨b, a, st', rfl, l8⟩ := two k
      rcases eo with eo | eo | eo | eo | eo
      · exact rk_6_0 hp hn0 hn hN hpc hna G e eo l8
      · exact rk_6_1 hp hn0 hn hN hpc hna G e eo l8
      · exact rk_6_2 hp hn0 hn hN hpc hna G e eo l8
      · obtain ⟨x, h1, rfl⟩ := ra_Cn_get (g3 b (List.mem_cons_self ..)) hq
        by_cases hx : x = 0
        · subst hx; exact rk_6_3f hp hn0 hn hN hpc hna G e eo l8
        · exact rk_6_3 hp hn0 hn hN hpc hna G e eo l8 (by omega) h1
      · exact rk_6_6 hp hn0 hn hN hpc hna G e eo l8
    · obtain ⟨b, st', rfl, l8⟩ := cons k; exact rk_6_4 hp hn0 hn hN hpc hna G e eo (by omega)
    · obtain ⟨b, st', rfl, l8⟩ := cons k; exact rk_6_5 hp hn0 hn hN hpc hna G e eo (by omega)
    · obtain rfl := nil k; exact rk_7 hp hn0 hn hN hpc hna pv G e ea i1 i2 l6
    · obtain ⟨x, hx, rfl⟩ := one k
      by_cases h0 : x = 0
      · subst h0; exact rk_8z hp hn0 hn hN hpc hna pv hsk jw G e ea i1 i2 l6
      · exact rk_8 hp hn0 hn hN hpc hna pv G e ea i1 i2 l6 (by omega) hx
    · obtain ⟨x, hx, rfl⟩ := one k
      cases hh : rs_hold q i x with
      | true => exact rk_9t hp hn0 hn hN hpc hna G e ea i1 hx hh
      | false => exact rk_9f hp hn0 hn hN hpc hna pv hsk jw G e ea i1 hx hh
    · obtain rfl := nil k; exact rk_10 hp hn0 hn hN hpc hna pv hsk jw G e s0 s9
    · obtain rfl := nil k
      have si := rs_si pc (fun t ht => pv t (by omega)) o m l (by rw [s0]; exact List.suffix_refl _)
      by_cases hm : kd m = 7 ∨ kd m = 8
      · have em : m = o := si.2.2.2.2.1.elim id (fun z => by have := z.1; rcases hm with y | y <;> rw [y] at this <;> exact absurd this (by decide))
        subst em
        rw [s0] at g5
        have g5' : lp.map (fun x => x.1) = if kd m = 7 ∨ kd m = 8 then m :: rs_lp kd l else _ := g5
        rw [if_pos hm] at g5'
        match lp, g5', G with
        | (o', ct, lim) :: lp', g5', G =>
          injection g5' with e1 e2
          have e1 : o' = m := e1
          subst e1
          by_cases hc : ct + 1 < lim
          · exact rk_11b hp hn0 hn hN hpc hna pv hsk jw G e s0 hm hc
          · exact rk_11x hp hn0 hn hN hpc hna pv hsk jw G e s0 hm (by omega)
        | [], g5', _ => exact absurd g5' (by simp)
      · refine rk_11i hp hn0 hn hN hpc hna pv hsk jw G e s0 hm ?_
        rcases si.2.2.2.2.1 with z | z
        · rcases si.2.2.2.1 with y | y | y
          · exact absurd (Or.inl (by rw [z]; exact y)) hm
          · exact absurd (Or.inr (by rw [z]; exact y)) hm
          · exact y
        · exact z.2
/-- M rounds from c to c' -/
def rc_R (q n N : Nat) (kd ar inp : rc_F) : Nat → rc_C → rc_C → Prop
  | 0, c, c' => c = c'
  | M + 1, c, c' => ∃ c1, c.1 < N ∧ rc_YW q n N kd ar inp c c1 ∧ rc_R q n N kd ar inp M c1 c'
/-- X's execute from c, k rounds left: the end of the run, or a fault -/
theorem rk_ex (hp : ra_pr q) (hn0 : 0 < n) (hn : n ≤ 8) (hN : N ≤ 128) (pv : rs_PV q n kd ar N) (hsk : rs_sk kd N = []) (jw : rs_JW kd jm N) : ∀ (k : Nat) (c : rc_C) (t : Nat), t + k = 1024 → rc_G q n N kd ar inp c → c.2.2.2.2.2.2.2.1 ≤ t →
    (∃ M c', t + M ≤ 1024 ∧ (t + M = 1024 ∨ N ≤ c'.1) ∧ rc_R q n N kd ar inp M c c' ∧ rc_G q n N kd ar inp c' ∧ ∀ (f_STORE_CELL f_STORE_AT f_OPERATOR f_LOOP f_LOOP_BY f_IF f_ELSE f_END f_ACT_ZERO f_ACT_READ f_ACT_WRITE f_ACT_DROP f_ACT_COMBINE f_ACT_NEGATE f_ACT_COPY f_ACT_EXCHANGE f_prime f_cellCount f_room f_phase f_itemCount f_size f_pending f_factor f_work f_openCount f_openLoops f_depth f_loopDepth f_faultItem f_actCount f_stepCount f_cursor f_hasTangent f_flowDepth : Int32) (a_inputs a_weights a_itemKind a_itemArg a_itemJump a_openItem a_openElse a_openFactor a_cells a_stack a_loopCounter a_loopLimit a_actCode a_actLeft a_actRight a_stepItem a_stepCell a_stepOld a_stepNew a_stepEnd a_adjoints a_tangents a_flow : Nat → Int32) (post : Int32 → SX → Prop), rc_X c' (f_STORE_CELL, f_STORE_AT, f_OPERATOR, f_LOOP, f_LOOP_BY, f_IF, f_ELSE, f_END, f_ACT_ZERO, f_ACT_READ, f_ACT_WRITE, f_ACT_DROP, f_ACT_COMBINE, f_ACT_NEGATE, f_ACT_COPY, f_ACT_EXCHANGE, nI (q + 1), nI n, f_room, f_phase, nI N, f_size, f_pending, f_factor, f_work, f_openCount, f_openLoops, f_depth, f_loopDepth, f_faultItem, f_actCount, f_stepCount, f_cursor, f_hasTangent, f_flowDepth, a_inputs, a_weights, kd, ar, jm, a_openItem, a_openElse, a_openFactor, a_cells, a_stack, a_loopCounter, a_loopLimit, a_actCode, a_actLeft, a_actRight, a_stepItem, a_stepCell, a_stepOld, a_stepNew, a_stepEnd, a_adjoints, a_tangents, a_flow) (post 1) → rc_X c (f_STORE_CELL, f_STORE_AT, f_OPERATOR, f_LOOP, f_LOOP_BY, f_IF, f_ELSE, f_END, f_ACT_ZERO, f_ACT_READ, f_ACT_WRITE, f_ACT_DROP, f_ACT_COMBINE, f_ACT_NEGATE, f_ACT_COPY, f_ACT_EXCHANGE, nI (q + 1), nI n, f_room, f_phase, nI N, f_size, f_pending, f_factor, f_work, f_openCount, f_openLoops, f_depth, f_loopDepth, f_faultItem, f_actCount, f_stepCount, f_cursor, f_hasTangent, f_flowDepth, a_inputs, a_weights, kd, ar, jm, a_openItem, a_openElse, a_openFactor, a_cells, a_stack, a_loopCounter, a_loopLimit, a_actCode, a_actLeft, a_actRight, a_stepItem, a_stepCell, a_stepOld, a_stepNew, a_stepEnd, a_adjoints, a_tangents, a_flow) (fun w => match w with | (f_STORE_CELL, f_STORE_AT, f_OPERATOR, f_LOOP, f_LOOP_BY, f_IF, f_ELSE, f_END, f_ACT_ZERO, f_ACT_READ, f_ACT_WRITE, f_ACT_DROP, f_ACT_COMBINE, f_ACT_NEGATE, f_ACT_COPY, f_ACT_EXCHANGE, f_prime, f_cellCount, f_room, f_phase, f_itemCount, f_size, f_pending, f_factor, f_work, f_openCount, f_openLoops, f_depth, f_loopDepth, f_faultItem, f_actCount, f_stepCount, f_cursor, f_hasTangent, f_flowDepth, a_inputs, a_weights, a_itemKind, a_itemArg, a_itemJump, a_openItem, a_openElse, a_openFactor, a_cells, a_stack, a_loopCounter, a_loopLimit, a_actCode, a_actLeft, a_actRight, a_stepItem, a_stepCell, a_stepOld, a_stepNew, a_stepEnd, a_adjoints, a_tangents, a_flow) => wX_execute_4 post (k + 1) (nI c.1) (nI t) f_STORE_CELL f_STORE_AT f_OPERATOR f_LOOP f_LOOP_BY f_IF f_ELSE f_END f_ACT_ZERO f_ACT_READ f_ACT_WRITE f_ACT_DROP f_ACT_COMBINE f_ACT_NEGATE f_ACT_COPY f_ACT_EXCHANGE f_prime f_cellCount f_room f_phase f_itemCount f_size f_pending f_factor f_work f_openCount f_openLoops f_depth f_loopDepth f_faultItem f_actCount f_stepCount f_cursor f_hasTangent f_flowDepth a_inputs a_weights a_itemKind a_itemArg a_itemJump a_openItem a_openElse a_openFactor a_cells a_stack a_loopCounter a_loopLimit a_actCode a_actLeft a_actRight a_stepItem a_stepCell a_stepOld a_stepNew a_stepEnd a_adjoints a_tangents a_flow))
    ∨ (∃ M c', t + M < 1024 ∧ c'.1 < N ∧ rc_R q n N kd ar inp M c c' ∧ rc_YD q n N kd ar inp c' ∧ ∀ (f_STORE_CELL f_STORE_AT f_OPERATOR f_LOOP f_LOOP_BY f_IF f_ELSE f_END f_ACT_ZERO f_ACT_READ f_ACT_WRITE f_ACT_DROP f_ACT_COMBINE f_ACT_NEGATE f_ACT_COPY f_ACT_EXCHANGE f_prime f_cellCount f_room f_phase f_itemCount f_size f_pending f_factor f_work f_openCount f_openLoops f_depth f_loopDepth f_faultItem f_actCount f_stepCount f_cursor f_hasTangent f_flowDepth : Int32) (a_inputs a_weights a_itemKind a_itemArg a_itemJump a_openItem a_openElse a_openFactor a_cells a_stack a_loopCounter a_loopLimit a_actCode a_actLeft a_actRight a_stepItem a_stepCell a_stepOld a_stepNew a_stepEnd a_adjoints a_tangents a_flow : Nat → Int32) (post : Int32 → SX → Prop), rc_XF c' (f_STORE_CELL, f_STORE_AT, f_OPERATOR, f_LOOP, f_LOOP_BY, f_IF, f_ELSE, f_END, f_ACT_ZERO, f_ACT_READ, f_ACT_WRITE, f_ACT_DROP, f_ACT_COMBINE, f_ACT_NEGATE, f_ACT_COPY, f_ACT_EXCHANGE, nI (q + 1), nI n, f_room, f_phase, nI N, f_size, f_pending, f_factor, f_work, f_openCount, f_openLoops, f_depth, f_loopDepth, nI c'.1, f_actCount, f_stepCount, f_cursor, f_hasTangent, f_flowDepth, a_inputs, a_weights, kd, ar, jm, a_openItem, a_openElse, a_openFactor, a_cells, a_stack, a_loopCounter, a_loopLimit, a_actCode, a_actLeft, a_actRight, a_stepItem, a_stepCell, a_stepOld, a_stepNew, a_stepEnd, a_adjoints, a_tangents, a_flow) (post 0) → rc_X c (f_STORE_CELL, f_STORE_AT, f_OPERATOR, f_LOOP, f_LOOP_BY, f_IF, f_ELSE, f_END, f_ACT_ZERO, f_ACT_READ, f_ACT_WRITE, f_ACT_DROP, f_ACT_COMBINE, f_ACT_NEGATE, f_ACT_COPY, f_ACT_EXCHANGE, nI (q + 1), nI n, f_room, f_phase, nI N, f_size, f_pending, f_factor, f_work, f_openCount, f_openLoops, f_depth, f_loopDepth, f_faultItem, f_actCount, f_stepCount, f_cursor, f_hasTangent, f_flowDepth, a_inputs, a_weights, kd, ar, jm, a_openItem, a_openElse, a_openFactor, a_cells, a_stack, a_loopCounter, a_loopLimit, a_actCode, a_actLeft, a_actRight, a_stepItem, a_stepCell, a_stepOld, a_stepNew, a_stepEnd, a_adjoints, a_tangents, a_flow) (fun w => match w with | (f_STORE_CELL, f_STORE_AT, f_OPERATOR, f_LOOP, f_LOOP_BY, f_IF, f_ELSE, f_END, f_ACT_ZERO, f_ACT_READ, f_ACT_WRITE, f_ACT_DROP, f_ACT_COMBINE, f_ACT_NEGATE, f_ACT_COPY, f_ACT_EXCHANGE, f_prime, f_cellCount, f_room, f_phase, f_itemCount, f_size, f_pending, f_factor, f_work, f_openCount, f_openLoops, f_depth, f_loopDepth, f_faultItem, f_actCount, f_stepCount, f_cursor, f_hasTangent, f_flowDepth, a_inputs, a_weights, a_itemKind, a_itemArg, a_itemJump, a_openItem, a_openElse, a_openFactor, a_cells, a_stack, a_loopCounter, a_loopLimit, a_actCode, a_actLeft, a_actRight, a_stepItem, a_stepCell, a_stepOld, a_stepNew, a_stepEnd, a_adjoints, a_tangents, a_flow) => wX_execute_4 post (k + 1) (nI c.1) (nI t) f_STORE_CELL f_STORE_AT f_OPERATOR f_LOOP f_LOOP_BY f_IF f_ELSE f_END f_ACT_ZERO f_ACT_READ f_ACT_WRITE f_ACT_DROP f_ACT_COMBINE f_ACT_NEGATE f_ACT_COPY f_ACT_EXCHANGE f_prime f_cellCount f_room f_phase f_itemCount f_size f_pending f_factor f_work f_openCount f_openLoops f_depth f_loopDepth f_faultItem f_actCount f_stepCount f_cursor f_hasTangent f_flowDepth a_inputs a_weights a_itemKind a_itemArg a_itemJump a_openItem a_openElse a_openFactor a_cells a_stack a_loopCounter a_loopLimit a_actCode a_actLeft a_actRight a_stepItem a_stepCell a_stepOld a_stepNew a_stepEnd a_adjoints a_tangents a_flow))
  | 0, (pc, cells, st, lp, AC, AL, AR, na, SI, SC, SO, SN, SE, ns), t, ht, G, hna => by
    refine Or.inl ⟨0, (pc, cells, st, lp, AC, AL, AR, na, SI, SC, SO, SN, SE, ns), by omega, Or.inl (by omega), rfl, G, ?_⟩
    intro f_STORE_CELL f_STORE_AT f_OPERATOR f_LOOP f_LOOP_BY f_IF f_ELSE f_END f_ACT_ZERO f_ACT_READ f_ACT_WRITE f_ACT_DROP f_ACT_COMBINE f_ACT_NEGATE f_ACT_COPY f_ACT_EXCHANGE f_prime f_cellCount f_room f_phase f_itemCount f_size f_pending f_factor f_work f_openCount f_openLoops f_depth f_loopDepth f_faultItem f_actCount f_stepCount f_cursor f_hasTangent f_flowDepth a_inputs a_weights a_itemKind a_itemArg a_itemJump a_openItem a_openElse a_openFactor a_cells a_stack a_loopCounter a_loopLimit a_actCode a_actLeft a_actRight a_stepItem a_stepCell a_stepOld a_stepNew a_stepEnd a_adjoints a_tangents a_flow post K S C L hS hC hL
    exact br_t (nI_le (a := 1024) (b := t) (by omega) (by omega)) (K S C L hS hC hL)
  | k + 1, (pc, cells, st, lp, AC, AL, AR, na, SI, SC, SO, SN, SE, ns), t, ht, G, hna => by
    have hna : na ≤ t := hna
    have pcN : pc ≤ N := G.1
    by_cases hpc : pc < N
    · rcases rk_all hp hn0 hn hN pv hsk jw (pc, cells, st, lp, AC, AL, AR, na, SI, SC, SO, SN, SE, ns) G hpc (show na < 1024 by omega) with ⟨c1, G1, n1, xw, yw⟩ | ⟨xd, yd⟩
      · have n1' : c1.2.2.2.2.2.2.2.1 ≤ na + 1 := n1
        have stp : ∀ (f_STORE_CELL f_STORE_AT f_OPERATOR f_LOOP f_LOOP_BY f_IF f_ELSE f_END f_ACT_ZERO f_ACT_READ f_ACT_WRITE f_ACT_DROP f_ACT_COMBINE f_ACT_NEGATE f_ACT_COPY f_ACT_EXCHANGE f_prime f_cellCount f_room f_phase f_itemCount f_size f_pending f_factor f_work f_openCount f_openLoops f_depth f_loopDepth f_faultItem f_actCount f_stepCount f_cursor f_hasTangent f_flowDepth : Int32) (a_inputs a_weights a_itemKind a_itemArg a_itemJump a_openItem a_openElse a_openFactor a_cells a_stack a_loopCounter a_loopLimit a_actCode a_actLeft a_actRight a_stepItem a_stepCell a_stepOld a_stepNew a_stepEnd a_adjoints a_tangents a_flow : Nat → Int32) (post : Int32 → SX → Prop), rc_X c1 (f_STORE_CELL, f_STORE_AT, f_OPERATOR, f_LOOP, f_LOOP_BY, f_IF, f_ELSE, f_END, f_ACT_ZERO, f_ACT_READ, f_ACT_WRITE, f_ACT_DROP, f_ACT_COMBINE, f_ACT_NEGATE, f_ACT_COPY, f_ACT_EXCHANGE, nI (q + 1), nI n, f_room, f_phase, nI N, f_size, f_pending, f_factor, f_work, f_openCount, f_openLoops, f_depth, f_loopDepth, f_faultItem, f_actCount, f_stepCount, f_cursor, f_hasTangent, f_flowDepth, a_inputs, a_weights, kd, ar, jm, a_openItem, a_openElse, a_openFactor, a_cells, a_stack, a_loopCounter, a_loopLimit, a_actCode, a_actLeft, a_actRight, a_stepItem, a_stepCell, a_stepOld, a_stepNew, a_stepEnd, a_adjoints, a_tangents, a_flow) (fun w => match w with | (f_STORE_CELL, f_STORE_AT, f_OPERATOR, f_LOOP, f_LOOP_BY, f_IF, f_ELSE, f_END, f_ACT_ZERO, f_ACT_READ, f_ACT_WRITE, f_ACT_DROP, f_ACT_COMBINE, f_ACT_NEGATE, f_ACT_COPY, f_ACT_EXCHANGE, f_prime, f_cellCount, f_room, f_phase, f_itemCount, f_size, f_pending, f_factor, f_work, f_openCount, f_openLoops, f_depth, f_loopDepth, f_faultItem, f_actCount, f_stepCount, f_cursor, f_hasTangent, f_flowDepth, a_inputs, a_weights, a_itemKind, a_itemArg, a_itemJump, a_openItem, a_openElse, a_openFactor, a_cells, a_stack, a_loopCounter, a_loopLimit, a_actCode, a_actLeft, a_actRight, a_stepItem, a_stepCell, a_stepOld, a_stepNew, a_stepEnd, a_adjoints, a_tangents, a_flow) => wX_execute_4 post (k + 1) (nI c1.1) (nI (t + 1)) f_STORE_CELL f_STORE_AT f_OPERATOR f_LOOP f_LOOP_BY f_IF f_ELSE f_END f_ACT_ZERO f_ACT_READ f_ACT_WRITE f_ACT_DROP f_ACT_COMBINE f_ACT_NEGATE f_ACT_COPY f_ACT_EXCHANGE f_prime f_cellCount f_room f_phase f_itemCount f_size f_pending f_factor f_work f_openCount f_openLoops f_depth f_loopDepth f_faultItem f_actCount f_stepCount f_cursor f_hasTangent f_flowDepth a_inputs a_weights a_itemKind a_itemArg a_itemJump a_openItem a_openElse a_openFactor a_cells a_stack a_loopCounter a_loopLimit a_actCode a_actLeft a_actRight a_stepItem a_stepCell a_stepOld a_stepNew a_stepEnd a_adjoints a_tangents a_flow) → rc_X (pc, cells, st, lp, AC, AL, AR, na, SI, SC, SO, SN, SE, ns) (f_STORE_CELL, f_STORE_AT, f_OPERATOR, f_LOOP, f_LOOP_BY, f_IF, f_ELSE, f_END, f_ACT_ZERO, f_ACT_READ, f_ACT_WRITE, f_ACT_DROP, f_ACT_COMBINE, f_ACT_NEGATE, f_ACT_COPY, f_ACT_EXCHANGE, nI (q + 1), nI n, f_room, f_phase, nI N, f_size, f_pending, f_factor, f_work, f_openCount, f_openLoops, f_depth, f_loopDepth, f_faultItem, f_actCount, f_stepCount, f_cursor, f_hasTangent, f_flowDepth, a_inputs, a_weights, kd, ar, jm, a_openItem, a_openElse, a_openFactor, a_cells, a_stack, a_loopCounter, a_loopLimit, a_actCode, a_actLeft, a_actRight, a_stepItem, a_stepCell, a_stepOld, a_stepNew, a_stepEnd, a_adjoints, a_tangents, a_flow) (fun w => match w with | (f_STORE_CELL, f_STORE_AT, f_OPERATOR, f_LOOP, f_LOOP_BY, f_IF, f_ELSE, f_END, f_ACT_ZERO, f_ACT_READ, f_ACT_WRITE, f_ACT_DROP, f_ACT_COMBINE, f_ACT_NEGATE, f_ACT_COPY, f_ACT_EXCHANGE, f_prime, f_cellCount, f_room, f_phase, f_itemCount, f_size, f_pending, f_factor, f_work, f_openCount, f_openLoops, f_depth, f_loopDepth, f_faultItem, f_actCount, f_stepCount, f_cursor, f_hasTangent, f_flowDepth, a_inputs, a_weights, a_itemKind, a_itemArg, a_itemJump, a_openItem, a_openElse, a_openFactor, a_cells, a_stack, a_loopCounter, a_loopLimit, a_actCode, a_actLeft, a_actRight, a_stepItem, a_stepCell, a_stepOld, a_stepNew, a_stepEnd, a_adjoints, a_tangents, a_flow) => wX_execute_4 post (k + 1 + 1) (nI pc) (nI t) f_STORE_CELL f_STORE_AT f_OPERATOR f_LOOP f_LOOP_BY f_IF f_ELSE f_END f_ACT_ZERO f_ACT_READ f_ACT_WRITE f_ACT_DROP f_ACT_COMBINE f_ACT_NEGATE f_ACT_COPY f_ACT_EXCHANGE f_prime f_cellCount f_room f_phase f_itemCount f_size f_pending f_factor f_work f_openCount f_openLoops f_depth f_loopDepth f_faultItem f_actCount f_stepCount f_cursor f_hasTangent f_flowDepth a_inputs a_weights a_itemKind a_itemArg a_itemJump a_openItem a_openElse a_openFactor a_cells a_stack a_loopCounter a_loopLimit a_actCode a_actLeft a_actRight a_stepItem a_stepCell a_stepOld a_stepNew a_stepEnd a_adjoints a_tangents a_flow) := by
          intro f_STORE_CELL f_STORE_AT f_OPERATOR f_LOOP f_LOOP_BY f_IF f_ELSE f_END f_ACT_ZERO f_ACT_READ f_ACT_WRITE f_ACT_DROP f_ACT_COMBINE f_ACT_NEGATE f_ACT_COPY f_ACT_EXCHANGE f_prime f_cellCount f_room f_phase f_itemCount f_size f_pending f_factor f_work f_openCount f_openLoops f_depth f_loopDepth f_faultItem f_actCount f_stepCount f_cursor f_hasTangent f_flowDepth a_inputs a_weights a_itemKind a_itemArg a_itemJump a_openItem a_openElse a_openFactor a_cells a_stack a_loopCounter a_loopLimit a_actCode a_actLeft a_actRight a_stepItem a_stepCell a_stepOld a_stepNew a_stepEnd a_adjoints a_tangents a_flow post K S C L hS hC hL
          refine br_f (nI_ge (a := t) (b := 1024) (by omega) (by decide)) (br_f (nI_ge (a := pc) (b := N) hpc (by omega)) ?_)
          refine xw f_STORE_CELL f_STORE_AT f_OPERATOR f_LOOP f_LOOP_BY f_IF f_ELSE f_END f_ACT_ZERO f_ACT_READ f_ACT_WRITE f_ACT_DROP f_ACT_COMBINE f_ACT_NEGATE f_ACT_COPY f_ACT_EXCHANGE f_prime f_cellCount f_room f_phase f_itemCount f_size f_pending f_factor f_work f_openCount f_openLoops f_depth f_loopDepth f_faultItem f_actCount f_stepCount f_cursor f_hasTangent f_flowDepth a_inputs a_weights a_itemKind a_itemArg a_itemJump a_openItem a_openElse a_openFactor a_cells a_stack a_loopCounter a_loopLimit a_actCode a_actLeft a_actRight a_stepItem a_stepCell a_stepOld a_stepNew a_stepEnd a_adjoints a_tangents a_flow _ ?_ S C L hS hC hL
          obtain ⟨pc1, cells1, st1, lp1, AC1, AL1, AR1, na1, SI1, SC1, SO1, SN1, SE1, ns1⟩ := c1
          intro S1 C1 L1 h1 h2 h3
          have k1 := K S1 C1 L1 h1 h2 h3
          exact br_t (nI_pos' (by have : pc1 ≤ N := G1.1; show pc1 < 2 ^ 31; omega)) (nm_r (nI_1 t) k1)
        rcases rk_ex hp hn0 hn hN pv hsk jw k c1 (t + 1) (by omega) G1 (by omega) with ⟨M, c', m1, m2, r, G', w⟩ | ⟨M, c', m1, m2, r, D', w⟩
        · exact Or.inl ⟨M + 1, c', by omega, by omega, ⟨c1, hpc, yw, r⟩, G', fun f_STORE_CELL f_STORE_AT f_OPERATOR f_LOOP f_LOOP_BY f_IF f_ELSE f_END f_ACT_ZERO f_ACT_READ f_ACT_WRITE f_ACT_DROP f_ACT_COMBINE f_ACT_NEGATE f_ACT_COPY f_ACT_EXCHANGE f_prime f_cellCount f_room f_phase f_itemCount f_size f_pending f_factor f_work f_openCount f_openLoops f_depth f_loopDepth f_faultItem f_actCount f_stepCount f_cursor f_hasTangent f_flowDepth a_inputs a_weights a_itemKind a_itemArg a_itemJump a_openItem a_openElse a_openFactor a_cells a_stack a_loopCounter a_loopLimit a_actCode a_actLeft a_actRight a_stepItem a_stepCell a_stepOld a_stepNew a_stepEnd a_adjoints a_tangents a_flow post K => stp f_STORE_CELL f_STORE_AT f_OPERATOR f_LOOP f_LOOP_BY f_IF f_ELSE f_END f_ACT_ZERO f_ACT_READ f_ACT_WRITE f_ACT_DROP f_ACT_COMBINE f_ACT_NEGATE f_ACT_COPY f_ACT_EXCHANGE f_prime f_cellCount f_room f_phase f_itemCount f_size f_pending f_factor f_work f_openCount f_openLoops f_depth f_loopDepth f_faultItem f_actCount f_stepCount f_cursor f_hasTangent f_flowDepth a_inputs a_weights a_itemKind a_itemArg a_itemJump a_openItem a_openElse a_openFactor a_cells a_stack a_loopCounter a_loopLimit a_actCode a_actLeft a_actRight a_stepItem a_stepCell a_stepOld a_stepNew a_stepEnd a_adjoints a_tangents a_flow post (w f_STORE_CELL f_STORE_AT f_OPERATOR f_LOOP f_LOOP_BY f_IF f_ELSE f_END f_ACT_ZERO f_ACT_READ f_ACT_WRITE f_ACT_DROP f_ACT_COMBINE f_ACT_NEGATE f_ACT_COPY f_ACT_EXCHANGE f_prime f_cellCount f_room f_phase f_itemCount f_size f_pending f_factor f_work f_openCount f_openLoops f_depth f_loopDepth f_faultItem f_actCount f_stepCount f_cursor f_hasTangent f_flowDepth a_inputs a_weights a_itemKind a_itemArg a_itemJump a_openItem a_openElse a_openFactor a_cells a_stack a_loopCounter a_loopLimit a_actCode a_actLeft a_actRight a_stepItem a_stepCell a_stepOld a_stepNew a_stepEnd a_adjoints a_tangents a_flow post K)⟩
        · exact Or.inr ⟨M + 1, c', by omega, m2, ⟨c1, hpc, yw, r⟩, D', fun f_STORE_CELL f_STORE_AT f_OPERATOR f_LOOP f_LOOP_BY f_IF f_ELSE f_END f_ACT_ZERO f_ACT_READ f_ACT_WRITE f_ACT_DROP f_ACT_COMBINE f_ACT_NEGATE f_ACT_COPY f_ACT_EXCHANGE f_prime f_cellCount f_room f_phase f_itemCount f_size f_pending f_factor f_work f_openCount f_openLoops f_depth f_loopDepth f_faultItem f_actCount f_stepCount f_cursor f_hasTangent f_flowDepth a_inputs a_weights a_itemKind a_itemArg a_itemJump a_openItem a_openElse a_openFactor a_cells a_stack a_loopCounter a_loopLimit a_actCode a_actLeft a_actRight a_stepItem a_stepCell a_stepOld a_stepNew a_stepEnd a_adjoints a_tangents a_flow post K => stp f_STORE_CELL f_STORE_AT f_OPERATOR f_LOOP f_LOOP_BY f_IF f_ELSE f_END f_ACT_ZERO f_ACT_READ f_ACT_WRITE f_ACT_DROP f_ACT_COMBINE f_ACT_NEGATE f_ACT_COPY f_ACT_EXCHANGE f_prime f_cellCount f_room f_phase f_itemCount f_size f_pending f_factor f_work f_openCount f_openLoops f_depth f_loopDepth f_faultItem f_actCount f_stepCount f_cursor f_hasTangent f_flowDepth a_inputs a_weights a_itemKind a_itemArg a_itemJump a_openItem a_openElse a_openFactor a_cells a_stack a_loopCounter a_loopLimit a_actCode a_actLeft a_actRight a_stepItem a_stepCell a_stepOld a_stepNew a_stepEnd a_adjoints a_tangents a_flow post (w f_STORE_CELL f_STORE_AT f_OPERATOR f_LOOP f_LOOP_BY f_IF f_ELSE f_END f_ACT_ZERO f_ACT_READ f_ACT_WRITE f_ACT_DROP f_ACT_COMBINE f_ACT_NEGATE f_ACT_COPY f_ACT_EXCHANGE f_prime f_cellCount f_room f_phase f_itemCount f_size f_pending f_factor f_work f_openCount f_openLoops f_depth f_loopDepth f_faultItem f_actCount f_stepCount f_cursor f_hasTangent f_flowDepth a_inputs a_weights a_itemKind a_itemArg a_itemJump a_openItem a_openElse a_openFactor a_cells a_stack a_loopCounter a_loopLimit a_actCode a_actLeft a_actRight a_stepItem a_stepCell a_stepOld a_stepNew a_stepEnd a_adjoints a_tangents a_flow post K)⟩
      · refine Or.inr ⟨0, (pc, cells, st, lp, AC, AL, AR, na, SI, SC, SO, SN, SE, ns), by omega, hpc, rfl, yd, ?_⟩
        intro f_STORE_CELL f_STORE_AT f_OPERATOR f_LOOP f_LOOP_BY f_IF f_ELSE f_END f_ACT_ZERO f_ACT_READ f_ACT_WRITE f_ACT_DROP f_ACT_COMBINE f_ACT_NEGATE f_ACT_COPY f_ACT_EXCHANGE f_prime f_cellCount f_room f_phase f_itemCount f_size f_pending f_factor f_work f_openCount f_openLoops f_depth f_loopDepth f_faultItem f_actCount f_stepCount f_cursor f_hasTangent f_flowDepth a_inputs a_weights a_itemKind a_itemArg a_itemJump a_openItem a_openElse a_openFactor a_cells a_stack a_loopCounter a_loopLimit a_actCode a_actLeft a_actRight a_stepItem a_stepCell a_stepOld a_stepNew a_stepEnd a_adjoints a_tangents a_flow post K S C L hS hC hL
        refine br_f (nI_ge (a := t) (b := 1024) (by omega) (by decide)) (br_f (nI_ge (a := pc) (b := N) hpc (by omega)) ?_)
        refine xd f_STORE_CELL f_STORE_AT f_OPERATOR f_LOOP f_LOOP_BY f_IF f_ELSE f_END f_ACT_ZERO f_ACT_READ f_ACT_WRITE f_ACT_DROP f_ACT_COMBINE f_ACT_NEGATE f_ACT_COPY f_ACT_EXCHANGE f_prime f_cellCount f_room f_phase f_itemCount f_size f_pending f_factor f_work f_openCount f_openLoops f_depth f_loopDepth f_faultItem f_actCount f_stepCount f_cursor f_hasTangent f_flowDepth a_inputs a_weights a_itemKind a_itemArg a_itemJump a_openItem a_openElse a_openFactor a_cells a_stack a_loopCounter a_loopLimit a_actCode a_actLeft a_actRight a_stepItem a_stepCell a_stepOld a_stepNew a_stepEnd a_adjoints a_tangents a_flow _ ?_ S C L hS hC hL
        intro dep S1 C1 L1
        exact br_f (by decide) (K dep S1 C1 L1)
    · refine Or.inl ⟨0, (pc, cells, st, lp, AC, AL, AR, na, SI, SC, SO, SN, SE, ns), by omega, Or.inr (show N ≤ pc by omega), rfl, G, ?_⟩
      intro f_STORE_CELL f_STORE_AT f_OPERATOR f_LOOP f_LOOP_BY f_IF f_ELSE f_END f_ACT_ZERO f_ACT_READ f_ACT_WRITE f_ACT_DROP f_ACT_COMBINE f_ACT_NEGATE f_ACT_COPY f_ACT_EXCHANGE f_prime f_cellCount f_room f_phase f_itemCount f_size f_pending f_factor f_work f_openCount f_openLoops f_depth f_loopDepth f_faultItem f_actCount f_stepCount f_cursor f_hasTangent f_flowDepth a_inputs a_weights a_itemKind a_itemArg a_itemJump a_openItem a_openElse a_openFactor a_cells a_stack a_loopCounter a_loopLimit a_actCode a_actLeft a_actRight a_stepItem a_stepCell a_stepOld a_stepNew a_stepEnd a_adjoints a_tangents a_flow post K S C L hS hC hL
      exact br_f (nI_ge (a := t) (b := 1024) (by omega) (by decide)) (br_t (nI_le (by omega) (by omega)) (K S C L hS hC hL))
end
end
section
/-! the reference's simulate over a known run -/
section
variable {q n N : Nat} {kd ar inp : rc_F}
theorem ry_run (hN : N ≤ 128) : ∀ (M : Nat) (c c' : rc_C) (t : Nat), t + M ≤ 1024 → (t + M = 1024 ∨ N ≤ c'.1) → c'.1 ≤ N → rc_R q n N kd ar inp M c c' → ∀ (f_p f_n f_room f_phase f_items f_cursor f_hasTangent f_size f_pending f_factor f_work f_open f_loops f_steps f_faultItem f_nextItem f_nextCell f_top : Int32) (a_kinds a_args a_inputs a_weights a_tangents a_marks a_cell a_dcell a_seen a_val a_der a_start a_counter a_total : Nat → Int32) (post : SY → Prop) (kk : Int32) (j : Nat), j < 8 →
    rc_Y q n N inp c' kk j (nI (q + 1), nI n, f_room, f_phase, nI N, f_cursor, f_hasTangent, f_size, f_pending, f_factor, f_work, f_open, f_loops, f_steps, f_faultItem, f_nextItem, f_nextCell, f_top, kd, ar, a_inputs, a_weights, a_tangents, a_marks, a_cell, a_dcell, a_seen, a_val, a_der, a_start, a_counter, a_total) post → rc_Y q n N inp c kk j (nI (q + 1), nI n, f_room, f_phase, nI N, f_cursor, f_hasTangent, f_size, f_pending, f_factor, f_work, f_open, f_loops, f_steps, f_faultItem, f_nextItem, f_nextCell, f_top, kd, ar, a_inputs, a_weights, a_tangents, a_marks, a_cell, a_dcell, a_seen, a_val, a_der, a_start, a_counter, a_total) (rc_W post kk (nI j) (M + 1) (nI c.1) (nI c.2.2.2.1.length) (nI t))
  | 0, (pc, cells, st, lp, AC, AL, AR, na, SI, SC, SO, SN, SE, ns), c', t, ht, hx, hl, R => by
    intro f_p f_n f_room f_phase f_items f_cursor f_hasTangent f_size f_pending f_factor f_work f_open f_loops f_steps f_faultItem f_nextItem f_nextCell f_top a_kinds a_args a_inputs a_weights a_tangents a_marks a_cell a_dcell a_seen a_val a_der a_start a_counter a_total post kk j hj K nit ncl cell dcell seen val der start counter total h1 h2 h3 h4 h5 D
    have e : (pc, cells, st, lp, AC, AL, AR, na, SI, SC, SO, SN, SE, ns) = c' := R
    subst e
    have k := K nit ncl cell dcell seen val der start counter total h1 h2 h3 h4 h5 D
    have hl : pc ≤ N := hl
    refine br_c (fun _ => k) (fun z => br_t ?_ k)
    have hx : t + 0 = 1024 ∨ N ≤ pc := hx
    rcases hx with y | y
    · exact absurd (nI_le (a := 1024) (b := t) (by omega) (by omega)) z
    · exact nI_le y (by omega)
  | M + 1, c, c', t, ht, hx, hl, R => by
    obtain ⟨c1, hp, yw, R1⟩ := R
    intro f_p f_n f_room f_phase f_items f_cursor f_hasTangent f_size f_pending f_factor f_work f_open f_loops f_steps f_faultItem f_nextItem f_nextCell f_top a_kinds a_args a_inputs a_weights a_tangents a_marks a_cell a_dcell a_seen a_val a_der a_start a_counter a_total post kk j hj K
    exact yw f_p f_n f_room f_phase f_items f_cursor f_hasTangent f_size f_pending f_factor f_work f_open f_loops f_steps f_faultItem f_nextItem f_nextCell f_top a_kinds a_args a_inputs a_weights a_tangents a_marks a_cell a_dcell a_seen a_val a_der a_start a_counter a_total post kk j (M + 1) t hj (by omega) (ry_run hN M c1 c' (t + 1) (by omega) (by omega) hl R1 f_p f_n f_room f_phase f_items f_cursor f_hasTangent f_size f_pending f_factor f_work f_open f_loops f_steps f_faultItem f_nextItem f_nextCell f_top a_kinds a_args a_inputs a_weights a_tangents a_marks a_cell a_dcell a_seen a_val a_der a_start a_counter a_total post kk j hj K)
theorem ry_runF : ∀ (M : Nat) (c c' : rc_C) (t : Nat), t + M < 1024 → rc_R q n N kd ar inp M c c' → rc_YD q n N kd ar inp c' → ∀ (f_p f_n f_room f_phase f_items f_cursor f_hasTangent f_size f_pending f_factor f_work f_open f_loops f_steps f_faultItem f_nextItem f_nextCell f_top : Int32) (a_kinds a_args a_inputs a_weights a_tangents a_marks a_cell a_dcell a_seen a_val a_der a_start a_counter a_total : Nat → Int32) (post : SY → Prop) (kk : Int32) (j : Nat), j < 8 →
    rc_Y q n N inp c' kk j (nI (q + 1), nI n, f_room, f_phase, nI N, f_cursor, f_hasTangent, f_size, f_pending, f_factor, f_work, f_open, f_loops, f_steps, f_faultItem, f_nextItem, f_nextCell, f_top, kd, ar, a_inputs, a_weights, a_tangents, a_marks, a_cell, a_dcell, a_seen, a_val, a_der, a_start, a_counter, a_total) (fun v => post (rc_fl v (nI c'.1))) → rc_Y q n N inp c kk j (nI (q + 1), nI n, f_room, f_phase, nI N, f_cursor, f_hasTangent, f_size, f_pending, f_factor, f_work, f_open, f_loops, f_steps, f_faultItem, f_nextItem, f_nextCell, f_top, kd, ar, a_inputs, a_weights, a_tangents, a_marks, a_cell, a_dcell, a_seen, a_val, a_der, a_start, a_counter, a_total) (rc_W post kk (nI j) (M + 2) (nI c.1) (nI c.2.2.2.1.length) (nI t))
  | 0, c, c', t, ht, R, yd => by
    intro f_p f_n f_room f_phase f_items f_cursor f_hasTangent f_size f_pending f_factor f_work f_open f_loops f_steps f_faultItem f_nextItem f_nextCell f_top a_kinds a_args a_inputs a_weights a_tangents a_marks a_cell a_dcell a_seen a_val a_der a_start a_counter a_total post kk j hj K
    have e : c = c' := R
    subst e
    exact yd f_p f_n f_room f_phase f_items f_cursor f_hasTangent f_size f_pending f_factor f_work f_open f_loops f_steps f_faultItem f_nextItem f_nextCell f_top a_kinds a_args a_inputs a_weights a_tangents a_marks a_cell a_dcell a_seen a_val a_der a_start a_counter a_total post kk j 0 t hj (by omega) K
  | M + 1, c, c', t, ht, R, yd => by
    obtain ⟨c1, hp, yw, R1⟩ := R
    intro f_p f_n f_room f_phase f_items f_cursor f_hasTangent f_size f_pending f_factor f_work f_open f_loops f_steps f_faultItem f_nextItem f_nextCell f_top a_kinds a_args a_inputs a_weights a_tangents a_marks a_cell a_dcell a_seen a_val a_der a_start a_counter a_total post kk j hj K
    exact yw f_p f_n f_room f_phase f_items f_cursor f_hasTangent f_size f_pending f_factor f_work f_open f_loops f_steps f_faultItem f_nextItem f_nextCell f_top a_kinds a_args a_inputs a_weights a_tangents a_marks a_cell a_dcell a_seen a_val a_der a_start a_counter a_total post kk j (M + 2) t hj (by omega) (ry_runF M c1 c' (t + 1) (by omega) R1 yd f_p f_n f_room f_phase f_items f_cursor f_hasTangent f_size f_pending f_factor f_work f_open f_loops f_steps f_faultItem f_nextItem f_nextCell f_top a_kinds a_args a_inputs a_weights a_tangents a_marks a_cell a_dcell a_seen a_val a_der a_start a_counter a_total post kk j hj K)
/-- the start of a run -/
def rc_I (inp : rc_F) : rc_C → Prop
  | (pc, cells, st, lp, AC, AL, AR, na, SI, SC, SO, SN, SE, ns) => pc = 0 ∧ (∀ i, i < 8 → cells i = inp i) ∧ st = [] ∧ lp = [] ∧ na = 0 ∧ ns = 0
theorem rc_I_D {AC AL AR SI SC SN SE : rc_F} {kk : Int32} {j : Nat} {dcell seen der : rc_F} (h : kk = 0 → (∀ i, i < n → seen i = inp i) ∧ (∀ i, i < n → dcell i = rt_e j i)) :
    rc_D q n N inp AC AL AR 0 SI SC SN SE 0 kk j (nI N) (nI n) dcell seen der := by
  intro k hk _
  refine ⟨fun z => absurd z (Nat.not_lt_zero k), fun _ => ⟨rfl, rfl⟩, fun z => ?_⟩
  have e : k = 0 := by omega
  subst e
  have g := h hk
  exact ⟨g.1, True.intro, g.2⟩
end
section
variable {f_p f_n f_room f_phase f_items f_cursor f_hasTangent f_size f_pending f_factor f_work f_open f_loops f_steps f_faultItem f_nextItem f_nextCell f_top : Int32} {a_kinds a_args a_inputs a_weights a_tangents a_marks a_cell a_dcell a_seen a_val a_der a_start a_counter a_total : Nat → Int32}
theorem ry_sim_lp {post : SY → Prop} {kk : Int32} {n N j : Nat} (hn : n ≤ 8) (hj : j < 8)
    (H : ∀ cell dcell seen : Nat → Int32, (∀ i, i < n → cell i = a_inputs i) → (kk = 0 → (∀ i, i < n → seen i = a_inputs i) ∧ (∀ i, i < n → dcell i = rt_e j i)) →
      ∃ m, wY_simulate_88 post kk (nI j) m 0 0 0 f_p (nI n) f_room f_phase (nI N) f_cursor f_hasTangent f_size f_pending f_factor f_work f_open f_loops 0 (-1) (nI N) (nI n) 0 a_kinds a_args a_inputs a_weights a_tangents a_marks cell dcell seen a_val a_der a_start a_counter a_total) :
    ∀ (d i : Nat) (cell dcell : Nat → Int32), i + d = n → (∀ t, t < i → cell t = a_inputs t) → wY_simulate_39 post kk (nI j) 0 0 f_p (nI n) f_room f_phase (nI N) f_cursor f_hasTangent f_size f_pending f_factor f_work f_open f_loops 0 (-1) (nI N) (nI n) 0 (d + 1) (nI i) a_kinds a_args a_inputs a_weights a_tangents a_marks cell dcell a_seen a_val a_der a_start a_counter a_total
  | 0, i, cl, dc0, h, h1 => by
    have hc : ∀ t, t < n → cl t = a_inputs t := fun t ht => h1 t (by omega)
    refine br_t (nI_le (by omega) (by omega)) (br_c (fun hk => ?_) (fun hk => ?_))
    · exact ry_seed hn hj (fun sn dc g1 g2 => H cl dc sn hc (fun _ => ⟨fun t ht => (g1 t ht).trans (hc t ht), g2⟩))
    · exact H cl dc0 a_seen hc (fun z => absurd z hk)
  | d + 1, i, cl, dc0, h, h1 => by
    refine br_f (nI_ge (by omega) (by omega)) ⟨vp_in_nI (by omega) (by decide), vp_in_nI (by omega) (by decide), nm_r (e' := upd cl i (a_inputs i)) (by rw [nI_clamp (by omega)]) ⟨vp_in_nI (by omega) (by decide), nm_r (e' := upd dc0 i 0) (by rw [nI_clamp (by omega)]) (nm_r (nI_1 i) (ry_sim_lp hn hj H d (i + 1) _ _ (by omega) ?_))⟩⟩
    intro t ht
    by_cases z : t = i
    · rw [z, pk_us]
    · rw [pk_un z]; exact h1 t (by omega)
theorem ry_sim0 {post : SY → Prop} {kk : Int32} {n N j : Nat} (hn : n ≤ 8) (hj : j < 8)
    (H : ∀ cell dcell seen : Nat → Int32, (∀ i, i < n → cell i = a_inputs i) → (kk = 0 → (∀ i, i < n → seen i = a_inputs i) ∧ (∀ i, i < n → dcell i = rt_e j i)) →
      ∃ m, wY_simulate_88 post kk (nI j) m 0 0 0 f_p (nI n) f_room f_phase (nI N) f_cursor f_hasTangent f_size f_pending f_factor f_work f_open f_loops 0 (-1) (nI N) (nI n) 0 a_kinds a_args a_inputs a_weights a_tangents a_marks cell dcell seen a_val a_der a_start a_counter a_total) : wpY_simulate post (f_p, nI n, f_room, f_phase, nI N, f_cursor, f_hasTangent, f_size, f_pending, f_factor, f_work, f_open, f_loops, f_steps, f_faultItem, f_nextItem, f_nextCell, f_top, a_kinds, a_args, a_inputs, a_weights, a_tangents, a_marks, a_cell, a_dcell, a_seen, a_val, a_der, a_start, a_counter, a_total) kk (nI j) :=
  ⟨n + 1, ry_sim_lp hn hj H n 0 a_cell a_dcell (by omega) (fun t ht => absurd ht (Nat.not_lt_zero t))⟩
/-- over a run that ends -/
theorem ry_sim {post : SY → Prop} {kk : Int32} {q n N M j : Nat} {c0 c' : rc_C} (hN : N ≤ 128) (hn : n ≤ 8) (hj : j < 8) (I : rc_I a_inputs c0) (hM : M ≤ 1024) (hx : M = 1024 ∨ N ≤ c'.1) (hl : c'.1 ≤ N) (R : rc_R q n N a_kinds a_args a_inputs M c0 c')
    (K : rc_Y q n N a_inputs c' kk j (nI (q + 1), nI n, f_room, f_phase, nI N, f_cursor, f_hasTangent, f_size, f_pending, f_factor, f_work, f_open, f_loops, f_steps, f_faultItem, f_nextItem, f_nextCell, f_top, a_kinds, a_args, a_inputs, a_weights, a_tangents, a_marks, a_cell, a_dcell, a_seen, a_val, a_der, a_start, a_counter, a_total) post) : wpY_simulate post (nI (q + 1), nI n, f_room, f_phase, nI N, f_cursor, f_hasTangent, f_size, f_pending, f_factor, f_work, f_open, f_loops, f_steps, f_faultItem, f_nextItem, f_nextCell, f_top, a_kinds, a_args, a_inputs, a_weights, a_tangents, a_marks, a_cell, a_dcell, a_seen, a_val, a_der, a_start, a_counter, a_total) kk (nI j) := by
  refine ry_sim0 hn hj (fun cell dcell seen h1 h2 => ⟨M + 1, ?_⟩)
  obtain ⟨pc, cells, st, lp, AC, AL, AR, na, SI, SC, SO, SN, SE, ns⟩ := c0
  obtain ⟨rfl, i2, rfl, rfl, rfl, rfl⟩ := I
  have w := ry_run hN M _ c' 0 (by omega) (by omega) hl R (nI (q + 1)) (nI n) f_room f_phase (nI N) f_cursor f_hasTangent f_size f_pending f_factor f_work f_open f_loops f_steps f_faultItem f_nextItem f_nextCell f_top a_kinds a_args a_inputs a_weights a_tangents a_marks a_cell a_dcell a_seen a_val a_der a_start a_counter a_total post kk j hj K
  exact w (nI N) (nI n) cell dcell seen a_val a_der a_start a_counter a_total (fun t ht => (h1 t ht).trans (i2 t (by omega)).symm) True.intro True.intro True.intro True.intro (rc_I_D h2)
theorem ry_simF {post : SY → Prop} {kk : Int32} {q n N M j : Nat} {c0 c' : rc_C} (hn : n ≤ 8) (hj : j < 8) (I : rc_I a_inputs c0) (hM : M < 1024) (R : rc_R q n N a_kinds a_args a_inputs M c0 c') (yd : rc_YD q n N a_kinds a_args a_inputs c')
    (K : rc_Y q n N a_inputs c' kk j (nI (q + 1), nI n, f_room, f_phase, nI N, f_cursor, f_hasTangent, f_size, f_pending, f_factor, f_work, f_open, f_loops, f_steps, f_faultItem, f_nextItem, f_nextCell, f_top, a_kinds, a_args, a_inputs, a_weights, a_tangents, a_marks, a_cell, a_dcell, a_seen, a_val, a_der, a_start, a_counter, a_total) (fun v => post (rc_fl v (nI c'.1)))) : wpY_simulate post (nI (q + 1), nI n, f_room, f_phase, nI N, f_cursor, f_hasTangent, f_size, f_pending, f_factor, f_work, f_open, f_loops, f_steps, f_faultItem, f_nextItem, f_nextCell, f_top, a_kinds, a_args, a_inputs, a_weights, a_tangents, a_marks, a_cell, a_dcell, a_seen, a_val, a_der, a_start, a_counter, a_total) kk (nI j) := by
  refine ry_sim0 hn hj (fun cell dcell seen h1 h2 => ⟨M + 2, ?_⟩)
  obtain ⟨pc, cells, st, lp, AC, AL, AR, na, SI, SC, SO, SN, SE, ns⟩ := c0
  obtain ⟨rfl, i2, rfl, rfl, rfl, rfl⟩ := I
  have w := ry_runF M _ c' 0 (by omega) R yd (nI (q + 1)) (nI n) f_room f_phase (nI N) f_cursor f_hasTangent f_size f_pending f_factor f_work f_open f_loops f_steps f_faultItem f_nextItem f_nextCell f_top a_kinds a_args a_inputs a_weights a_tangents a_marks a_cell a_dcell a_seen a_val a_der a_start a_counter a_total post kk j hj K
  exact w (nI N) (nI n) cell dcell seen a_val a_der a_start a_counter a_total (fun t ht => (h1 t ht).trans (i2 t (by omega)).symm) True.intro True.intro True.intro True.intro (rc_I_D h2)
/-- the weighted sum -/
theorem ry_der_lp {post : Int32 → SY → Prop} {q n : Nat} (hq : q < 32749) (hn : n ≤ 8) (cW : rt_Cf q n a_weights) {T : Nat → Int32} (cT : rt_Cf q n T) (hT : ∀ i, i < n → a_dcell i = T i) (K : post (rt_sm (nI (q + 1)) a_weights T n) (nI (q + 1), nI n, f_room, f_phase, f_items, f_cursor, f_hasTangent, f_size, f_pending, f_factor, f_work, f_open, f_loops, f_steps, f_faultItem, f_nextItem, f_nextCell, f_top, a_kinds, a_args, a_inputs, a_weights, a_tangents, a_marks, a_cell, a_dcell, a_seen, a_val, a_der, a_start, a_counter, a_total)) :
    ∀ (d i : Nat), i + d = n → wY_derive_11 post (nI (q + 1)) (nI n) f_room f_phase f_items f_cursor f_hasTangent f_size f_pending f_factor f_work f_open f_loops f_steps f_faultItem f_nextItem f_nextCell f_top a_kinds a_args a_inputs a_weights a_tangents a_marks a_cell a_dcell a_seen a_val a_der a_start a_counter a_total (d + 1) (rt_sm (nI (q + 1)) a_weights T i) (nI i)
  | 0, i, h => by
    have e : i = n := by omega
    subst e
    exact br_t (nI_le (Nat.le_refl _) (by omega)) K
  | d + 1, i, h => by
    have s := rt_sm_ok hq (n := i) (fun t ht => cW t (by omega)) (fun t ht => cT t (by omega))
    have e : (rt_sm (nI (q + 1)) a_weights T i + a_weights (nI i).toNatClampNeg * a_dcell (nI i).toNatClampNeg) - (rt_sm (nI (q + 1)) a_weights T i + a_weights (nI i).toNatClampNeg * a_dcell (nI i).toNatClampNeg) / nI (q + 1) * nI (q + 1) = rt_sm (nI (q + 1)) a_weights T (i + 1) := by
      rw [nI_clamp (by omega), hT i (by omega)]
      exact rt_sm_y hq s.1 (cW i (by omega)) (cT i (by omega))
    exact br_f (nI_ge (by omega) (by omega)) ⟨vp_in_nI (by omega) (by decide), vp_in_nI (by omega) (by decide), nI_ne0 (by omega) (by omega), nm_r e (nm_r (nI_1 i) (ry_der_lp hq hn cW cT hT K d (i + 1) (by omega)))⟩
end
end
section
/-! X: the tape read forward and backward, the cells moved -/
section
variable {f_STORE_CELL f_STORE_AT f_OPERATOR f_LOOP f_LOOP_BY f_IF f_ELSE f_END f_ACT_ZERO f_ACT_READ f_ACT_WRITE f_ACT_DROP f_ACT_COMBINE f_ACT_NEGATE f_ACT_COPY f_ACT_EXCHANGE f_prime f_cellCount f_room f_phase f_itemCount f_size f_pending f_factor f_work f_openCount f_openLoops f_depth f_loopDepth f_faultItem f_actCount f_stepCount f_cursor f_hasTangent f_flowDepth : Int32} {a_inputs a_weights a_itemKind a_itemArg a_itemJump a_openItem a_openElse a_openFactor a_cells a_stack a_loopCounter a_loopLimit a_actCode a_actLeft a_actRight a_stepItem a_stepCell a_stepOld a_stepNew a_stepEnd a_adjoints a_tangents a_flow : Nat → Int32}
theorem rx_pushFlow {post : SX → Prop} {d : Nat} {v : Int32} (hd : d < 8) (K : post (f_STORE_CELL, f_STORE_AT, f_OPERATOR, f_LOOP, f_LOOP_BY, f_IF, f_ELSE, f_END, f_ACT_ZERO, f_ACT_READ, f_ACT_WRITE, f_ACT_DROP, f_ACT_COMBINE, f_ACT_NEGATE, f_ACT_COPY, f_ACT_EXCHANGE, f_prime, f_cellCount, f_room, f_phase, f_itemCount, f_size, f_pending, f_factor, f_work, f_openCount, f_openLoops, f_depth, f_loopDepth, f_faultItem, f_actCount, f_stepCount, f_cursor, f_hasTangent, nI (d + 1), a_inputs, a_weights, a_itemKind, a_itemArg, a_itemJump, a_openItem, a_openElse, a_openFactor, a_cells, a_stack, a_loopCounter, a_loopLimit, a_actCode, a_actLeft, a_actRight, a_stepItem, a_stepCell, a_stepOld, a_stepNew, a_stepEnd, a_adjoints, a_tangents, upd a_flow d v)) : wpX_pushFlow post (f_STORE_CELL, f_STORE_AT, f_OPERATOR, f_LOOP, f_LOOP_BY, f_IF, f_ELSE, f_END, f_ACT_ZERO, f_ACT_READ, f_ACT_WRITE, f_ACT_DROP, f_ACT_COMBINE, f_ACT_NEGATE, f_ACT_COPY, f_ACT_EXCHANGE, f_prime, f_cellCount, f_room, f_phase, f_itemCount, f_size, f_pending, f_factor, f_work, f_openCount, f_openLoops, f_depth, f_loopDepth, f_faultItem, f_actCount, f_stepCount, f_cursor, f_hasTangent, nI d, a_inputs, a_weights, a_itemKind, a_itemArg, a_itemJump, a_openItem, a_openElse, a_openFactor, a_cells, a_stack, a_loopCounter, a_loopLimit, a_actCode, a_actLeft, a_actRight, a_stepItem, a_stepCell, a_stepOld, a_stepNew, a_stepEnd, a_adjoints, a_tangents, a_flow) v :=
  br_f (nI_ge (a := d) (b := 8) hd (by decide)) ⟨vp_in_nI hd (by decide), nm_r (e' := upd a_flow d v) (by rw [nI_clamp (by omega)]) (nm_r (nI_1 d) K)⟩
theorem rx_popFlow {post : Int32 → SX → Prop} {d : Nat} {v : Int32} (hd : d < 8) (hv : a_flow d = v) (K : post v (f_STORE_CELL, f_STORE_AT, f_OPERATOR, f_LOOP, f_LOOP_BY, f_IF, f_ELSE, f_END, f_ACT_ZERO, f_ACT_READ, f_ACT_WRITE, f_ACT_DROP, f_ACT_COMBINE, f_ACT_NEGATE, f_ACT_COPY, f_ACT_EXCHANGE, f_prime, f_cellCount, f_room, f_phase, f_itemCount, f_size, f_pending, f_factor, f_work, f_openCount, f_openLoops, f_depth, f_loopDepth, f_faultItem, f_actCount, f_stepCount, f_cursor, f_hasTangent, nI d, a_inputs, a_weights, a_itemKind, a_itemArg, a_itemJump, a_openItem, a_openElse, a_openFactor, a_cells, a_stack, a_loopCounter, a_loopLimit, a_actCode, a_actLeft, a_actRight, a_stepItem, a_stepCell, a_stepOld, a_stepNew, a_stepEnd, a_adjoints, a_tangents, a_flow)) : wpX_popFlow post (f_STORE_CELL, f_STORE_AT, f_OPERATOR, f_LOOP, f_LOOP_BY, f_IF, f_ELSE, f_END, f_ACT_ZERO, f_ACT_READ, f_ACT_WRITE, f_ACT_DROP, f_ACT_COMBINE, f_ACT_NEGATE, f_ACT_COPY, f_ACT_EXCHANGE, f_prime, f_cellCount, f_room, f_phase, f_itemCount, f_size, f_pending, f_factor, f_work, f_openCount, f_openLoops, f_depth, f_loopDepth, f_faultItem, f_actCount, f_stepCount, f_cursor, f_hasTangent, nI (d + 1), a_inputs, a_weights, a_itemKind, a_itemArg, a_itemJump, a_openItem, a_openElse, a_openFactor, a_cells, a_stack, a_loopCounter, a_loopLimit, a_actCode, a_actLeft, a_actRight, a_stepItem, a_stepCell, a_stepOld, a_stepNew, a_stepEnd, a_adjoints, a_tangents, a_flow) := by
  refine br_t (nI_lt (a := 0) (b := d + 1) (by omega) (by omega)) (nm_r (nI_pred d) ⟨vp_in_nI hd (by decide), ?_⟩)
  rw [nI_clamp (by omega), hv]; exact K
theorem rx_fa {post : SX → Prop} {q n d : Nat} {c l r : Int32} {T : Nat → Int32} {S : List Int32} (hq : q < 32749) (hn : n ≤ 8) (ok : rt_ok q n c l r d) (hl : S.length = d) (hT : ∀ i, i < n → a_tangents i = T i) (hS : rl_A (fun x => x) a_flow S)
    (K : ∀ tg fl, (∀ i, i < n → tg i = (rt_fw (nI (q + 1)) c l r (T, S)).1 i) → rl_A (fun x => x) fl (rt_fw (nI (q + 1)) c l r (T, S)).2 → post (f_STORE_CELL, f_STORE_AT, f_OPERATOR, f_LOOP, f_LOOP_BY, f_IF, f_ELSE, f_END, f_ACT_ZERO, f_ACT_READ, f_ACT_WRITE, f_ACT_DROP, f_ACT_COMBINE, f_ACT_NEGATE, f_ACT_COPY, f_ACT_EXCHANGE, nI (q + 1), f_cellCount, f_room, f_phase, f_itemCount, f_size, f_pending, f_factor, f_work, f_openCount, f_openLoops, f_depth, f_loopDepth, f_faultItem, f_actCount, f_stepCount, f_cursor, f_hasTangent, nI (rt_fw (nI (q + 1)) c l r (T, S)).2.length, a_inputs, a_weights, a_itemKind, a_itemArg, a_itemJump, a_openItem, a_openElse, a_openFactor, a_cells, a_stack, a_loopCounter, a_loopLimit, a_actCode, a_actLeft, a_actRight, a_stepItem, a_stepCell, a_stepOld, a_stepNew, a_stepEnd, a_adjoints, tg, fl)) :
    wpX_forwardAction post (f_STORE_CELL, f_STORE_AT, f_OPERATOR, f_LOOP, f_LOOP_BY, f_IF, f_ELSE, f_END, f_ACT_ZERO, f_ACT_READ, f_ACT_WRITE, f_ACT_DROP, f_ACT_COMBINE, f_ACT_NEGATE, f_ACT_COPY, f_ACT_EXCHANGE, nI (q + 1), f_cellCount, f_room, f_phase, f_itemCount, f_size, f_pending, f_factor, f_work, f_openCount, f_openLoops, f_depth, f_loopDepth, f_faultItem, f_actCount, f_stepCount, f_cursor, f_hasTangent, nI S.length, a_inputs, a_weights, a_itemKind, a_itemArg, a_itemJump, a_openItem, a_openElse, a_openFactor, a_cells, a_stack, a_loopCounter, a_loopLimit, a_actCode, a_actLeft, a_actRight, a_stepItem, a_stepCell, a_stepOld, a_stepNew, a_stepEnd, a_adjoints, a_tangents, a_flow) c l r := by
  have d8 := ok.2
  rcases ok.1 with ⟨rfl, h8⟩ | ⟨rfl, h8, i, hi, rfl⟩ | ⟨rfl, h1, i, hi, rfl⟩ | ⟨rfl, h1⟩ | ⟨rfl, h2, cl, cr⟩ | ⟨rfl, h1⟩ | ⟨rfl, h1, h8⟩ | ⟨rfl, h2⟩
  · rw [rt_fw0] at K
    exact br_t rfl (rx_pushFlow (by omega) (K a_tangents _ hT (rl_push hS)))
  · rw [rt_fw1, nI_clamp (by omega)] at K
    refine br_f (by decide) (br_t rfl ⟨vp_in_nI (by omega) (by decide), ?_⟩)
    rw [nI_clamp (by omega)]
    exact rx_pushFlow (by omega) (K a_tangents _ hT (rl_push' hS rfl (hT i hi)))
  · match S, hl, hS, K with
    | [], hl, _, _ => simp at hl; omega
    | y :: S', hl, hS, K =>
      rw [rt_fw2, nI_clamp (by omega)] at K
      rw [List.length_cons] at hl
      refine br_f (by decide) (br_f (by decide) (rx_popFlow (d := S'.length) (by omega) hS.1 ?_))
      refine br_t rfl ⟨vp_in_nI (by omega) (by decide), nm_r (e' := upd a_tangents i y) (by rw [nI_clamp (by omega)]) (K (upd a_tangents i y) a_flow (fun t ht => ?_) hS.2)⟩
      show upd a_tangents i y t = upd T i y t
      by_cases z : t = i
      · rw [z, pk_us, pk_us]
      · rw [pk_un z, pk_un z]; exact hT t ht
  · match S, hl, hS, K with
    | [], hl, _, _ => simp at hl; omega
    | y :: S', hl, hS, K =>
      rw [rt_fw3] at K
      rw [List.length_cons] at hl
      refine br_f (by decide) (br_f (by decide) (rx_popFlow (d := S'.length) (by omega) hS.1 ?_))
      exact br_f (by decide) (br_f (by decide) (br_f (by decide) (br_f (by decide) (br_f (by decide) (K a_tangents a_flow hT hS.2)))))
  · match S, hl, hS, K with
    | [], hl, _, _ => simp at hl; omega
    | [_], hl, _, _ => simp at hl; omega
    | y :: z :: S', hl, hS, K =>
      rw [rt_fw4] at K
      simp only [List.length_cons] at hl
      refine br_f (by decide) (br_f (by decide) (rx_popFlow (d := S'.length + 1) (by omega) hS.1 ?_))
      refine br_f (by decide) (br_t rfl (rx_popFlow (d := S'.length) (by omega) hS.2.1 ?_))
      exact rx_multiply hq (rx_multiply hq (rx_add (rx_pushFlow (by omega) (K a_tangents _ hT (rl_push hS.2.2)))))
  · match S, hl, hS, K with
    | [], hl, _, _ => simp at hl; omega
    | y :: S', hl, hS, K =>
      rw [rt_fw5] at K
      rw [List.length_cons] at hl
      refine br_f (by decide) (br_f (by decide) (rx_popFlow (d := S'.length) (by omega) hS.1 ?_))
      exact br_f (by decide) (br_f (by decide) (br_t rfl (rx_negate (rx_pushFlow (by omega) (K a_tangents _ hT (rl_push hS.2))))))
  · match S, hl, hS, K with
    | [], hl, _, _ => simp at hl; omega
    | y :: S', hl, hS, K =>
      rw [rt_fw6] at K
      rw [List.length_cons] at hl
      refine br_f (by decide) (br_f (by decide) (rx_popFlow (d := S'.length) (by omega) hS.1 ?_))
      refine br_f (by decide) (br_f (by decide) (br_f (by decide) (br_t rfl (rx_pushFlow (by omega) ?_))))
      exact rx_pushFlow (d := S'.length + 1) (by omega) (K a_tangents _ hT (rl_push' (rl_push' hS.2 rfl rfl) rfl rfl))
  · match S, hl, hS, K with
    | [], hl, _, _ => simp at hl; omega
    | [_], hl, _, _ => simp at hl; omega
    | y :: z :: S', hl, hS, K =>
      rw [rt_fw7] at K
      simp only [List.length_cons] at hl
      refine br_f (by decide) (br_f (by decide) (rx_popFlow (d := S'.length + 1) (by omega) hS.1 ?_))
      refine br_f (by decide) (br_f (by decide) (br_f (by decide) (br_f (by decide) (br_t rfl (rx_popFlow (d := S'.length) (by omega) hS.2.1 ?_)))))
      refine rx_pushFlow (d := S'.length) (by omega) ?_
      exact rx_pushFlow (d := S'.length + 1) (by omega) (K a_tangents _ hT (rl_push' (rl_push' hS.2.2 rfl rfl) rfl rfl))
theorem rx_ba {post : SX → Prop} {q n d : Nat} {c l r : Int32} {A : Nat → Int32} {F : List Int32} (hq : q < 32749) (hn : n ≤ 8) (ok : rt_ok q n c l r d) (hl : F.length = d - rt_po c + rt_pu c) (hA : ∀ i, i < n → a_adjoints i = A i) (hF : rl_A (fun x => x) a_flow F)
    (K : ∀ ad fl, (∀ i, i < n → ad i = (rt_bw (nI (q + 1)) c l r (A, F)).1 i) → rl_A (fun x => x) fl (rt_bw (nI (q + 1)) c l r (A, F)).2 → post (f_STORE_CELL, f_STORE_AT, f_OPERATOR, f_LOOP, f_LOOP_BY, f_IF, f_ELSE, f_END, f_ACT_ZERO, f_ACT_READ, f_ACT_WRITE, f_ACT_DROP, f_ACT_COMBINE, f_ACT_NEGATE, f_ACT_COPY, f_ACT_EXCHANGE, nI (q + 1), f_cellCount, f_room, f_phase, f_itemCount, f_size, f_pending, f_factor, f_work, f_openCount, f_openLoops, f_depth, f_loopDepth, f_faultItem, f_actCount, f_stepCount, f_cursor, f_hasTangent, nI (rt_bw (nI (q + 1)) c l r (A, F)).2.length, a_inputs, a_weights, a_itemKind, a_itemArg, a_itemJump, a_openItem, a_openElse, a_openFactor, a_cells, a_stack, a_loopCounter, a_loopLimit, a_actCode, a_actLeft, a_actRight, a_stepItem, a_stepCell, a_stepOld, a_stepNew, a_stepEnd, ad, a_tangents, fl)) :
    wpX_backwardAction post (f_STORE_CELL, f_STORE_AT, f_OPERATOR, f_LOOP, f_LOOP_BY, f_IF, f_ELSE, f_END, f_ACT_ZERO, f_ACT_READ, f_ACT_WRITE, f_ACT_DROP, f_ACT_COMBINE, f_ACT_NEGATE, f_ACT_COPY, f_ACT_EXCHANGE, nI (q + 1), f_cellCount, f_room, f_phase, f_itemCount, f_size, f_pending, f_factor, f_work, f_openCount, f_openLoops, f_depth, f_loopDepth, f_faultItem, f_actCount, f_stepCount, f_cursor, f_hasTangent, nI F.length, a_inputs, a_weights, a_itemKind, a_itemArg, a_itemJump, a_openItem, a_openElse, a_openFactor, a_cells, a_stack, a_loopCounter, a_loopLimit, a_actCode, a_actLeft, a_actRight, a_stepItem, a_stepCell, a_stepOld, a_stepNew, a_stepEnd, a_adjoints, a_tangents, a_flow) c l r := by
  have d8 := ok.2
  rcases ok.1 with ⟨rfl, h8⟩ | ⟨rfl, h8, i, hi, rfl⟩ | ⟨rfl, h1, i, hi, rfl⟩ | ⟨rfl, h1⟩ | ⟨rfl, h2, cl, cr⟩ | ⟨rfl, h1⟩ | ⟨rfl, h1, h8⟩ | ⟨rfl, h2⟩
  · have hl : F.length = d - 0 + 1 := hl
    match F, hl, hF, K with
    | [], hl, _, _ => simp at hl
    | y :: F', hl, hF, K =>
      rw [rt_bw0] at K
      rw [List.length_cons] at hl
      refine br_f (by decide) (br_f (by decide) (rx_popFlow (d := F'.length) (by omega) hF.1 ?_))
      exact br_f (by decide) (br_f (by decide) (br_f (by decide) (br_f (by decide) (br_f (by decide) (K a_adjoints a_flow hA hF.2)))))
  · have hl : F.length = d - 0 + 1 := hl
    match F, hl, hF, K with
    | [], hl, _, _ => simp at hl
    | y :: F', hl, hF, K =>
      rw [rt_bw1, nI_clamp (by omega)] at K
      rw [List.length_cons] at hl
      refine br_f (by decide) (br_f (by decide) (rx_popFlow (d := F'.length) (by omega) hF.1 ?_))
      refine br_t rfl ⟨vp_in_nI (by omega) (by decide), ?_⟩
      rw [nI_clamp (by omega)]
      refine rx_add ⟨vp_in_nI (by omega) (by decide), nm_e (K (upd a_adjoints i (ra_ad (nI (q + 1)) (a_adjoints i) y)) a_flow (fun t ht => ?_) hF.2)⟩
      show upd a_adjoints i (ra_ad (nI (q + 1)) (a_adjoints i) y) t = upd A i (ra_ad (nI (q + 1)) (A i) y) t
      rw [hA i hi]
      by_cases z : t = i
      · rw [z, pk_us, pk_us]
      · rw [pk_un z, pk_un z]; exact hA t ht
  · have hl : F.length = d - 1 + 0 := hl
    rw [rt_bw2, nI_clamp (by omega)] at K
    refine br_t rfl ⟨vp_in_nI (by omega) (by decide), ?_⟩
    rw [nI_clamp (by omega)]
    refine rx_pushFlow (by omega) ⟨vp_in_nI (by omega) (by decide), nm_e (K (upd a_adjoints i 0) (upd a_flow F.length (a_adjoints i)) (fun t ht => ?_) (rl_push' hF rfl (hA i hi)))⟩
    show upd a_adjoints i 0 t = upd A i 0 t
    by_cases z : t = i
    · rw [z, pk_us, pk_us]
    · rw [pk_un z, pk_un z]; exact hA t ht
  · have hl : F.length = d - 1 + 0 := hl
    rw [rt_bw3] at K
    exact br_f (by decide) (br_t rfl (rx_pushFlow (by omega) (K a_adjoints _ hA (rl_push hF))))
  · have hl : F.length = d - 2 + 1 := hl
    match F, hl, hF, K with
    | [], hl, _, _ => simp at hl
    | y :: F', hl, hF, K =>
      rw [rt_bw4] at K
      rw [List.length_cons] at hl
      refine br_f (by decide) (br_f (by decide) (rx_popFlow (d := F'.length) (by omega) hF.1 ?_))
      refine br_f (by decide) (br_t rfl (rx_multiply hq (rx_multiply hq (rx_pushFlow (d := F'.length) (by omega) ?_))))
      exact rx_pushFlow (d := F'.length + 1) (by omega) (K a_adjoints _ hA (rl_push' (rl_push' hF.2 rfl rfl) rfl rfl))
  · have hl : F.length = d - 1 + 1 := hl
    match F, hl, hF, K with
    | [], hl, _, _ => simp at hl
    | y :: F', hl, hF, K =>
      rw [rt_bw5] at K
      rw [List.length_cons] at hl
      refine br_f (by decide) (br_f (by decide) (rx_popFlow (d := F'.length) (by omega) hF.1 ?_))
      exact br_f (by decide) (br_f (by decide) (br_t rfl (rx_negate (rx_pushFlow (by omega) (K a_adjoints _ hA (rl_push hF.2))))))
  · have hl : F.length = d - 1 + 2 := hl
    match F, hl, hF, K with
    | [], hl, _, _ => simp at hl
    | [_], hl, _, _ => simp at hl
    | y :: z :: F', hl, hF, K =>
      rw [rt_bw6] at K
      simp only [List.length_cons] at hl
      refine br_f (by decide) (br_f (by decide) (rx_popFlow (d := F'.length + 1) (by omega) hF.1 ?_))
      refine br_f (by decide) (br_f (by decide) (br_f (by decide) (br_t rfl (rx_popFlow (d := F'.length) (by omega) hF.2.1 ?_))))
      exact rx_add (rx_pushFlow (by omega) (K a_adjoints _ hA (rl_push hF.2.2)))
  · have hl : F.length = d - 2 + 2 := hl
    match F, hl, hF, K with
    | [], hl, _, _ => simp at hl
    | [_], hl, _, _ => simp at hl
    | y :: z :: F', hl, hF, K =>
      rw [rt_bw7] at K
      simp only [List.length_cons] at hl
      refine br_f (by decide) (br_f (by decide) (rx_popFlow (d := F'.length + 1) (by omega) hF.1 ?_))
      refine br_f (by decide) (br_f (by decide) (br_f (by decide) (br_f (by decide) (br_t rfl (rx_popFlow (d := F'.length) (by omega) hF.2.1 ?_)))))
      refine rx_pushFlow (d := F'.length) (by omega) ?_
      exact rx_pushFlow (d := F'.length + 1) (by omega) (K a_adjoints _ hA (rl_push' (rl_push' hF.2.2 rfl rfl) rfl rfl))
theorem rx_ff_lp {post : SX → Prop} {q n na lo : Nat} (hq : q < 32749) (hn : n ≤ 8) (h1024 : na ≤ 1024) (tw : rt_TW q n a_actCode a_actLeft a_actRight na) {T0 : Nat → Int32} (cT : rt_Cf q n T0) (h0 : rt_dp a_actCode lo = 0)
    (K : ∀ fd tg fl, (∀ i, i < n → tg i = (rt_fR (nI (q + 1)) a_actCode a_actLeft a_actRight lo (T0, []) (na - lo)).1 i) → post (f_STORE_CELL, f_STORE_AT, f_OPERATOR, f_LOOP, f_LOOP_BY, f_IF, f_ELSE, f_END, f_ACT_ZERO, f_ACT_READ, f_ACT_WRITE, f_ACT_DROP, f_ACT_COMBINE, f_ACT_NEGATE, f_ACT_COPY, f_ACT_EXCHANGE, nI (q + 1), f_cellCount, f_room, f_phase, f_itemCount, f_size, f_pending, f_factor, f_work, f_openCount, f_openLoops, f_depth, f_loopDepth, f_faultItem, nI na, f_stepCount, f_cursor, f_hasTangent, fd, a_inputs, a_weights, a_itemKind, a_itemArg, a_itemJump, a_openItem, a_openElse, a_openFactor, a_cells, a_stack, a_loopCounter, a_loopLimit, a_actCode, a_actLeft, a_actRight, a_stepItem, a_stepCell, a_stepOld, a_stepNew, a_stepEnd, a_adjoints, tg, fl)) :
    ∀ (d t : Nat) (tg fl : Nat → Int32), lo + t + d = na → (∀ i, i < n → tg i = (rt_fR (nI (q + 1)) a_actCode a_actLeft a_actRight lo (T0, []) t).1 i) → rl_A (fun x => x) fl (rt_fR (nI (q + 1)) a_actCode a_actLeft a_actRight lo (T0, []) t).2 →
      wX_flowForward_7 post (d + 1) (nI (lo + t)) f_STORE_CELL f_STORE_AT f_OPERATOR f_LOOP f_LOOP_BY f_IF f_ELSE f_END f_ACT_ZERO f_ACT_READ f_ACT_WRITE f_ACT_DROP f_ACT_COMBINE f_ACT_NEGATE f_ACT_COPY f_ACT_EXCHANGE (nI (q + 1)) f_cellCount f_room f_phase f_itemCount f_size f_pending f_factor f_work f_openCount f_openLoops f_depth f_loopDepth f_faultItem (nI na) f_stepCount f_cursor f_hasTangent (nI (rt_fR (nI (q + 1)) a_actCode a_actLeft a_actRight lo (T0, []) t).2.length) a_inputs a_weights a_itemKind a_itemArg a_itemJump a_openItem a_openElse a_openFactor a_cells a_stack a_loopCounter a_loopLimit a_actCode a_actLeft a_actRight a_stepItem a_stepCell a_stepOld a_stepNew a_stepEnd a_adjoints tg fl
  | 0, t, tg, fl, h, h1, h2 => by
    refine br_t (nI_le (by omega) (by omega)) (K _ tg fl ?_)
    rw [show na - lo = t by omega]; exact h1
  | d + 1, t, tg, fl, h, h1, h2 => by
    have c0 : rt_Cl q [] := fun x hx => absurd hx (List.not_mem_nil)
    have fi := rt_fR_inv hq hn tw cT c0 h0.symm t (by omega)
    refine br_f (nI_ge (by omega) (by omega)) ⟨vp_in_nI (by omega) (by decide), vp_in_nI (by omega) (by decide), vp_in_nI (by omega) (by decide), ?_⟩
    rw [nI_clamp (by omega)]
    refine rx_fa hq hn (tw (lo + t) (by omega)) fi.2.2 h1 h2 (fun tg' fl' g1 g2 => nm_r (nI_1 (lo + t)) ?_)
    exact rx_ff_lp hq hn h1024 tw cT h0 K d (t + 1) tg' fl' (by omega) g1 g2
theorem rx_flowForward {post : SX → Prop} {q n na lo : Nat} (hq : q < 32749) (hn : n ≤ 8) (h1024 : na ≤ 1024) (hlo : lo ≤ na) (tw : rt_TW q n a_actCode a_actLeft a_actRight na) {T0 : Nat → Int32} (cT : rt_Cf q n T0) (h0 : rt_dp a_actCode lo = 0) (hT : ∀ i, i < n → a_tangents i = T0 i)
    (K : ∀ fd tg fl, (∀ i, i < n → tg i = (rt_fR (nI (q + 1)) a_actCode a_actLeft a_actRight lo (T0, []) (na - lo)).1 i) → post (f_STORE_CELL, f_STORE_AT, f_OPERATOR, f_LOOP, f_LOOP_BY, f_IF, f_ELSE, f_END, f_ACT_ZERO, f_ACT_READ, f_ACT_WRITE, f_ACT_DROP, f_ACT_COMBINE, f_ACT_NEGATE, f_ACT_COPY, f_ACT_EXCHANGE, nI (q + 1), f_cellCount, f_room, f_phase, f_itemCount, f_size, f_pending, f_factor, f_work, f_openCount, f_openLoops, f_depth, f_loopDepth, f_faultItem, nI na, f_stepCount, f_cursor, f_hasTangent, fd, a_inputs, a_weights, a_itemKind, a_itemArg, a_itemJump, a_openItem, a_openElse, a_openFactor, a_cells, a_stack, a_loopCounter, a_loopLimit, a_actCode, a_actLeft, a_actRight, a_stepItem, a_stepCell, a_stepOld, a_stepNew, a_stepEnd, a_adjoints, tg, fl)) :
    wpX_flowForward post (f_STORE_CELL, f_STORE_AT, f_OPERATOR, f_LOOP, f_LOOP_BY, f_IF, f_ELSE, f_END, f_ACT_ZERO, f_ACT_READ, f_ACT_WRITE, f_ACT_DROP, f_ACT_COMBINE, f_ACT_NEGATE, f_ACT_COPY, f_ACT_EXCHANGE, nI (q + 1), f_cellCount, f_room, f_phase, f_itemCount, f_size, f_pending, f_factor, f_work, f_openCount, f_openLoops, f_depth, f_loopDepth, f_faultItem, nI na, f_stepCount, f_cursor, f_hasTangent, f_flowDepth, a_inputs, a_weights, a_itemKind, a_itemArg, a_itemJump, a_openItem, a_openElse, a_openFactor, a_cells, a_stack, a_loopCounter, a_loopLimit, a_actCode, a_actLeft, a_actRight, a_stepItem, a_stepCell, a_stepOld, a_stepNew, a_stepEnd, a_adjoints, a_tangents, a_flow) (nI lo) :=
  ⟨na - lo + 1, rx_ff_lp hq hn h1024 tw cT h0 K (na - lo) 0 a_tangents a_flow (by omega) hT True.intro⟩
theorem rx_lt1 {b lo : Nat} (h : b ≤ lo) (hl : lo < 2 ^ 31) : nI b - 1 < nI lo := by
  match b, h with
  | 0, _ => exact Int32.lt_of_lt_of_le (b := 0) (by decide) (nI_pos' hl)
  | b + 1, h => rw [nI_pred]; exact nI_lt (by omega) hl
theorem rx_m1 (b : Nat) : nI b + (-1) = nI b - 1 := (Int32.sub_eq_add_neg _ _).symm
theorem rx_fb_lp {post : SX → Prop} {q n na lo hi : Nat} (hq : q < 32749) (hn : n ≤ 8) (h1024 : na ≤ 1024) (hh : hi ≤ na) (tw : rt_TW q n a_actCode a_actLeft a_actRight na) {A0 : Nat → Int32} (cA : rt_Cf q n A0) (h0 : rt_dp a_actCode hi = 0)
    (K : ∀ fd ad fl, (∀ i, i < n → ad i = (rt_bR (nI (q + 1)) a_actCode a_actLeft a_actRight hi (A0, []) (hi - lo)).1 i) → post (f_STORE_CELL, f_STORE_AT, f_OPERATOR, f_LOOP, f_LOOP_BY, f_IF, f_ELSE, f_END, f_ACT_ZERO, f_ACT_READ, f_ACT_WRITE, f_ACT_DROP, f_ACT_COMBINE, f_ACT_NEGATE, f_ACT_COPY, f_ACT_EXCHANGE, nI (q + 1), f_cellCount, f_room, f_phase, f_itemCount, f_size, f_pending, f_factor, f_work, f_openCount, f_openLoops, f_depth, f_loopDepth, f_faultItem, f_actCount, f_stepCount, f_cursor, f_hasTangent, fd, a_inputs, a_weights, a_itemKind, a_itemArg, a_itemJump, a_openItem, a_openElse, a_openFactor, a_cells, a_stack, a_loopCounter, a_loopLimit, a_actCode, a_actLeft, a_actRight, a_stepItem, a_stepCell, a_stepOld, a_stepNew, a_stepEnd, ad, a_tangents, fl)) :
    ∀ (d t : Nat) (ad fl : Nat → Int32), lo + d + t = hi → (∀ i, i < n → ad i = (rt_bR (nI (q + 1)) a_actCode a_actLeft a_actRight hi (A0, []) t).1 i) → rl_A (fun x => x) fl (rt_bR (nI (q + 1)) a_actCode a_actLeft a_actRight hi (A0, []) t).2 →
      wX_flowBackward_9 post (nI lo) (d + 1) (nI (lo + d) - 1) f_STORE_CELL f_STORE_AT f_OPERATOR f_LOOP f_LOOP_BY f_IF f_ELSE f_END f_ACT_ZERO f_ACT_READ f_ACT_WRITE f_ACT_DROP f_ACT_COMBINE f_ACT_NEGATE f_ACT_COPY f_ACT_EXCHANGE (nI (q + 1)) f_cellCount f_room f_phase f_itemCount f_size f_pending f_factor f_work f_openCount f_openLoops f_depth f_loopDepth f_faultItem f_actCount f_stepCount f_cursor f_hasTangent (nI (rt_bR (nI (q + 1)) a_actCode a_actLeft a_actRight hi (A0, []) t).2.length) a_inputs a_weights a_itemKind a_itemArg a_itemJump a_openItem a_openElse a_openFactor a_cells a_stack a_loopCounter a_loopLimit a_actCode a_actLeft a_actRight a_stepItem a_stepCell a_stepOld a_stepNew a_stepEnd ad a_tangents fl
  | 0, t, ad, fl, h, h1, h2 => by
    refine br_t (rx_lt1 (by omega) (by omega)) (K _ ad fl ?_)
    rw [show hi - lo = t by omega]; exact h1
  | d + 1, t, ad, fl, h, h1, h2 => by
    have c0 : rt_Cl q [] := fun x hx => absurd hx (List.not_mem_nil)
    have fi := rt_bR_inv hq hn tw hh cA c0 h0.symm t (by omega)
    rw [show hi - t = (lo + d) + 1 by omega] at fi
    rw [show nI (lo + (d + 1)) - 1 = nI (lo + d) from nI_pred (lo + d)]
    refine br_f (nI_nlt (by omega) (by omega)) ⟨vp_in_nI (by omega) (by decide), vp_in_nI (by omega) (by decide), vp_in_nI (by omega) (by decide), ?_⟩
    rw [nI_clamp (by omega)]
    refine rx_ba hq hn (tw (lo + d) (by omega)) fi.2.2 h1 h2 (fun ad' fl' g1 g2 => nm_r (rx_m1 (lo + d)) ?_)
    have e : hi - 1 - t = lo + d := by omega
    have step : rt_bR (nI (q + 1)) a_actCode a_actLeft a_actRight hi (A0, []) (t + 1) = rt_bw (nI (q + 1)) (a_actCode (lo + d)) (a_actLeft (lo + d)) (a_actRight (lo + d)) (rt_bR (nI (q + 1)) a_actCode a_actLeft a_actRight hi (A0, []) t) := by
      show rt_bw _ (a_actCode (hi - 1 - t)) (a_actLeft (hi - 1 - t)) (a_actRight (hi - 1 - t)) _ = _
      rw [e]
    have w := rx_fb_lp hq hn h1024 hh tw cA h0 K d (t + 1) ad' fl' (by omega)
    rw [step] at w
    exact w g1 g2
/-- from a place hi' on the way down from hi -/
theorem rx_flowBackward {post : SX → Prop} {q n na lo mid hi : Nat} (hq : q < 32749) (hn : n ≤ 8) (h1024 : na ≤ 1024) (hh : hi ≤ na) (hm : mid ≤ hi) (hlo : lo ≤ mid) (tw : rt_TW q n a_actCode a_actLeft a_actRight na) {A0 : Nat → Int32} (cA : rt_Cf q n A0) (h0 : rt_dp a_actCode hi = 0) (hmid : rt_dp a_actCode mid = 0)
    (hA : ∀ i, i < n → a_adjoints i = (rt_bR (nI (q + 1)) a_actCode a_actLeft a_actRight hi (A0, []) (hi - mid)).1 i)
    (K : ∀ fd ad fl, (∀ i, i < n → ad i = (rt_bR (nI (q + 1)) a_actCode a_actLeft a_actRight hi (A0, []) (hi - lo)).1 i) → post (f_STORE_CELL, f_STORE_AT, f_OPERATOR, f_LOOP, f_LOOP_BY, f_IF, f_ELSE, f_END, f_ACT_ZERO, f_ACT_READ, f_ACT_WRITE, f_ACT_DROP, f_ACT_COMBINE, f_ACT_NEGATE, f_ACT_COPY, f_ACT_EXCHANGE, nI (q + 1), f_cellCount, f_room, f_phase, f_itemCount, f_size, f_pending, f_factor, f_work, f_openCount, f_openLoops, f_depth, f_loopDepth, f_faultItem, f_actCount, f_stepCount, f_cursor, f_hasTangent, fd, a_inputs, a_weights, a_itemKind, a_itemArg, a_itemJump, a_openItem, a_openElse, a_openFactor, a_cells, a_stack, a_loopCounter, a_loopLimit, a_actCode, a_actLeft, a_actRight, a_stepItem, a_stepCell, a_stepOld, a_stepNew, a_stepEnd, ad, a_tangents, fl)) :
    wpX_flowBackward post (f_STORE_CELL, f_STORE_AT, f_OPERATOR, f_LOOP, f_LOOP_BY, f_IF, f_ELSE, f_END, f_ACT_ZERO, f_ACT_READ, f_ACT_WRITE, f_ACT_DROP, f_ACT_COMBINE, f_ACT_NEGATE, f_ACT_COPY, f_ACT_EXCHANGE, nI (q + 1), f_cellCount, f_room, f_phase, f_itemCount, f_size, f_pending, f_factor, f_work, f_openCount, f_openLoops, f_depth, f_loopDepth, f_faultItem, f_actCount, f_stepCount, f_cursor, f_hasTangent, f_flowDepth, a_inputs, a_weights, a_itemKind, a_itemArg, a_itemJump, a_openItem, a_openElse, a_openFactor, a_cells, a_stack, a_loopCounter, a_loopLimit, a_actCode, a_actLeft, a_actRight, a_stepItem, a_stepCell, a_stepOld, a_stepNew, a_stepEnd, a_adjoints, a_tangents, a_flow) (nI mid) (nI lo) := by
  have c0 : rt_Cl q [] := fun x hx => absurd hx (List.not_mem_nil)
  have fi := rt_bR_inv hq hn tw hh cA c0 h0.symm (hi - mid) (by omega)
  rw [show hi - (hi - mid) = mid by omega, hmid] at fi
  have fn := List.eq_nil_of_length_eq_zero fi.2.2
  have w := rx_fb_lp (post := post) (lo := lo) hq hn h1024 hh tw cA h0 K (mid - lo) (hi - mid) a_adjoints a_flow (by omega) hA (by rw [fn]; exact True.intro)
  rw [fn, show lo + (mid - lo) = mid by omega] at w
  exact nm_e ⟨mid - lo + 1, w⟩
theorem rx_tp {post : Int32 → Prop} {k ns : Nat} (hk : k ≤ ns) (h1024 : ns ≤ 1024) (hSE : ∀ k, k < ns → a_stepEnd k = nI (rc_tp a_stepEnd (k + 1))) (K : post (nI (rc_tp a_stepEnd k))) : wpX_tapePosition post (f_STORE_CELL, f_STORE_AT, f_OPERATOR, f_LOOP, f_LOOP_BY, f_IF, f_ELSE, f_END, f_ACT_ZERO, f_ACT_READ, f_ACT_WRITE, f_ACT_DROP, f_ACT_COMBINE, f_ACT_NEGATE, f_ACT_COPY, f_ACT_EXCHANGE, f_prime, f_cellCount, f_room, f_phase, f_itemCount, f_size, f_pending, f_factor, f_work, f_openCount, f_openLoops, f_depth, f_loopDepth, f_faultItem, f_actCount, nI ns, f_cursor, f_hasTangent, f_flowDepth, a_inputs, a_weights, a_itemKind, a_itemArg, a_itemJump, a_openItem, a_openElse, a_openFactor, a_cells, a_stack, a_loopCounter, a_loopLimit, a_actCode, a_actLeft, a_actRight, a_stepItem, a_stepCell, a_stepOld, a_stepNew, a_stepEnd, a_adjoints, a_tangents, a_flow) (nI k) := by
  match k, hk, K with
  | 0, _, K => exact br_t (by decide) K
  | k + 1, hk, K =>
    refine br_f (nI_nle (by omega) (by omega)) (br_t (nI_le hk (by omega)) ?_)
    rw [nI_pred k]
    refine ⟨vp_in_nI (by omega) (by decide), ?_⟩
    rw [nI_clamp (by omega), hSE k (by omega)]; exact K
theorem rx_seed_lp {post : SX → Prop} (K : ∀ ad, (∀ i, i < 8 → ad i = a_weights i) → post (f_STORE_CELL, f_STORE_AT, f_OPERATOR, f_LOOP, f_LOOP_BY, f_IF, f_ELSE, f_END, f_ACT_ZERO, f_ACT_READ, f_ACT_WRITE, f_ACT_DROP, f_ACT_COMBINE, f_ACT_NEGATE, f_ACT_COPY, f_ACT_EXCHANGE, f_prime, f_cellCount, f_room, f_phase, f_itemCount, f_size, f_pending, f_factor, f_work, f_openCount, f_openLoops, f_depth, f_loopDepth, f_faultItem, f_actCount, f_stepCount, f_cursor, f_hasTangent, f_flowDepth, a_inputs, a_weights, a_itemKind, a_itemArg, a_itemJump, a_openItem, a_openElse, a_openFactor, a_cells, a_stack, a_loopCounter, a_loopLimit, a_actCode, a_actLeft, a_actRight, a_stepItem, a_stepCell, a_stepOld, a_stepNew, a_stepEnd, ad, a_tangents, a_flow)) : ∀ (d i : Nat) (ad : Nat → Int32), i + d = 8 → (∀ t, t < i → ad t = a_weights t) → wX_seedAdjoints_2 post f_STORE_CELL f_STORE_AT f_OPERATOR f_LOOP f_LOOP_BY f_IF f_ELSE f_END f_ACT_ZERO f_ACT_READ f_ACT_WRITE f_ACT_DROP f_ACT_COMBINE f_ACT_NEGATE f_ACT_COPY f_ACT_EXCHANGE f_prime f_cellCount f_room f_phase f_itemCount f_size f_pending f_factor f_work f_openCount f_openLoops f_depth f_loopDepth f_faultItem f_actCount f_stepCount f_cursor f_hasTangent f_flowDepth (d + 1) (nI i) a_inputs a_weights a_itemKind a_itemArg a_itemJump a_openItem a_openElse a_openFactor a_cells a_stack a_loopCounter a_loopLimit a_actCode a_actLeft a_actRight a_stepItem a_stepCell a_stepOld a_stepNew a_stepEnd ad a_tangents a_flow
  | 0, i, ad, h, h1 => br_t (nI_le (a := 8) (b := i) (by omega) (by omega)) (K ad (fun t ht => h1 t (by omega)))
  | d + 1, i, ad, h, h1 => by
    refine br_f (nI_ge (a := i) (b := 8) (by omega) (by omega)) ⟨vp_in_nI (by omega) (by decide), vp_in_nI (by omega) (by decide), nm_r (e' := upd ad i (a_weights i)) (by rw [nI_clamp (by omega)]) (nm_r (nI_1 i) (rx_seed_lp K d (i + 1) _ (by omega) ?_))⟩
    intro t ht
    by_cases z : t = i
    · rw [z, pk_us]
    · rw [pk_un z]; exact h1 t (by omega)
theorem rx_seed {post : SX → Prop} (K : ∀ ad, (∀ i, i < 8 → ad i = a_weights i) → post (f_STORE_CELL, f_STORE_AT, f_OPERATOR, f_LOOP, f_LOOP_BY, f_IF, f_ELSE, f_END, f_ACT_ZERO, f_ACT_READ, f_ACT_WRITE, f_ACT_DROP, f_ACT_COMBINE, f_ACT_NEGATE, f_ACT_COPY, f_ACT_EXCHANGE, f_prime, f_cellCount, f_room, f_phase, f_itemCount, f_size, f_pending, f_factor, f_work, f_openCount, f_openLoops, f_depth, f_loopDepth, f_faultItem, f_actCount, f_stepCount, f_cursor, f_hasTangent, f_flowDepth, a_inputs, a_weights, a_itemKind, a_itemArg, a_itemJump, a_openItem, a_openElse, a_openFactor, a_cells, a_stack, a_loopCounter, a_loopLimit, a_actCode, a_actLeft, a_actRight, a_stepItem, a_stepCell, a_stepOld, a_stepNew, a_stepEnd, ad, a_tangents, a_flow)) : wpX_seedAdjoints post (f_STORE_CELL, f_STORE_AT, f_OPERATOR, f_LOOP, f_LOOP_BY, f_IF, f_ELSE, f_END, f_ACT_ZERO, f_ACT_READ, f_ACT_WRITE, f_ACT_DROP, f_ACT_COMBINE, f_ACT_NEGATE, f_ACT_COPY, f_ACT_EXCHANGE, f_prime, f_cellCount, f_room, f_phase, f_itemCount, f_size, f_pending, f_factor, f_work, f_openCount, f_openLoops, f_depth, f_loopDepth, f_faultItem, f_actCount, f_stepCount, f_cursor, f_hasTangent, f_flowDepth, a_inputs, a_weights, a_itemKind, a_itemArg, a_itemJump, a_openItem, a_openElse, a_openFactor, a_cells, a_stack, a_loopCounter, a_loopLimit, a_actCode, a_actLeft, a_actRight, a_stepItem, a_stepCell, a_stepOld, a_stepNew, a_stepEnd, a_adjoints, a_tangents, a_flow) :=
  ⟨9, rx_seed_lp K 8 0 a_adjoints (by omega) (fun t ht => absurd ht (Nat.not_lt_zero t))⟩
theorem rx_wt_lp {post : Int32 → Prop} {q n : Nat} (hq : q < 32749) (hn : n ≤ 8) (K : post (rt_sm (nI (q + 1)) a_weights a_tangents n)) : ∀ (d i : Nat), i + d = n → wX_weightedTangent_4 post f_STORE_CELL f_STORE_AT f_OPERATOR f_LOOP f_LOOP_BY f_IF f_ELSE f_END f_ACT_ZERO f_ACT_READ f_ACT_WRITE f_ACT_DROP f_ACT_COMBINE f_ACT_NEGATE f_ACT_COPY f_ACT_EXCHANGE (nI (q + 1)) (nI n) f_room f_phase f_itemCount f_size f_pending f_factor f_work f_openCount f_openLoops f_depth f_loopDepth f_faultItem f_actCount f_stepCount f_cursor f_hasTangent f_flowDepth a_inputs a_weights a_itemKind a_itemArg a_itemJump a_openItem a_openElse a_openFactor a_cells a_stack a_loopCounter a_loopLimit a_actCode a_actLeft a_actRight a_stepItem a_stepCell a_stepOld a_stepNew a_stepEnd a_adjoints a_tangents a_flow (d + 1) (rt_sm (nI (q + 1)) a_weights a_tangents i) (nI i)
  | 0, i, h => by
    have e : i = n := by omega
    subst e
    exact br_t (nI_le (Nat.le_refl _) (by omega)) K
  | d + 1, i, h => by
    refine br_f (nI_ge (by omega) (by omega)) ⟨vp_in_nI (by omega) (by decide), vp_in_nI (by omega) (by decide), ?_⟩
    rw [nI_clamp (by omega)]
    exact rx_multiply hq (rx_add (nm_r (nI_1 i) (rx_wt_lp hq hn K d (i + 1) (by omega))))
theorem rx_wt {post : Int32 → Prop} {q n : Nat} (hq : q < 32749) (hn : n ≤ 8) (K : post (rt_sm (nI (q + 1)) a_weights a_tangents n)) : wpX_weightedTangent post (f_STORE_CELL, f_STORE_AT, f_OPERATOR, f_LOOP, f_LOOP_BY, f_IF, f_ELSE, f_END, f_ACT_ZERO, f_ACT_READ, f_ACT_WRITE, f_ACT_DROP, f_ACT_COMBINE, f_ACT_NEGATE, f_ACT_COPY, f_ACT_EXCHANGE, nI (q + 1), nI n, f_room, f_phase, f_itemCount, f_size, f_pending, f_factor, f_work, f_openCount, f_openLoops, f_depth, f_loopDepth, f_faultItem, f_actCount, f_stepCount, f_cursor, f_hasTangent, f_flowDepth, a_inputs, a_weights, a_itemKind, a_itemArg, a_itemJump, a_openItem, a_openElse, a_openFactor, a_cells, a_stack, a_loopCounter, a_loopLimit, a_actCode, a_actLeft, a_actRight, a_stepItem, a_stepCell, a_stepOld, a_stepNew, a_stepEnd, a_adjoints, a_tangents, a_flow) :=
  ⟨n + 1, rx_wt_lp hq hn K n 0 (by omega)⟩
/-! the cells at a step -/
theorem rx_mvf {post : SX → Prop} {n k ns : Nat} {inp : Nat → Int32} (hn : n ≤ 8) (hk : k ≤ ns) (h1024 : ns ≤ 1024) (hs : ∀ s, s < ns → ∃ i, i < n ∧ a_stepCell s = nI i ∧ a_stepOld s = rc_A inp a_stepCell a_stepNew s i)
    (K : ∀ cl, (∀ i, i < 8 → cl i = rc_A inp a_stepCell a_stepNew k i) → post (f_STORE_CELL, f_STORE_AT, f_OPERATOR, f_LOOP, f_LOOP_BY, f_IF, f_ELSE, f_END, f_ACT_ZERO, f_ACT_READ, f_ACT_WRITE, f_ACT_DROP, f_ACT_COMBINE, f_ACT_NEGATE, f_ACT_COPY, f_ACT_EXCHANGE, f_prime, f_cellCount, f_room, f_phase, f_itemCount, f_size, f_pending, f_factor, f_work, f_openCount, f_openLoops, f_depth, f_loopDepth, f_faultItem, f_actCount, f_stepCount, f_cursor, f_hasTangent, f_flowDepth, a_inputs, a_weights, a_itemKind, a_itemArg, a_itemJump, a_openItem, a_openElse, a_openFactor, cl, a_stack, a_loopCounter, a_loopLimit, a_actCode, a_actLeft, a_actRight, a_stepItem, a_stepCell, a_stepOld, a_stepNew, a_stepEnd, a_adjoints, a_tangents, a_flow)) : ∀ (d i : Nat) (cl : Nat → Int32), i + d = k → (∀ t, t < 8 → cl t = rc_A inp a_stepCell a_stepNew i t) → wX_moveCells_40 post (nI k) f_STORE_CELL f_STORE_AT f_OPERATOR f_LOOP f_LOOP_BY f_IF f_ELSE f_END f_ACT_ZERO f_ACT_READ f_ACT_WRITE f_ACT_DROP f_ACT_COMBINE f_ACT_NEGATE f_ACT_COPY f_ACT_EXCHANGE f_prime f_cellCount f_room f_phase f_itemCount f_size f_pending f_factor f_work f_openCount f_openLoops f_depth f_loopDepth f_faultItem f_actCount f_stepCount f_cursor f_hasTangent f_flowDepth (d + 1) (nI i) a_inputs a_weights a_itemKind a_itemArg a_itemJump a_openItem a_openElse a_openFactor cl a_stack a_loopCounter a_loopLimit a_actCode a_actLeft a_actRight a_stepItem a_stepCell a_stepOld a_stepNew a_stepEnd a_adjoints a_tangents a_flow
  | 0, i, cl, h, h1 => by
    have e : i = k := by omega
    subst e
    exact br_t (nI_le (Nat.le_refl _) (by omega)) (K cl h1)
  | d + 1, i, cl, h, h1 => by
    obtain ⟨c, c1, c2, c3⟩ := hs i (by omega)
    have e : upd cl (a_stepCell (nI i).toNatClampNeg).toNatClampNeg (a_stepNew (nI i).toNatClampNeg) = upd cl c (a_stepNew i) := by rw [nI_clamp (by omega), c2, nI_clamp (by omega)]
    refine br_f (nI_ge (by omega) (by omega)) ⟨vp_in_nI (by omega) (by decide), vp_in_nI (by omega) (by decide), ?_, nm_r e (nm_r (nI_1 i) (rx_mvf hn hk h1024 hs K d (i + 1) _ (by omega) ?_))⟩
    · rw [nI_clamp (by omega), c2]; exact vp_in_nI (by omega) (by decide)
    · intro t ht
      show _ = upd (rc_A inp a_stepCell a_stepNew i) (a_stepCell i).toNatClampNeg (a_stepNew i) t
      rw [c2, nI_clamp (by omega)]
      by_cases z : t = c
      · rw [z, pk_us, pk_us]
      · rw [pk_un z, pk_un z]; exact h1 t ht
theorem rx_mvb {post : SX → Prop} {n k ns cur : Nat} {inp : Nat → Int32} (hn : n ≤ 8) (hk : k ≤ cur) (hc : cur ≤ ns) (h1024 : ns ≤ 1024) (hs : ∀ s, s < ns → ∃ i, i < n ∧ a_stepCell s = nI i ∧ a_stepOld s = rc_A inp a_stepCell a_stepNew s i)
    (K : ∀ cl, (∀ i, i < 8 → cl i = rc_A inp a_stepCell a_stepNew k i) → post (f_STORE_CELL, f_STORE_AT, f_OPERATOR, f_LOOP, f_LOOP_BY, f_IF, f_ELSE, f_END, f_ACT_ZERO, f_ACT_READ, f_ACT_WRITE, f_ACT_DROP, f_ACT_COMBINE, f_ACT_NEGATE, f_ACT_COPY, f_ACT_EXCHANGE, f_prime, f_cellCount, f_room, f_phase, f_itemCount, f_size, f_pending, f_factor, f_work, f_openCount, f_openLoops, f_depth, f_loopDepth, f_faultItem, f_actCount, f_stepCount, nI cur, f_hasTangent, f_flowDepth, a_inputs, a_weights, a_itemKind, a_itemArg, a_itemJump, a_openItem, a_openElse, a_openFactor, cl, a_stack, a_loopCounter, a_loopLimit, a_actCode, a_actLeft, a_actRight, a_stepItem, a_stepCell, a_stepOld, a_stepNew, a_stepEnd, a_adjoints, a_tangents, a_flow)) : ∀ (d : Nat) (cl : Nat → Int32), k + d ≤ cur → (∀ t, t < 8 → cl t = rc_A inp a_stepCell a_stepNew (k + d) t) → wX_moveCells_7 post (nI k) f_STORE_CELL f_STORE_AT f_OPERATOR f_LOOP f_LOOP_BY f_IF f_ELSE f_END f_ACT_ZERO f_ACT_READ f_ACT_WRITE f_ACT_DROP f_ACT_COMBINE f_ACT_NEGATE f_ACT_COPY f_ACT_EXCHANGE f_prime f_cellCount f_room f_phase f_itemCount f_size f_pending f_factor f_work f_openCount f_openLoops f_depth f_loopDepth f_faultItem f_actCount f_stepCount (nI cur) f_hasTangent f_flowDepth (d + 1) (nI (k + d) - 1) a_inputs a_weights a_itemKind a_itemArg a_itemJump a_openItem a_openElse a_openFactor cl a_stack a_loopCounter a_loopLimit a_actCode a_actLeft a_actRight a_stepItem a_stepCell a_stepOld a_stepNew a_stepEnd a_adjoints a_tangents a_flow
  | 0, cl, h, h1 => br_t (rx_lt1 (by omega) (by omega)) ⟨1, br_t (nI_le hk (by omega)) (K cl h1)⟩
  | d + 1, cl, h, h1 => by
    obtain ⟨c, c1, c2, c3⟩ := hs (k + d) (by omega)
    rw [show nI (k + (d + 1)) - 1 = nI (k + d) from nI_pred (k + d)]
    have e : upd cl (a_stepCell (nI (k + d)).toNatClampNeg).toNatClampNeg (a_stepOld (nI (k + d)).toNatClampNeg) = upd cl c (a_stepOld (k + d)) := by rw [nI_clamp (by omega), c2, nI_clamp (by omega)]
    refine br_f (nI_nlt (by omega) (by omega)) ⟨vp_in_nI (by omega) (by decide), vp_in_nI (by omega) (by decide), ?_, nm_r e (nm_r (rx_m1 (k + d)) (rx_mvb hn hk hc h1024 hs K d _ (by omega) ?_))⟩
    · rw [nI_clamp (by omega), c2]; exact vp_in_nI (by omega) (by decide)
    · intro t ht
      have g := h1 t ht
      have g' : cl t = upd (rc_A inp a_stepCell a_stepNew (k + d)) (a_stepCell (k + d)).toNatClampNeg (a_stepNew (k + d)) t := g
      rw [c2, nI_clamp (by omega)] at g'
      by_cases z : t = c
      · rw [z, pk_us, c3]
      · rw [pk_un z, g', pk_un z]
theorem rx_move {post : SX → Prop} {n k ns cur : Nat} {inp : Nat → Int32} (hn : n ≤ 8) (hk : k ≤ ns) (hc : cur ≤ ns) (h1024 : ns ≤ 1024) (hs : ∀ s, s < ns → ∃ i, i < n ∧ a_stepCell s = nI i ∧ a_stepOld s = rc_A inp a_stepCell a_stepNew s i)
    (h1 : ∀ t, t < 8 → a_cells t = rc_A inp a_stepCell a_stepNew cur t) (K : ∀ cl, (∀ i, i < 8 → cl i = rc_A inp a_stepCell a_stepNew k i) → post (f_STORE_CELL, f_STORE_AT, f_OPERATOR, f_LOOP, f_LOOP_BY, f_IF, f_ELSE, f_END, f_ACT_ZERO, f_ACT_READ, f_ACT_WRITE, f_ACT_DROP, f_ACT_COMBINE, f_ACT_NEGATE, f_ACT_COPY, f_ACT_EXCHANGE, f_prime, f_cellCount, f_room, f_phase, f_itemCount, f_size, f_pending, f_factor, f_work, f_openCount, f_openLoops, f_depth, f_loopDepth, f_faultItem, f_actCount, f_stepCount, nI cur, f_hasTangent, f_flowDepth, a_inputs, a_weights, a_itemKind, a_itemArg, a_itemJump, a_openItem, a_openElse, a_openFactor, cl, a_stack, a_loopCounter, a_loopLimit, a_actCode, a_actLeft, a_actRight, a_stepItem, a_stepCell, a_stepOld, a_stepNew, a_stepEnd, a_adjoints, a_tangents, a_flow)) : wpX_moveCells post (f_STORE_CELL, f_STORE_AT, f_OPERATOR, f_LOOP, f_LOOP_BY, f_IF, f_ELSE, f_END, f_ACT_ZERO, f_ACT_READ, f_ACT_WRITE, f_ACT_DROP, f_ACT_COMBINE, f_ACT_NEGATE, f_ACT_COPY, f_ACT_EXCHANGE, f_prime, f_cellCount, f_room, f_phase, f_itemCount, f_size, f_pending, f_factor, f_work, f_openCount, f_openLoops, f_depth, f_loopDepth, f_faultItem, f_actCount, f_stepCount, nI cur, f_hasTangent, f_flowDepth, a_inputs, a_weights, a_itemKind, a_itemArg, a_itemJump, a_openItem, a_openElse, a_openFactor, a_cells, a_stack, a_loopCounter, a_loopLimit, a_actCode, a_actLeft, a_actRight, a_stepItem, a_stepCell, a_stepOld, a_stepNew, a_stepEnd, a_adjoints, a_tangents, a_flow) (nI k) := by
  by_cases h : k ≤ cur
  · have w := rx_mvb (post := post) hn h hc h1024 hs K (cur - k) a_cells (by omega) (by rw [show k + (cur - k) = cur by omega]; exact h1)
    rw [show k + (cur - k) = cur by omega] at w
    exact nm_e ⟨cur - k + 1, w⟩
  · have w := rx_mvf (post := post) (f_cursor := nI cur) hn hk h1024 hs K (k - cur) cur a_cells (by omega) h1
    exact nm_e ⟨1, br_t (rx_lt1 (by omega) (by omega)) ⟨k - cur + 1, w⟩⟩
end
end
section
/-! Y: scan finds what the program's structure says -/
section
variable {q n N : Nat} {kd ar : Nat → Int32}
theorem rs_mk : ∀ i, rs_PV q n kd ar i → ∀ x, x ∈ rs_sk kd i → kd x.2 = 7 ∨ kd x.2 = 8 ∨ kd x.2 = 9 ∨ kd x.2 = 10
  | 0, _, x, hx => absurd hx (List.not_mem_nil)
  | i + 1, pv, x, hx => by
    have ih := rs_mk i (fun j hj => pv j (by omega))
    rcases rs_cs (pv i (by omega)) with ⟨_, e⟩ | ⟨ho, _, e⟩ | ⟨h10, o, l, h1, _, e⟩ | ⟨_, o, m, l, h1, e⟩
    · rw [e] at hx; exact ih x hx
    · rw [e] at hx
      rcases List.mem_cons.mp hx with z | z
      · subst z; rcases ho with y | y | y
        · exact Or.inl y
        · exact Or.inr (Or.inl y)
        · exact Or.inr (Or.inr (Or.inl y))
      · exact ih x z
    · rw [e] at hx
      rcases List.mem_cons.mp hx with z | z
      · subst z; exact Or.inr (Or.inr (Or.inr h10))
      · exact ih x (by rw [h1]; exact List.mem_cons_of_mem _ z)
    · rw [e] at hx
      exact ih x (by rw [h1]; exact List.mem_cons_of_mem _ hx)
theorem rl_suf {α : Type} {f : α → Int32} {arr : Nat → Int32} : ∀ {p l : List α}, rl_A f arr (p ++ l) → rl_A f arr l
  | [], _, h => h
  | _ :: p, _, h => rl_suf (p := p) h.2
end
section
variable {f_p f_n f_room f_phase f_items f_cursor f_hasTangent f_size f_pending f_factor f_work f_open f_loops f_steps f_faultItem f_nextItem f_nextCell f_top : Int32} {a_kinds a_args a_inputs a_weights a_tangents a_marks a_cell a_dcell a_seen a_val a_der a_start a_counter a_total : Nat → Int32}
theorem ry_s283 {post : SY → Prop} {N d i : Nat} : ∀ (r suf : List (Nat × Nat)), rl_A (fun x => nI x.2) a_marks (r.reverse ++ suf) → (r.reverse ++ suf).length ≤ 6 → (∀ x, x ∈ r → x.2 < 128 ∧ (a_kinds x.2 = 7 ∨ a_kinds x.2 = 8 ∨ a_kinds x.2 = 9 ∨ a_kinds x.2 = 10)) →
    wY_scan_32 post f_p f_n f_room f_phase (nI N) f_cursor f_hasTangent f_steps f_faultItem f_nextItem f_nextCell f_top d (nI (i + 1)) f_size f_pending (rs_fac a_kinds a_args (r.reverse ++ suf)) f_work (nI (r.reverse ++ suf).length) (nI (rs_lp a_kinds (r.reverse ++ suf)).length) a_kinds a_args a_inputs a_weights a_tangents a_marks a_cell a_dcell a_seen a_val a_der a_start a_counter a_total →
    wY_scan_283 post (wY_scan_32 post f_p f_n f_room f_phase (nI N) f_cursor f_hasTangent f_steps f_faultItem f_nextItem f_nextCell f_top d) (nI i) f_p f_n f_room f_phase (nI N) f_cursor f_hasTangent f_size f_pending f_work (nI (r.reverse ++ suf).length) f_steps f_faultItem f_nextItem f_nextCell f_top a_kinds a_args a_inputs a_weights a_tangents a_marks a_cell a_dcell a_seen a_val a_der a_start a_counter a_total (r.length + 1) (nI suf.length) (rs_fac a_kinds a_args suf) (nI (rs_lp a_kinds suf).length)
  | [], suf, h, h6, hm, K => br_t (nI_le (by simp) (by simp at h6; simp; omega)) (nm_r (nI_1 i) K)
  | x :: r, suf, h, h6, hm, K => by
    have e : (x :: r).reverse ++ suf = r.reverse ++ (x :: suf) := by simp
    rw [e] at h h6 K ⊢
    have hx := hm x (List.mem_cons_self ..)
    have hs := rl_suf (p := r.reverse) h
    have ml : a_marks suf.length = nI x.2 := hs.1
    have l6 : suf.length < 6 := by simp at h6; omega
    have go := ry_s283 (post := post) (i := i) r (x :: suf) h h6 (fun y hy => hm y (List.mem_cons_of_mem _ hy)) K
    refine br_f (nI_ge (by simp; omega) (by omega)) ⟨vp_in_nI l6 (by decide), ?_⟩
    rw [nI_clamp (show suf.length < 2 ^ 31 by omega), ml]
    refine ⟨vp_in_nI hx.1 (by decide), ?_⟩
    rw [nI_clamp (show x.2 < 2 ^ 31 by omega)]
    have lc : (x :: suf).length = suf.length + 1 := rfl
    by_cases c : a_kinds x.2 = 7 ∨ a_kinds x.2 = 8
    · have e1 : rs_fac a_kinds a_args (x :: suf) = rs_fac a_kinds a_args suf * a_args x.2 := if_pos c
      have e2 : rs_lp a_kinds (x :: suf) = x.2 :: rs_lp a_kinds suf := if_pos c
      rw [e1, e2, lc] at go
      refine br_f (by rcases c with z | z <;> rw [z] <;> decide) ⟨vp_in_nI l6 (by decide), vp_in_nI hx.1 (by decide), nm_e (nm_r (nI_1 _) (nm_r (nI_1 suf.length) go))⟩
    · have e1 : rs_fac a_kinds a_args (x :: suf) = rs_fac a_kinds a_args suf := if_neg c
      have e2 : rs_lp a_kinds (x :: suf) = rs_lp a_kinds suf := if_neg c
      rw [e1, e2, lc] at go
      refine br_t ?_ (nm_r (nI_1 suf.length) go)
      rcases hx.2 with z | z | z | z
      · exact absurd (Or.inl z) c
      · exact absurd (Or.inr z) c
      · rw [z]; decide
      · rw [z]; decide
theorem ry_s270 {post : SY → Prop} {N d i : Nat} {l : List (Nat × Nat)} (h : rl_A (fun x => nI x.2) a_marks l) (h6 : l.length ≤ 6) (hm : ∀ x, x ∈ l → x.2 < 128 ∧ (a_kinds x.2 = 7 ∨ a_kinds x.2 = 8 ∨ a_kinds x.2 = 9 ∨ a_kinds x.2 = 10))
    (K : wY_scan_32 post f_p f_n f_room f_phase (nI N) f_cursor f_hasTangent f_steps f_faultItem f_nextItem f_nextCell f_top d (nI (i + 1)) f_size f_pending (rs_fac a_kinds a_args l) f_work (nI l.length) (nI (rs_lp a_kinds l).length) a_kinds a_args a_inputs a_weights a_tangents a_marks a_cell a_dcell a_seen a_val a_der a_start a_counter a_total) : wY_scan_270 post (wY_scan_32 post f_p f_n f_room f_phase (nI N) f_cursor f_hasTangent f_steps f_faultItem f_nextItem f_nextCell f_top d) (nI i) f_p f_n f_room f_phase (nI N) f_cursor f_hasTangent f_size f_pending f_factor f_work (nI l.length) f_loops f_steps f_faultItem f_nextItem f_nextCell f_top a_kinds a_args a_inputs a_weights a_tangents a_marks a_cell a_dcell a_seen a_val a_der a_start a_counter a_total := by
  have e : l.reverse.reverse ++ [] = l := by simp
  have w := ry_s283 (post := post) (N := N) (d := d) (i := i) (f_size := f_size) (f_pending := f_pending) (f_work := f_work) l.reverse [] (by rw [e]; exact h) (by rw [e]; exact h6) (fun x hx => hm x (List.mem_reverse.mp hx)) (by rw [e]; exact K)
  rw [e] at w
  exact ⟨_, w⟩
theorem ry_sc0 {post : SY → Prop} {q n N d i pd : Nat} (hN : N ≤ 128) (hi : i < N) (pv : rs_PV q n a_kinds a_args N) (hk : a_kinds i = 0) (hpd : rs_pd a_kinds a_args i = pd)  (h : rl_A (fun x => nI x.2) a_marks (rs_sk a_kinds i))
    (K : ∀ mk, rl_A (fun x => nI x.2) mk (rs_sk a_kinds (i + 1)) → wY_scan_32 post f_p f_n f_room f_phase (nI N) f_cursor f_hasTangent f_steps f_faultItem f_nextItem f_nextCell f_top d (nI (i + 1)) (nI (rs_sz a_kinds (i + 1))) (nI (rs_pd a_kinds a_args (i + 1))) (rs_fac a_kinds a_args (rs_sk a_kinds (i + 1))) (rs_wk a_kinds a_args (i + 1)) (nI (rs_sk a_kinds (i + 1)).length) (nI (rs_lp a_kinds (rs_sk a_kinds (i + 1))).length) a_kinds a_args a_inputs a_weights a_tangents mk a_cell a_dcell a_seen a_val a_der a_start a_counter a_total) : wY_scan_32 post f_p f_n f_room f_phase (nI N) f_cursor f_hasTangent f_steps f_faultItem f_nextItem f_nextCell f_top (d + 1) (nI i) (nI (rs_sz a_kinds i)) (nI (rs_pd a_kinds a_args i)) (rs_fac a_kinds a_args (rs_sk a_kinds i)) (rs_wk a_kinds a_args i) (nI (rs_sk a_kinds i).length) (nI (rs_lp a_kinds (rs_sk a_kinds i)).length) a_kinds a_args a_inputs a_weights a_tangents a_marks a_cell a_dcell a_seen a_val a_der a_start a_counter a_total := by
  have es : rs_sz a_kinds (i + 1) = rs_sz a_kinds i + 1 := by show _ + rs_s1 (a_kinds i) = _; rw [hk]; rfl
  have ep : rs_pd a_kinds a_args (i + 1) = pd + 1 := by show rs_p1 (a_kinds i) (a_args i) (rs_pd a_kinds a_args i) = _; rw [hk, hpd]; rfl
  have ew : rs_wk a_kinds a_args (i + 1) = rs_wk a_kinds a_args i + rs_fac a_kinds a_args (rs_sk a_kinds i) := by show _ + rs_w1 (a_kinds i) (a_args i) _ = _; rw [hk]; rfl
  have ek : rs_sk a_kinds (i + 1) = rs_sk a_kinds i := rs_skN (by rw [hk]; decide) (by rw [hk]; decide) (by rw [hk]; decide) (by rw [hk]; decide) (by rw [hk]; decide)
  have pv1 : rs_PV q n a_kinds a_args (i + 1) := fun j hj => pv j (by omega)
  have l6 := rs_len (i + 1) pv1
  have hm : ∀ x, x ∈ rs_sk a_kinds (i + 1) → x.2 < 128 ∧ (a_kinds x.2 = 7 ∨ a_kinds x.2 = 8 ∨ a_kinds x.2 = 9 ∨ a_kinds x.2 = 10) := fun x hx => ⟨by have := (rs_lt (i + 1) pv1 x hx).2; omega, rs_mk (i + 1) pv1 x hx⟩
  have K' := K a_marks (by rw [ek]; exact h)
  rw [es, ep, ew, ek] at K'
  rw [ek] at l6 hm
  rw [hpd]
  refine br_f (nI_ge (a := i) (b := N) hi (by omega)) ⟨vp_in_nI (by omega) (by decide), ?_⟩
  rw [nI_clamp (by omega)]
  refine nm_r hk ⟨vp_in_nI (by omega) (by decide), nm_r (e' := a_args i) rfl ?_⟩
  exact br_f (by decide) (nm_r (nI_add (rs_sz a_kinds i) 1) (br_f (by decide) (nm_e (br_t (by decide) (nm_r (nI_1 pd) (br_f (by decide) (br_f (by decide) (br_f (by decide) (br_f (by decide) (br_f (by decide) (br_t (by decide) (br_t (by decide) (br_f (by decide) (ry_s270 (h) l6 hm K'))))))))))))))
theorem ry_sc1 {post : SY → Prop} {q n N d i pd : Nat} (hN : N ≤ 128) (hi : i < N) (pv : rs_PV q n a_kinds a_args N) (hk : a_kinds i = 1) (hpd : rs_pd a_kinds a_args i = pd)  (h : rl_A (fun x => nI x.2) a_marks (rs_sk a_kinds i))
    (K : ∀ mk, rl_A (fun x => nI x.2) mk (rs_sk a_kinds (i + 1)) → wY_scan_32 post f_p f_n f_room f_phase (nI N) f_cursor f_hasTangent f_steps f_faultItem f_nextItem f_nextCell f_top d (nI (i + 1)) (nI (rs_sz a_kinds (i + 1))) (nI (rs_pd a_kinds a_args (i + 1))) (rs_fac a_kinds a_args (rs_sk a_kinds (i + 1))) (rs_wk a_kinds a_args (i + 1)) (nI (rs_sk a_kinds (i + 1)).length) (nI (rs_lp a_kinds (rs_sk a_kinds (i + 1))).length) a_kinds a_args a_inputs a_weights a_tangents mk a_cell a_dcell a_seen a_val a_der a_start a_counter a_total) : wY_scan_32 post f_p f_n f_room f_phase (nI N) f_cursor f_hasTangent f_steps f_faultItem f_nextItem f_nextCell f_top (d + 1) (nI i) (nI (rs_sz a_kinds i)) (nI (rs_pd a_kinds a_args i)) (rs_fac a_kinds a_args (rs_sk a_kinds i)) (rs_wk a_kinds a_args i) (nI (rs_sk a_kinds i).length) (nI (rs_lp a_kinds (rs_sk a_kinds i)).length) a_kinds a_args a_inputs a_weights a_tangents a_marks a_cell a_dcell a_seen a_val a_der a_start a_counter a_total := by
  have es : rs_sz a_kinds (i + 1) = rs_sz a_kinds i + 1 := by show _ + rs_s1 (a_kinds i) = _; rw [hk]; rfl
  have ep : rs_pd a_kinds a_args (i + 1) = pd + 1 := by show rs_p1 (a_kinds i) (a_args i) (rs_pd a_kinds a_args i) = _; rw [hk, hpd]; rfl
  have ew : rs_wk a_kinds a_args (i + 1) = rs_wk a_kinds a_args i + rs_fac a_kinds a_args (rs_sk a_kinds i) := by show _ + rs_w1 (a_kinds i) (a_args i) _ = _; rw [hk]; rfl
  have ek : rs_sk a_kinds (i + 1) = rs_sk a_kinds i := rs_skN (by rw [hk]; decide) (by rw [hk]; decide) (by rw [hk]; decide) (by rw [hk]; decide) (by rw [hk]; decide)
  have pv1 : rs_PV q n a_kinds a_args (i + 1) := fun j hj => pv j (by omega)
  have l6 := rs_len (i + 1) pv1
  have hm : ∀ x, x ∈ rs_sk a_kinds (i + 1) → x.2 < 128 ∧ (a_kinds x.2 = 7 ∨ a_kinds x.2 = 8 ∨ a_kinds x.2 = 9 ∨ a_kinds x.2 = 10) := fun x hx => ⟨by have := (rs_lt (i + 1) pv1 x hx).2; omega, rs_mk (i + 1) pv1 x hx⟩
  have K' := K a_marks (by rw [ek]; exact h)
  rw [es, ep, ew, ek] at K'
  rw [ek] at l6 hm
  rw [hpd]
  refine br_f (nI_ge (a := i) (b := N) hi (by omega)) ⟨vp_in_nI (by omega) (by decide), ?_⟩
  rw [nI_clamp (by omega)]
  refine nm_r hk ⟨vp_in_nI (by omega) (by decide), nm_r (e' := a_args i) rfl ?_⟩
  exact br_f (by decide) (nm_r (nI_add (rs_sz a_kinds i) 1) (br_f (by decide) (nm_e (br_t (by decide) (nm_r (nI_1 pd) (br_f (by decide) (br_f (by decide) (br_f (by decide) (br_f (by decide) (br_f (by decide) (br_t (by decide) (br_t (by decide) (br_f (by decide) (ry_s270 (h) l6 hm K'))))))))))))))
theorem ry_sc2 {post : SY → Prop} {q n N d i pd : Nat} (hN : N ≤ 128) (hi : i < N) (pv : rs_PV q n a_kinds a_args N) (hk : a_kinds i = 2) (hpd : rs_pd a_kinds a_args i = pd)  (h : rl_A (fun x => nI x.2) a_marks (rs_sk a_kinds i))
    (K : ∀ mk, rl_A (fun x => nI x.2) mk (rs_sk a_kinds (i + 1)) → wY_scan_32 post f_p f_n f_room f_phase (nI N) f_cursor f_hasTangent f_steps f_faultItem f_nextItem f_nextCell f_top d (nI (i + 1)) (nI (rs_sz a_kinds (i + 1))) (nI (rs_pd a_kinds a_args (i + 1))) (rs_fac a_kinds a_args (rs_sk a_kinds (i + 1))) (rs_wk a_kinds a_args (i + 1)) (nI (rs_sk a_kinds (i + 1)).length) (nI (rs_lp a_kinds (rs_sk a_kinds (i + 1))).length) a_kinds a_args a_inputs a_weights a_tangents mk a_cell a_dcell a_seen a_val a_der a_start a_counter a_total) : wY_scan_32 post f_p f_n f_room f_phase (nI N) f_cursor f_hasTangent f_steps f_faultItem f_nextItem f_nextCell f_top (d + 1) (nI i) (nI (rs_sz a_kinds i)) (nI (rs_pd a_kinds a_args i)) (rs_fac a_kinds a_args (rs_sk a_kinds i)) (rs_wk a_kinds a_args i) (nI (rs_sk a_kinds i).length) (nI (rs_lp a_kinds (rs_sk a_kinds i)).length) a_kinds a_args a_inputs a_weights a_tangents a_marks a_cell a_dcell a_seen a_val a_der a_start a_counter a_total := by
  have es : rs_sz a_kinds (i + 1) = rs_sz a_kinds i + 1 := by show _ + rs_s1 (a_kinds i) = _; rw [hk]; rfl
  have ep : rs_pd a_kinds a_args (i + 1) = pd + 1 := by show rs_p1 (a_kinds i) (a_args i) (rs_pd a_kinds a_args i) = _; rw [hk, hpd]; rfl
  have ew : rs_wk a_kinds a_args (i + 1) = rs_wk a_kinds a_args i + rs_fac a_kinds a_args (rs_sk a_kinds i) := by show _ + rs_w1 (a_kinds i) (a_args i) _ = _; rw [hk]; rfl
  have ek : rs_sk a_kinds (i + 1) = rs_sk a_kinds i := rs_skN (by rw [hk]; decide) (by rw [hk]; decide) (by rw [hk]; decide) (by rw [hk]; decide) (by rw [hk]; decide)
  have pv1 : rs_PV q n a_kinds a_args (i + 1) := fun j hj => pv j (by omega)
  have l6 := rs_len (i + 1) pv1
  have hm : ∀ x, x ∈ rs_sk a_kinds (i + 1) → x.2 < 128 ∧ (a_kinds x.2 = 7 ∨ a_kinds x.2 = 8 ∨ a_kinds x.2 = 9 ∨ a_kinds x.2 = 10) := fun x hx => ⟨by have := (rs_lt (i + 1) pv1 x hx).2; omega, rs_mk (i + 1) pv1 x hx⟩
  have K' := K a_marks (by rw [ek]; exact h)
  rw [es, ep, ew, ek] at K'
  rw [ek] at l6 hm
  rw [hpd]
  refine br_f (nI_ge (a := i) (b := N) hi (by omega)) ⟨vp_in_nI (by omega) (by decide), ?_⟩
  rw [nI_clamp (by omega)]
  refine nm_r hk ⟨vp_in_nI (by omega) (by decide), nm_r (e' := a_args i) rfl ?_⟩
  exact br_f (by decide) (nm_r (nI_add (rs_sz a_kinds i) 1) (br_f (by decide) (nm_e (br_t (by decide) (nm_r (nI_1 pd) (br_f (by decide) (br_f (by decide) (br_f (by decide) (br_f (by decide) (br_f (by decide) (br_t (by decide) (br_t (by decide) (br_f (by decide) (ry_s270 (h) l6 hm K'))))))))))))))
theorem ry_sc3 {post : SY → Prop} {q n N d i pd : Nat} (hN : N ≤ 128) (hi : i < N) (pv : rs_PV q n a_kinds a_args N) (hk : a_kinds i = 3) (hpd : rs_pd a_kinds a_args i = pd)  (h : rl_A (fun x => nI x.2) a_marks (rs_sk a_kinds i))
    (K : ∀ mk, rl_A (fun x => nI x.2) mk (rs_sk a_kinds (i + 1)) → wY_scan_32 post f_p f_n f_room f_phase (nI N) f_cursor f_hasTangent f_steps f_faultItem f_nextItem f_nextCell f_top d (nI (i + 1)) (nI (rs_sz a_kinds (i + 1))) (nI (rs_pd a_kinds a_args (i + 1))) (rs_fac a_kinds a_args (rs_sk a_kinds (i + 1))) (rs_wk a_kinds a_args (i + 1)) (nI (rs_sk a_kinds (i + 1)).length) (nI (rs_lp a_kinds (rs_sk a_kinds (i + 1))).length) a_kinds a_args a_inputs a_weights a_tangents mk a_cell a_dcell a_seen a_val a_der a_start a_counter a_total) : wY_scan_32 post f_p f_n f_room f_phase (nI N) f_cursor f_hasTangent f_steps f_faultItem f_nextItem f_nextCell f_top (d + 1) (nI i) (nI (rs_sz a_kinds i)) (nI (rs_pd a_kinds a_args i)) (rs_fac a_kinds a_args (rs_sk a_kinds i)) (rs_wk a_kinds a_args i) (nI (rs_sk a_kinds i).length) (nI (rs_lp a_kinds (rs_sk a_kinds i)).length) a_kinds a_args a_inputs a_weights a_tangents a_marks a_cell a_dcell a_seen a_val a_der a_start a_counter a_total := by
  have es : rs_sz a_kinds (i + 1) = rs_sz a_kinds i + 1 := by show _ + rs_s1 (a_kinds i) = _; rw [hk]; rfl
  have ep : rs_pd a_kinds a_args (i + 1) = pd + 1 := by show rs_p1 (a_kinds i) (a_args i) (rs_pd a_kinds a_args i) = _; rw [hk, hpd]; rfl
  have ew : rs_wk a_kinds a_args (i + 1) = rs_wk a_kinds a_args i + rs_fac a_kinds a_args (rs_sk a_kinds i) := by show _ + rs_w1 (a_kinds i) (a_args i) _ = _; rw [hk]; rfl
  have ek : rs_sk a_kinds (i + 1) = rs_sk a_kinds i := rs_skN (by rw [hk]; decide) (by rw [hk]; decide) (by rw [hk]; decide) (by rw [hk]; decide) (by rw [hk]; decide)
  have pv1 : rs_PV q n a_kinds a_args (i + 1) := fun j hj => pv j (by omega)
  have l6 := rs_len (i + 1) pv1
  have hm : ∀ x, x ∈ rs_sk a_kinds (i + 1) → x.2 < 128 ∧ (a_kinds x.2 = 7 ∨ a_kinds x.2 = 8 ∨ a_kinds x.2 = 9 ∨ a_kinds x.2 = 10) := fun x hx => ⟨by have := (rs_lt (i + 1) pv1 x hx).2; omega, rs_mk (i + 1) pv1 x hx⟩
  have K' := K a_marks (by rw [ek]; exact h)
  rw [es, ep, ew, ek] at K'
  rw [ek] at l6 hm
  rw [hpd]
  refine br_f (nI_ge (a := i) (b := N) hi (by omega)) ⟨vp_in_nI (by omega) (by decide), ?_⟩
  rw [nI_clamp (by omega)]
  refine nm_r hk ⟨vp_in_nI (by omega) (by decide), nm_r (e' := a_args i) rfl ?_⟩
  exact br_f (by decide) (nm_r (nI_add (rs_sz a_kinds i) 1) (br_f (by decide) (nm_e (br_t (by decide) (nm_r (nI_1 pd) (br_f (by decide) (br_f (by decide) (br_f (by decide) (br_f (by decide) (br_f (by decide) (br_t (by decide) (br_t (by decide) (br_f (by decide) (ry_s270 (h) l6 hm K'))))))))))))))
theorem ry_sc4 {post : SY → Prop} {q n N d i pd : Nat} (hN : N ≤ 128) (hi : i < N) (pv : rs_PV q n a_kinds a_args N) (hk : a_kinds i = 4) (hpd : rs_pd a_kinds a_args i = pd + 1)  (h : rl_A (fun x => nI x.2) a_marks (rs_sk a_kinds i))
    (K : ∀ mk, rl_A (fun x => nI x.2) mk (rs_sk a_kinds (i + 1)) → wY_scan_32 post f_p f_n f_room f_phase (nI N) f_cursor f_hasTangent f_steps f_faultItem f_nextItem f_nextCell f_top d (nI (i + 1)) (nI (rs_sz a_kinds (i + 1))) (nI (rs_pd a_kinds a_args (i + 1))) (rs_fac a_kinds a_args (rs_sk a_kinds (i + 1))) (rs_wk a_kinds a_args (i + 1)) (nI (rs_sk a_kinds (i + 1)).length) (nI (rs_lp a_kinds (rs_sk a_kinds (i + 1))).length) a_kinds a_args a_inputs a_weights a_tangents mk a_cell a_dcell a_seen a_val a_der a_start a_counter a_total) : wY_scan_32 post f_p f_n f_room f_phase (nI N) f_cursor f_hasTangent f_steps f_faultItem f_nextItem f_nextCell f_top (d + 1) (nI i) (nI (rs_sz a_kinds i)) (nI (rs_pd a_kinds a_args i)) (rs_fac a_kinds a_args (rs_sk a_kinds i)) (rs_wk a_kinds a_args i) (nI (rs_sk a_kinds i).length) (nI (rs_lp a_kinds (rs_sk a_kinds i)).length) a_kinds a_args a_inputs a_weights a_tangents a_marks a_cell a_dcell a_seen a_val a_der a_start a_counter a_total := by
  have es : rs_sz a_kinds (i + 1) = rs_sz a_kinds i + 1 := by show _ + rs_s1 (a_kinds i) = _; rw [hk]; rfl
  have ep : rs_pd a_kinds a_args (i + 1) = pd := by show rs_p1 (a_kinds i) (a_args i) (rs_pd a_kinds a_args i) = _; rw [hk, hpd]; rfl
  have ew : rs_wk a_kinds a_args (i + 1) = rs_wk a_kinds a_args i + rs_fac a_kinds a_args (rs_sk a_kinds i) := by show _ + rs_w1 (a_kinds i) (a_args i) _ = _; rw [hk]; rfl
  have ek : rs_sk a_kinds (i + 1) = rs_sk a_kinds i := rs_skN (by rw [hk]; decide) (by rw [hk]; decide) (by rw [hk]; decide) (by rw [hk]; decide) (by rw [hk]; decide)
  have pv1 : rs_PV q n a_kinds a_args (i + 1) := fun j hj => pv j (by omega)
  have l6 := rs_len (i + 1) pv1
  have hm : ∀ x, x ∈ rs_sk a_kinds (i + 1) → x.2 < 128 ∧ (a_kinds x.2 = 7 ∨ a_kinds x.2 = 8 ∨ a_kinds x.2 = 9 ∨ a_kinds x.2 = 10) := fun x hx => ⟨by have := (rs_lt (i + 1) pv1 x hx).2; omega, rs_mk (i + 1) pv1 x hx⟩
  have K' := K a_marks (by rw [ek]; exact h)
  rw [es, ep, ew, ek] at K'
  rw [ek] at l6 hm
  rw [hpd]
  refine br_f (nI_ge (a := i) (b := N) hi (by omega)) ⟨vp_in_nI (by omega) (by decide), ?_⟩
  rw [nI_clamp (by omega)]
  refine nm_r hk ⟨vp_in_nI (by omega) (by decide), nm_r (e' := a_args i) rfl ?_⟩
  exact br_f (by decide) (nm_r (nI_add (rs_sz a_kinds i) 1) (br_f (by decide) (nm_e (br_f (by decide) (br_f (by decide) (br_t (by decide) (nm_r (nI_pred pd) (br_t (by decide) (br_t (by decide) (br_f (by decide) (ry_s270 (h) l6 hm K')))))))))))
theorem ry_sc5 {post : SY → Prop} {q n N d i pd : Nat} (hN : N ≤ 128) (hi : i < N) (pv : rs_PV q n a_kinds a_args N) (hk : a_kinds i = 5) (hpd : rs_pd a_kinds a_args i = pd + 1)  (h : rl_A (fun x => nI x.2) a_marks (rs_sk a_kinds i))
    (K : ∀ mk, rl_A (fun x => nI x.2) mk (rs_sk a_kinds (i + 1)) → wY_scan_32 post f_p f_n f_room f_phase (nI N) f_cursor f_hasTangent f_steps f_faultItem f_nextItem f_nextCell f_top d (nI (i + 1)) (nI (rs_sz a_kinds (i + 1))) (nI (rs_pd a_kinds a_args (i + 1))) (rs_fac a_kinds a_args (rs_sk a_kinds (i + 1))) (rs_wk a_kinds a_args (i + 1)) (nI (rs_sk a_kinds (i + 1)).length) (nI (rs_lp a_kinds (rs_sk a_kinds (i + 1))).length) a_kinds a_args a_inputs a_weights a_tangents mk a_cell a_dcell a_seen a_val a_der a_start a_counter a_total) : wY_scan_32 post f_p f_n f_room f_phase (nI N) f_cursor f_hasTangent f_steps f_faultItem f_nextItem f_nextCell f_top (d + 1) (nI i) (nI (rs_sz a_kinds i)) (nI (rs_pd a_kinds a_args i)) (rs_fac a_kinds a_args (rs_sk a_kinds i)) (rs_wk a_kinds a_args i) (nI (rs_sk a_kinds i).length) (nI (rs_lp a_kinds (rs_sk a_kinds i)).length) a_kinds a_args a_inputs a_weights a_tangents a_marks a_cell a_dcell a_seen a_val a_der a_start a_counter a_total := by
  have es : rs_sz a_kinds (i + 1) = rs_sz a_kinds i + 1 := by show _ + rs_s1 (a_kinds i) = _; rw [hk]; rfl
  have ep : rs_pd a_kinds a_args (i + 1) = pd := by show rs_p1 (a_kinds i) (a_args i) (rs_pd a_kinds a_args i) = _; rw [hk, hpd]; rfl
  have ew : rs_wk a_kinds a_args (i + 1) = rs_wk a_kinds a_args i + rs_fac a_kinds a_args (rs_sk a_kinds i) := by show _ + rs_w1 (a_kinds i) (a_args i) _ = _; rw [hk]; rfl
  have ek : rs_sk a_kinds (i + 1) = rs_sk a_kinds i := rs_skN (by rw [hk]; decide) (by rw [hk]; decide) (by rw [hk]; decide) (by rw [hk]; decide) (by rw [hk]; decide)
  have pv1 : rs_PV q n a_kinds a_args (i + 1) := fun j hj => pv j (by omega)
  have l6 := rs_len (i + 1) pv1
  have hm : ∀ x, x ∈ rs_sk a_kinds (i + 1) → x.2 < 128 ∧ (a_kinds x.2 = 7 ∨ a_kinds x.2 = 8 ∨ a_kinds x.2 = 9 ∨ a_kinds x.2 = 10) := fun x hx => ⟨by have := (rs_lt (i + 1) pv1 x hx).2; omega, rs_mk (i + 1) pv1 x hx⟩
  have K' := K a_marks (by rw [ek]; exact h)
  rw [es, ep, ew, ek] at K'
  rw [ek] at l6 hm
  rw [hpd]
  refine br_f (nI_ge (a := i) (b := N) hi (by omega)) ⟨vp_in_nI (by omega) (by decide), ?_⟩
  rw [nI_clamp (by omega)]
  refine nm_r hk ⟨vp_in_nI (by omega) (by decide), nm_r (e' := a_args i) rfl ?_⟩
  exact br_f (by decide) (nm_r (nI_add (rs_sz a_kinds i) 1) (br_f (by decide) (nm_e (br_f (by decide) (br_f (by decide) (br_f (by decide) (br_t (by decide) (nm_r (nI_pred pd) (br_t (by decide) (br_t (by decide) (br_f (by decide) (ry_s270 (h) l6 hm K'))))))))))))
theorem ry_sc6_0 {post : SY → Prop} {q n N d i pd : Nat} (hN : N ≤ 128) (hi : i < N) (pv : rs_PV q n a_kinds a_args N) (hk : a_kinds i = 6) (ha : a_args i = 0) (hpd : rs_pd a_kinds a_args i = pd + 1)  (h : rl_A (fun x => nI x.2) a_marks (rs_sk a_kinds i))
    (K : ∀ mk, rl_A (fun x => nI x.2) mk (rs_sk a_kinds (i + 1)) → wY_scan_32 post f_p f_n f_room f_phase (nI N) f_cursor f_hasTangent f_steps f_faultItem f_nextItem f_nextCell f_top d (nI (i + 1)) (nI (rs_sz a_kinds (i + 1))) (nI (rs_pd a_kinds a_args (i + 1))) (rs_fac a_kinds a_args (rs_sk a_kinds (i + 1))) (rs_wk a_kinds a_args (i + 1)) (nI (rs_sk a_kinds (i + 1)).length) (nI (rs_lp a_kinds (rs_sk a_kinds (i + 1))).length) a_kinds a_args a_inputs a_weights a_tangents mk a_cell a_dcell a_seen a_val a_der a_start a_counter a_total) : wY_scan_32 post f_p f_n f_room f_phase (nI N) f_cursor f_hasTangent f_steps f_faultItem f_nextItem f_nextCell f_top (d + 1) (nI i) (nI (rs_sz a_kinds i)) (nI (rs_pd a_kinds a_args i)) (rs_fac a_kinds a_args (rs_sk a_kinds i)) (rs_wk a_kinds a_args i) (nI (rs_sk a_kinds i).length) (nI (rs_lp a_kinds (rs_sk a_kinds i)).length) a_kinds a_args a_inputs a_weights a_tangents a_marks a_cell a_dcell a_seen a_val a_der a_start a_counter a_total := by
  have es : rs_sz a_kinds (i + 1) = rs_sz a_kinds i + 1 := by show _ + rs_s1 (a_kinds i) = _; rw [hk]; rfl
  have ep : rs_pd a_kinds a_args (i + 1) = pd := by show rs_p1 (a_kinds i) (a_args i) (rs_pd a_kinds a_args i) = _; rw [hk, hpd, ha]; rfl
  have ew : rs_wk a_kinds a_args (i + 1) = rs_wk a_kinds a_args i + rs_fac a_kinds a_args (rs_sk a_kinds i) := by show _ + rs_w1 (a_kinds i) (a_args i) _ = _; rw [hk]; rfl
  have ek : rs_sk a_kinds (i + 1) = rs_sk a_kinds i := rs_skN (by rw [hk]; decide) (by rw [hk]; decide) (by rw [hk]; decide) (by rw [hk]; decide) (by rw [hk]; decide)
  have pv1 : rs_PV q n a_kinds a_args (i + 1) := fun j hj => pv j (by omega)
  have l6 := rs_len (i + 1) pv1
  have hm : ∀ x, x ∈ rs_sk a_kinds (i + 1) → x.2 < 128 ∧ (a_kinds x.2 = 7 ∨ a_kinds x.2 = 8 ∨ a_kinds x.2 = 9 ∨ a_kinds x.2 = 10) := fun x hx => ⟨by have := (rs_lt (i + 1) pv1 x hx).2; omega, rs_mk (i + 1) pv1 x hx⟩
  have K' := K a_marks (by rw [ek]; exact h)
  rw [es, ep, ew, ek] at K'
  rw [ek] at l6 hm
  rw [hpd]
  refine br_f (nI_ge (a := i) (b := N) hi (by omega)) ⟨vp_in_nI (by omega) (by decide), ?_⟩
  rw [nI_clamp (by omega)]
  refine nm_r hk ⟨vp_in_nI (by omega) (by decide), nm_r (e' := 0) ha ?_⟩
  exact br_f (by decide) (nm_r (nI_add (rs_sz a_kinds i) 1) (br_f (by decide) (nm_e (br_f (by decide) (br_t (by decide) (br_f (by decide) (br_f (by decide) (br_f (by decide) (br_f (by decide) (br_f (by decide) (br_t (by decide) (br_f (by decide) (nm_r (nI_pred pd) (br_t (by decide) (br_t (by decide) (br_f (by decide) (ry_s270 (h) l6 hm K')))))))))))))))))
theorem ry_sc6_1 {post : SY → Prop} {q n N d i pd : Nat} (hN : N ≤ 128) (hi : i < N) (pv : rs_PV q n a_kinds a_args N) (hk : a_kinds i = 6) (ha : a_args i = 1) (hpd : rs_pd a_kinds a_args i = pd + 1)  (h : rl_A (fun x => nI x.2) a_marks (rs_sk a_kinds i))
    (K : ∀ mk, rl_A (fun x => nI x.2) mk (rs_sk a_kinds (i + 1)) → wY_scan_32 post f_p f_n f_room f_phase (nI N) f_cursor f_hasTangent f_steps f_faultItem f_nextItem f_nextCell f_top d (nI (i + 1)) (nI (rs_sz a_kinds (i + 1))) (nI (rs_pd a_kinds a_args (i + 1))) (rs_fac a_kinds a_args (rs_sk a_kinds (i + 1))) (rs_wk a_kinds a_args (i + 1)) (nI (rs_sk a_kinds (i + 1)).length) (nI (rs_lp a_kinds (rs_sk a_kinds (i + 1))).length) a_kinds a_args a_inputs a_weights a_tangents mk a_cell a_dcell a_seen a_val a_der a_start a_counter a_total) : wY_scan_32 post f_p f_n f_room f_phase (nI N) f_cursor f_hasTangent f_steps f_faultItem f_nextItem f_nextCell f_top (d + 1) (nI i) (nI (rs_sz a_kinds i)) (nI (rs_pd a_kinds a_args i)) (rs_fac a_kinds a_args (rs_sk a_kinds i)) (rs_wk a_kinds a_args i) (nI (rs_sk a_kinds i).length) (nI (rs_lp a_kinds (rs_sk a_kinds i)).length) a_kinds a_args a_inputs a_weights a_tangents a_marks a_cell a_dcell a_seen a_val a_der a_start a_counter a_total := by
  have es : rs_sz a_kinds (i + 1) = rs_sz a_kinds i + 1 := by show _ + rs_s1 (a_kinds i) = _; rw [hk]; rfl
  have ep : rs_pd a_kinds a_args (i + 1) = pd := by show rs_p1 (a_kinds i) (a_args i) (rs_pd a_kinds a_args i) = _; rw [hk, hpd, ha]; rfl
  have ew : rs_wk a_kinds a_args (i + 1) = rs_wk a_kinds a_args i + rs_fac a_kinds a_args (rs_sk a_kinds i) := by show _ + rs_w1 (a_kinds i) (a_args i) _ = _; rw [hk]; rfl
  have ek : rs_sk a_kinds (i + 1) = rs_sk a_kinds i := rs_skN (by rw [hk]; decide) (by rw [hk]; decide) (by rw [hk]; decide) (by rw [hk]; decide) (by rw [hk]; decide)
  have pv1 : rs_PV q n a_kinds a_args (i + 1) := fun j hj => pv j (by omega)
  have l6 := rs_len (i + 1) pv1
  have hm : ∀ x, x ∈ rs_sk a_kinds (i + 1) → x.2 < 128 ∧ (a_kinds x.2 = 7 ∨ a_kinds x.2 = 8 ∨ a_kinds x.2 = 9 ∨ a_kinds x.2 = 10) := fun x hx => ⟨by have := (rs_lt (i + 1) pv1 x hx).2; omega, rs_mk (i + 1) pv1 x hx⟩
  have K' := K a_marks (by rw [ek]; exact h)
  rw [es, ep, ew, ek] at K'
  rw [ek] at l6 hm
  rw [hpd]
  refine br_f (nI_ge (a := i) (b := N) hi (by omega)) ⟨vp_in_nI (by omega) (by decide), ?_⟩
  rw [nI_clamp (by omega)]
  refine nm_r hk ⟨vp_in_nI (by omega) (by decide), nm_r (e' := 1) ha ?_⟩
  exact br_f (by decide) (nm_r (nI_add (rs_sz a_kinds i) 1) (br_f (by decide) (nm_e (br_f (by decide) (br_t (by decide) (br_f (by decide) (br_f (by decide) (br_f (by decide) (br_f (by decide) (br_f (by decide) (br_t (by decide) (br_f (by decide) (nm_r (nI_pred pd) (br_t (by decide) (br_t (by decide) (br_f (by decide) (ry_s270 (h) l6 hm K')))))))))))))))))
theorem ry_sc6_2 {post : SY → Prop} {q n N d i pd : Nat} (hN : N ≤ 128) (hi : i < N) (pv : rs_PV q n a_kinds a_args N) (hk : a_kinds i = 6) (ha : a_args i = 2) (hpd : rs_pd a_kinds a_args i = pd + 1)  (h : rl_A (fun x => nI x.2) a_marks (rs_sk a_kinds i))
    (K : ∀ mk, rl_A (fun x => nI x.2) mk (rs_sk a_kinds (i + 1)) → wY_scan_32 post f_p f_n f_room f_phase (nI N) f_cursor f_hasTangent f_steps f_faultItem f_nextItem f_nextCell f_top d (nI (i + 1)) (nI (rs_sz a_kinds (i + 1))) (nI (rs_pd a_kinds a_args (i + 1))) (rs_fac a_kinds a_args (rs_sk a_kinds (i + 1))) (rs_wk a_kinds a_args (i + 1)) (nI (rs_sk a_kinds (i + 1)).length) (nI (rs_lp a_kinds (rs_sk a_kinds (i + 1))).length) a_kinds a_args a_inputs a_weights a_tangents mk a_cell a_dcell a_seen a_val a_der a_start a_counter a_total) : wY_scan_32 post f_p f_n f_room f_phase (nI N) f_cursor f_hasTangent f_steps f_faultItem f_nextItem f_nextCell f_top (d + 1) (nI i) (nI (rs_sz a_kinds i)) (nI (rs_pd a_kinds a_args i)) (rs_fac a_kinds a_args (rs_sk a_kinds i)) (rs_wk a_kinds a_args i) (nI (rs_sk a_kinds i).length) (nI (rs_lp a_kinds (rs_sk a_kinds i)).length) a_kinds a_args a_inputs a_weights a_tangents a_marks a_cell a_dcell a_seen a_val a_der a_start a_counter a_total := by
  have es : rs_sz a_kinds (i + 1) = rs_sz a_kinds i + 1 := by show _ + rs_s1 (a_kinds i) = _; rw [hk]; rfl
  have ep : rs_pd a_kinds a_args (i + 1) = pd := by show rs_p1 (a_kinds i) (a_args i) (rs_pd a_kinds a_args i) = _; rw [hk, hpd, ha]; rfl
  have ew : rs_wk a_kinds a_args (i + 1) = rs_wk a_kinds a_args i + rs_fac a_kinds a_args (rs_sk a_kinds i) := by show _ + rs_w1 (a_kinds i) (a_args i) _ = _; rw [hk]; rfl
  have ek : rs_sk a_kinds (i + 1) = rs_sk a_kinds i := rs_skN (by rw [hk]; decide) (by rw [hk]; decide) (by rw [hk]; decide) (by rw [hk]; decide) (by rw [hk]; decide)
  have pv1 : rs_PV q n a_kinds a_args (i + 1) := fun j hj => pv j (by omega)
  have l6 := rs_len (i + 1) pv1
  have hm : ∀ x, x ∈ rs_sk a_kinds (i + 1) → x.2 < 128 ∧ (a_kinds x.2 = 7 ∨ a_kinds x.2 = 8 ∨ a_kinds x.2 = 9 ∨ a_kinds x.2 = 10) := fun x hx => ⟨by have := (rs_lt (i + 1) pv1 x hx).2; omega, rs_mk (i + 1) pv1 x hx⟩
  have K' := K a_marks (by rw [ek]; exact h)
  rw [es, ep, ew, ek] at K'
  rw [ek] at l6 hm
  rw [hpd]
  refine br_f (nI_ge (a := i) (b := N) hi (by omega)) ⟨vp_in_nI (by omega) (by decide), ?_⟩
  rw [nI_clamp (by omega)]
  refine nm_r hk ⟨vp_in_nI (by omega) (by decide), nm_r (e' := 2) ha ?_⟩
  exact br_f (by decide) (nm_r (nI_add (rs_sz a_kinds i) 1) (br_f (by decide) (nm_e (br_f (by decide) (br_t (by decide) (br_f (by decide) (br_f (by decide) (br_f (by decide) (br_f (by decide) (br_f (by decide) (br_t (by decide) (br_f (by decide) (nm_r (nI_pred pd) (br_t (by decide) (br_t (by decide) (br_f (by decide) (ry_s270 (h) l6 hm K')))))))))))))))))
theorem ry_sc6_3 {post : SY → Prop} {q n N d i pd : Nat} (hN : N ≤ 128) (hi : i < N) (pv : rs_PV q n a_kinds a_args N) (hk : a_kinds i = 6) (ha : a_args i = 3) (hpd : rs_pd a_kinds a_args i = pd + 1)  (h : rl_A (fun x => nI x.2) a_marks (rs_sk a_kinds i))
    (K : ∀ mk, rl_A (fun x => nI x.2) mk (rs_sk a_kinds (i + 1)) → wY_scan_32 post f_p f_n f_room f_phase (nI N) f_cursor f_hasTangent f_steps f_faultItem f_nextItem f_nextCell f_top d (nI (i + 1)) (nI (rs_sz a_kinds (i + 1))) (nI (rs_pd a_kinds a_args (i + 1))) (rs_fac a_kinds a_args (rs_sk a_kinds (i + 1))) (rs_wk a_kinds a_args (i + 1)) (nI (rs_sk a_kinds (i + 1)).length) (nI (rs_lp a_kinds (rs_sk a_kinds (i + 1))).length) a_kinds a_args a_inputs a_weights a_tangents mk a_cell a_dcell a_seen a_val a_der a_start a_counter a_total) : wY_scan_32 post f_p f_n f_room f_phase (nI N) f_cursor f_hasTangent f_steps f_faultItem f_nextItem f_nextCell f_top (d + 1) (nI i) (nI (rs_sz a_kinds i)) (nI (rs_pd a_kinds a_args i)) (rs_fac a_kinds a_args (rs_sk a_kinds i)) (rs_wk a_kinds a_args i) (nI (rs_sk a_kinds i).length) (nI (rs_lp a_kinds (rs_sk a_kinds i)).length) a_kinds a_args a_inputs a_weights a_tangents a_marks a_cell a_dcell a_seen a_val a_der a_start a_counter a_total := by
  have es : rs_sz a_kinds (i + 1) = rs_sz a_kinds i + 1 := by show _ + rs_s1 (a_kinds i) = _; rw [hk]; rfl
  have ep : rs_pd a_kinds a_args (i + 1) = pd := by show rs_p1 (a_kinds i) (a_args i) (rs_pd a_kinds a_args i) = _; rw [hk, hpd, ha]; rfl
  have ew : rs_wk a_kinds a_args (i + 1) = rs_wk a_kinds a_args i + rs_fac a_kinds a_args (rs_sk a_kinds i) := by show _ + rs_w1 (a_kinds i) (a_args i) _ = _; rw [hk]; rfl
  have ek : rs_sk a_kinds (i + 1) = rs_sk a_kinds i := rs_skN (by rw [hk]; decide) (by rw [hk]; decide) (by rw [hk]; decide) (by rw [hk]; decide) (by rw [hk]; decide)
  have pv1 : rs_PV q n a_kinds a_args (i + 1) := fun j hj => pv j (by omega)
  have l6 := rs_len (i + 1) pv1
  have hm : ∀ x, x ∈ rs_sk a_kinds (i + 1) → x.2 < 128 ∧ (a_kinds x.2 = 7 ∨ a_kinds x.2 = 8 ∨ a_kinds x.2 = 9 ∨ a_kinds x.2 = 10) := fun x hx => ⟨by have := (rs_lt (i + 1) pv1 x hx).2; omega, rs_mk (i + 1) pv1 x hx⟩
  have K' := K a_marks (by rw [ek]; exact h)
  rw [es, ep, ew, ek] at K'
  rw [ek] at l6 hm
  rw [hpd]
  refine br_f (nI_ge (a := i) (b := N) hi (by omega)) ⟨vp_in_nI (by omega) (by decide), ?_⟩
  rw [nI_clamp (by omega)]
  refine nm_r hk ⟨vp_in_nI (by omega) (by decide), nm_r (e' := 3) ha ?_⟩
  exact br_f (by decide) (nm_r (nI_add (rs_sz a_kinds i) 1) (br_f (by decide) (nm_e (br_f (by decide) (br_t (by decide) (br_f (by decide) (br_f (by decide) (br_f (by decide) (br_f (by decide) (br_f (by decide) (br_t (by decide) (br_f (by decide) (nm_r (nI_pred pd) (br_t (by decide) (br_t (by decide) (br_f (by decide) (ry_s270 (h) l6 hm K')))))))))))))))))
theorem ry_sc6_4 {post : SY → Prop} {q n N d i pd : Nat} (hN : N ≤ 128) (hi : i < N) (pv : rs_PV q n a_kinds a_args N) (hk : a_kinds i = 6) (ha : a_args i = 4) (hpd : rs_pd a_kinds a_args i = pd)  (h : rl_A (fun x => nI x.2) a_marks (rs_sk a_kinds i))
    (K : ∀ mk, rl_A (fun x => nI x.2) mk (rs_sk a_kinds (i + 1)) → wY_scan_32 post f_p f_n f_room f_phase (nI N) f_cursor f_hasTangent f_steps f_faultItem f_nextItem f_nextCell f_top d (nI (i + 1)) (nI (rs_sz a_kinds (i + 1))) (nI (rs_pd a_kinds a_args (i + 1))) (rs_fac a_kinds a_args (rs_sk a_kinds (i + 1))) (rs_wk a_kinds a_args (i + 1)) (nI (rs_sk a_kinds (i + 1)).length) (nI (rs_lp a_kinds (rs_sk a_kinds (i + 1))).length) a_kinds a_args a_inputs a_weights a_tangents mk a_cell a_dcell a_seen a_val a_der a_start a_counter a_total) : wY_scan_32 post f_p f_n f_room f_phase (nI N) f_cursor f_hasTangent f_steps f_faultItem f_nextItem f_nextCell f_top (d + 1) (nI i) (nI (rs_sz a_kinds i)) (nI (rs_pd a_kinds a_args i)) (rs_fac a_kinds a_args (rs_sk a_kinds i)) (rs_wk a_kinds a_args i) (nI (rs_sk a_kinds i).length) (nI (rs_lp a_kinds (rs_sk a_kinds i)).length) a_kinds a_args a_inputs a_weights a_tangents a_marks a_cell a_dcell a_seen a_val a_der a_start a_counter a_total := by
  have es : rs_sz a_kinds (i + 1) = rs_sz a_kinds i + 1 := by show _ + rs_s1 (a_kinds i) = _; rw [hk]; rfl
  have ep : rs_pd a_kinds a_args (i + 1) = pd := by show rs_p1 (a_kinds i) (a_args i) (rs_pd a_kinds a_args i) = _; rw [hk, hpd, ha]; rfl
  have ew : rs_wk a_kinds a_args (i + 1) = rs_wk a_kinds a_args i + rs_fac a_kinds a_args (rs_sk a_kinds i) := by show _ + rs_w1 (a_kinds i) (a_args i) _ = _; rw [hk]; rfl
  have ek : rs_sk a_kinds (i + 1) = rs_sk a_kinds i := rs_skN (by rw [hk]; decide) (by rw [hk]; decide) (by rw [hk]; decide) (by rw [hk]; decide) (by rw [hk]; decide)
  have pv1 : rs_PV q n a_kinds a_args (i + 1) := fun j hj => pv j (by omega)
  have l6 := rs_len (i + 1) pv1
  have hm : ∀ x, x ∈ rs_sk a_kinds (i + 1) → x.2 < 128 ∧ (a_kinds x.2 = 7 ∨ a_kinds x.2 = 8 ∨ a_kinds x.2 = 9 ∨ a_kinds x.2 = 10) := fun x hx => ⟨by have := (rs_lt (i + 1) pv1 x hx).2; omega, rs_mk (i + 1) pv1 x hx⟩
  have K' := K a_marks (by rw [ek]; exact h)
  rw [es, ep, ew, ek] at K'
  rw [ek] at l6 hm
  rw [hpd]
  refine br_f (nI_ge (a := i) (b := N) hi (by omega)) ⟨vp_in_nI (by omega) (by decide), ?_⟩
  rw [nI_clamp (by omega)]
  refine nm_r hk ⟨vp_in_nI (by omega) (by decide), nm_r (e' := 4) ha ?_⟩
  exact br_f (by decide) (nm_r (nI_add (rs_sz a_kinds i) 1) (br_f (by decide) (nm_e (br_f (by decide) (br_t (by decide) (br_f (by decide) (br_f (by decide) (br_f (by decide) (br_f (by decide) (br_f (by decide) (br_t (by decide) (br_t (by decide) (br_t (by decide) (br_t (by decide) (br_f (by decide) (ry_s270 (h) l6 hm K'))))))))))))))))
theorem ry_sc6_5 {post : SY → Prop} {q n N d i pd : Nat} (hN : N ≤ 128) (hi : i < N) (pv : rs_PV q n a_kinds a_args N) (hk : a_kinds i = 6) (ha : a_args i = 5) (hpd : rs_pd a_kinds a_args i = pd)  (h : rl_A (fun x => nI x.2) a_marks (rs_sk a_kinds i))
    (K : ∀ mk, rl_A (fun x => nI x.2) mk (rs_sk a_kinds (i + 1)) → wY_scan_32 post f_p f_n f_room f_phase (nI N) f_cursor f_hasTangent f_steps f_faultItem f_nextItem f_nextCell f_top d (nI (i + 1)) (nI (rs_sz a_kinds (i + 1))) (nI (rs_pd a_kinds a_args (i + 1))) (rs_fac a_kinds a_args (rs_sk a_kinds (i + 1))) (rs_wk a_kinds a_args (i + 1)) (nI (rs_sk a_kinds (i + 1)).length) (nI (rs_lp a_kinds (rs_sk a_kinds (i + 1))).length) a_kinds a_args a_inputs a_weights a_tangents mk a_cell a_dcell a_seen a_val a_der a_start a_counter a_total) : wY_scan_32 post f_p f_n f_room f_phase (nI N) f_cursor f_hasTangent f_steps f_faultItem f_nextItem f_nextCell f_top (d + 1) (nI i) (nI (rs_sz a_kinds i)) (nI (rs_pd a_kinds a_args i)) (rs_fac a_kinds a_args (rs_sk a_kinds i)) (rs_wk a_kinds a_args i) (nI (rs_sk a_kinds i).length) (nI (rs_lp a_kinds (rs_sk a_kinds i)).length) a_kinds a_args a_inputs a_weights a_tangents a_marks a_cell a_dcell a_seen a_val a_der a_start a_counter a_total := by
  have es : rs_sz a_kinds (i + 1) = rs_sz a_kinds i + 1 := by show _ + rs_s1 (a_kinds i) = _; rw [hk]; rfl
  have ep : rs_pd a_kinds a_args (i + 1) = pd + 1 := by show rs_p1 (a_kinds i) (a_args i) (rs_pd a_kinds a_args i) = _; rw [hk, hpd, ha]; rfl
  have ew : rs_wk a_kinds a_args (i + 1) = rs_wk a_kinds a_args i + rs_fac a_kinds a_args (rs_sk a_kinds i) := by show _ + rs_w1 (a_kinds i) (a_args i) _ = _; rw [hk]; rfl
  have ek : rs_sk a_kinds (i + 1) = rs_sk a_kinds i := rs_skN (by rw [hk]; decide) (by rw [hk]; decide) (by rw [hk]; decide) (by rw [hk]; decide) (by rw [hk]; decide)
  have pv1 : rs_PV q n a_kinds a_args (i + 1) := fun j hj => pv j (by omega)
  have l6 := rs_len (i + 1) pv1
  have hm : ∀ x, x ∈ rs_sk a_kinds (i + 1) → x.2 < 128 ∧ (a_kinds x.2 = 7 ∨ a_kinds x.2 = 8 ∨ a_kinds x.2 = 9 ∨ a_kinds x.2 = 10) := fun x hx => ⟨by have := (rs_lt (i + 1) pv1 x hx).2; omega, rs_mk (i + 1) pv1 x hx⟩
  have K' := K a_marks (by rw [ek]; exact h)
  rw [es, ep, ew, ek] at K'
  rw [ek] at l6 hm
  rw [hpd]
  refine br_f (nI_ge (a := i) (b := N) hi (by omega)) ⟨vp_in_nI (by omega) (by decide), ?_⟩
  rw [nI_clamp (by omega)]
  refine nm_r hk ⟨vp_in_nI (by omega) (by decide), nm_r (e' := 5) ha ?_⟩
  exact br_f (by decide) (nm_r (nI_add (rs_sz a_kinds i) 1) (br_f (by decide) (nm_e (br_f (by decide) (br_t (by decide) (br_t (by decide) (nm_r (nI_1 pd) (br_f (by decide) (br_f (by decide) (br_f (by decide) (br_f (by decide) (br_t (by decide) (br_t (by decide) (br_t (by decide) (br_t (by decide) (br_f (by decide) (ry_s270 (h) l6 hm K')))))))))))))))))
theorem ry_sc6_6 {post : SY → Prop} {q n N d i pd : Nat} (hN : N ≤ 128) (hi : i < N) (pv : rs_PV q n a_kinds a_args N) (hk : a_kinds i = 6) (ha : a_args i = 6) (hpd : rs_pd a_kinds a_args i = pd)  (h : rl_A (fun x => nI x.2) a_marks (rs_sk a_kinds i))
    (K : ∀ mk, rl_A (fun x => nI x.2) mk (rs_sk a_kinds (i + 1)) → wY_scan_32 post f_p f_n f_room f_phase (nI N) f_cursor f_hasTangent f_steps f_faultItem f_nextItem f_nextCell f_top d (nI (i + 1)) (nI (rs_sz a_kinds (i + 1))) (nI (rs_pd a_kinds a_args (i + 1))) (rs_fac a_kinds a_args (rs_sk a_kinds (i + 1))) (rs_wk a_kinds a_args (i + 1)) (nI (rs_sk a_kinds (i + 1)).length) (nI (rs_lp a_kinds (rs_sk a_kinds (i + 1))).length) a_kinds a_args a_inputs a_weights a_tangents mk a_cell a_dcell a_seen a_val a_der a_start a_counter a_total) : wY_scan_32 post f_p f_n f_room f_phase (nI N) f_cursor f_hasTangent f_steps f_faultItem f_nextItem f_nextCell f_top (d + 1) (nI i) (nI (rs_sz a_kinds i)) (nI (rs_pd a_kinds a_args i)) (rs_fac a_kinds a_args (rs_sk a_kinds i)) (rs_wk a_kinds a_args i) (nI (rs_sk a_kinds i).length) (nI (rs_lp a_kinds (rs_sk a_kinds i)).length) a_kinds a_args a_inputs a_weights a_tangents a_marks a_cell a_dcell a_seen a_val a_der a_start a_counter a_total := by
  have es : rs_sz a_kinds (i + 1) = rs_sz a_kinds i + 1 := by show _ + rs_s1 (a_kinds i) = _; rw [hk]; rfl
  have ep : rs_pd a_kinds a_args (i + 1) = pd := by show rs_p1 (a_kinds i) (a_args i) (rs_pd a_kinds a_args i) = _; rw [hk, hpd, ha]; rfl
  have ew : rs_wk a_kinds a_args (i + 1) = rs_wk a_kinds a_args i + rs_fac a_kinds a_args (rs_sk a_kinds i) := by show _ + rs_w1 (a_kinds i) (a_args i) _ = _; rw [hk]; rfl
  have ek : rs_sk a_kinds (i + 1) = rs_sk a_kinds i := rs_skN (by rw [hk]; decide) (by rw [hk]; decide) (by rw [hk]; decide) (by rw [hk]; decide) (by rw [hk]; decide)
  have pv1 : rs_PV q n a_kinds a_args (i + 1) := fun j hj => pv j (by omega)
  have l6 := rs_len (i + 1) pv1
  have hm : ∀ x, x ∈ rs_sk a_kinds (i + 1) → x.2 < 128 ∧ (a_kinds x.2 = 7 ∨ a_kinds x.2 = 8 ∨ a_kinds x.2 = 9 ∨ a_kinds x.2 = 10) := fun x hx => ⟨by have := (rs_lt (i + 1) pv1 x hx).2; omega, rs_mk (i + 1) pv1 x hx⟩
  have K' := K a_marks (by rw [ek]; exact h)
  rw [es, ep, ew, ek] at K'
  rw [ek] at l6 hm
  rw [hpd]
  refine br_f (nI_ge (a := i) (b := N) hi (by omega)) ⟨vp_in_nI (by omega) (by decide), ?_⟩
  rw [nI_clamp (by omega)]
  refine nm_r hk ⟨vp_in_nI (by omega) (by decide), nm_r (e' := 6) ha ?_⟩
  exact br_f (by decide) (nm_r (nI_add (rs_sz a_kinds i) 1) (br_f (by decide) (nm_e (br_f (by decide) (br_t (by decide) (br_f (by decide) (br_f (by decide) (br_f (by decide) (br_f (by decide) (br_f (by decide) (br_t (by decide) (br_t (by decide) (br_t (by decide) (br_t (by decide) (br_f (by decide) (ry_s270 (h) l6 hm K'))))))))))))))))
theorem ry_sc7 {post : SY → Prop} {q n N d i pd : Nat} (hN : N ≤ 128) (hi : i < N) (pv : rs_PV q n a_kinds a_args N) (hk : a_kinds i = 7) (hpd : rs_pd a_kinds a_args i = pd)  (h : rl_A (fun x => nI x.2) a_marks (rs_sk a_kinds i))
    (K : ∀ mk, rl_A (fun x => nI x.2) mk (rs_sk a_kinds (i + 1)) → wY_scan_32 post f_p f_n f_room f_phase (nI N) f_cursor f_hasTangent f_steps f_faultItem f_nextItem f_nextCell f_top d (nI (i + 1)) (nI (rs_sz a_kinds (i + 1))) (nI (rs_pd a_kinds a_args (i + 1))) (rs_fac a_kinds a_args (rs_sk a_kinds (i + 1))) (rs_wk a_kinds a_args (i + 1)) (nI (rs_sk a_kinds (i + 1)).length) (nI (rs_lp a_kinds (rs_sk a_kinds (i + 1))).length) a_kinds a_args a_inputs a_weights a_tangents mk a_cell a_dcell a_seen a_val a_der a_start a_counter a_total) : wY_scan_32 post f_p f_n f_room f_phase (nI N) f_cursor f_hasTangent f_steps f_faultItem f_nextItem f_nextCell f_top (d + 1) (nI i) (nI (rs_sz a_kinds i)) (nI (rs_pd a_kinds a_args i)) (rs_fac a_kinds a_args (rs_sk a_kinds i)) (rs_wk a_kinds a_args i) (nI (rs_sk a_kinds i).length) (nI (rs_lp a_kinds (rs_sk a_kinds i)).length) a_kinds a_args a_inputs a_weights a_tangents a_marks a_cell a_dcell a_seen a_val a_der a_start a_counter a_total := by
  have es : rs_sz a_kinds (i + 1) = rs_sz a_kinds i + 3 := by show _ + rs_s1 (a_kinds i) = _; rw [hk]; rfl
  have ep : rs_pd a_kinds a_args (i + 1) = pd := by show rs_p1 (a_kinds i) (a_args i) (rs_pd a_kinds a_args i) = _; rw [hk, hpd]; rfl
  have ew : rs_wk a_kinds a_args (i + 1) = rs_wk a_kinds a_args i + rs_fac a_kinds a_args (rs_sk a_kinds i) * (a_args i + 1) := by show _ + rs_w1 (a_kinds i) (a_args i) _ = _; rw [hk]; rfl
  have ek : rs_sk a_kinds (i + 1) = (i, i) :: rs_sk a_kinds i := rs_skO (Or.inl hk)
  have pv1 : rs_PV q n a_kinds a_args (i + 1) := fun j hj => pv j (by omega)
  have l6 := rs_len (i + 1) pv1
  have hm : ∀ x, x ∈ rs_sk a_kinds (i + 1) → x.2 < 128 ∧ (a_kinds x.2 = 7 ∨ a_kinds x.2 = 8 ∨ a_kinds x.2 = 9 ∨ a_kinds x.2 = 10) := fun x hx => ⟨by have := (rs_lt (i + 1) pv1 x hx).2; omega, rs_mk (i + 1) pv1 x hx⟩
  have K' := K (upd a_marks (rs_sk a_kinds i).length (nI i)) (by rw [ek]; exact rl_push' h rfl rfl)
  rw [es, ep, ew, ek] at K'
  rw [ek] at l6 hm
  rw [hpd]
  refine br_f (nI_ge (a := i) (b := N) hi (by omega)) ⟨vp_in_nI (by omega) (by decide), ?_⟩
  rw [nI_clamp (by omega)]
  refine nm_r hk ⟨vp_in_nI (by omega) (by decide), nm_r (e' := a_args i) rfl ?_⟩
  refine br_t (by decide) (br_f (by decide) (nm_r (nI_add (rs_sz a_kinds i) 3) (br_t (by decide) (br_f (by decide) (nm_e (br_f (by decide) (br_f (by decide) (br_f (by decide) (br_f (by decide) (br_f (by decide) (br_f (by decide) (br_f (by decide) (br_f (by decide) (br_f (by decide) (nm_r (nI_1 _) (br_f (by decide) (br_f (by decide) (?_))))))))))))))))))
  have e0 : nI ((rs_sk a_kinds i).length + 1) - 1 = nI (rs_sk a_kinds i).length := nI_pred _
  rw [e0]
  refine ⟨vp_in_nI (by simp at l6; omega) (by decide), nm_r (e' := upd a_marks (rs_sk a_kinds i).length (nI i)) (by rw [nI_clamp (by simp at l6; omega)]) ?_⟩
  exact br_f (by decide) (ry_s270 (l := (i, i) :: rs_sk a_kinds i) (rl_push' h rfl rfl) l6 hm K')
theorem ry_sc8 {post : SY → Prop} {q n N d i pd : Nat} (hN : N ≤ 128) (hi : i < N) (pv : rs_PV q n a_kinds a_args N) (hk : a_kinds i = 8) (hpd : rs_pd a_kinds a_args i = pd + 1)  (h : rl_A (fun x => nI x.2) a_marks (rs_sk a_kinds i))
    (K : ∀ mk, rl_A (fun x => nI x.2) mk (rs_sk a_kinds (i + 1)) → wY_scan_32 post f_p f_n f_room f_phase (nI N) f_cursor f_hasTangent f_steps f_faultItem f_nextItem f_nextCell f_top d (nI (i + 1)) (nI (rs_sz a_kinds (i + 1))) (nI (rs_pd a_kinds a_args (i + 1))) (rs_fac a_kinds a_args (rs_sk a_kinds (i + 1))) (rs_wk a_kinds a_args (i + 1)) (nI (rs_sk a_kinds (i + 1)).length) (nI (rs_lp a_kinds (rs_sk a_kinds (i + 1))).length) a_kinds a_args a_inputs a_weights a_tangents mk a_cell a_dcell a_seen a_val a_der a_start a_counter a_total) : wY_scan_32 post f_p f_n f_room f_phase (nI N) f_cursor f_hasTangent f_steps f_faultItem f_nextItem f_nextCell f_top (d + 1) (nI i) (nI (rs_sz a_kinds i)) (nI (rs_pd a_kinds a_args i)) (rs_fac a_kinds a_args (rs_sk a_kinds i)) (rs_wk a_kinds a_args i) (nI (rs_sk a_kinds i).length) (nI (rs_lp a_kinds (rs_sk a_kinds i)).length) a_kinds a_args a_inputs a_weights a_tangents a_marks a_cell a_dcell a_seen a_val a_der a_start a_counter a_total := by
  have es : rs_sz a_kinds (i + 1) = rs_sz a_kinds i + 3 := by show _ + rs_s1 (a_kinds i) = _; rw [hk]; rfl
  have ep : rs_pd a_kinds a_args (i + 1) = pd := by show rs_p1 (a_kinds i) (a_args i) (rs_pd a_kinds a_args i) = _; rw [hk, hpd]; rfl
  have ew : rs_wk a_kinds a_args (i + 1) = rs_wk a_kinds a_args i + rs_fac a_kinds a_args (rs_sk a_kinds i) * (a_args i + 1) := by show _ + rs_w1 (a_kinds i) (a_args i) _ = _; rw [hk]; rfl
  have ek : rs_sk a_kinds (i + 1) = (i, i) :: rs_sk a_kinds i := rs_skO (Or.inr (Or.inl hk))
  have pv1 : rs_PV q n a_kinds a_args (i + 1) := fun j hj => pv j (by omega)
  have l6 := rs_len (i + 1) pv1
  have hm : ∀ x, x ∈ rs_sk a_kinds (i + 1) → x.2 < 128 ∧ (a_kinds x.2 = 7 ∨ a_kinds x.2 = 8 ∨ a_kinds x.2 = 9 ∨ a_kinds x.2 = 10) := fun x hx => ⟨by have := (rs_lt (i + 1) pv1 x hx).2; omega, rs_mk (i + 1) pv1 x hx⟩
  have K' := K (upd a_marks (rs_sk a_kinds i).length (nI i)) (by rw [ek]; exact rl_push' h rfl rfl)
  rw [es, ep, ew, ek] at K'
  rw [ek] at l6 hm
  rw [hpd]
  refine br_f (nI_ge (a := i) (b := N) hi (by omega)) ⟨vp_in_nI (by omega) (by decide), ?_⟩
  rw [nI_clamp (by omega)]
  refine nm_r hk ⟨vp_in_nI (by omega) (by decide), nm_r (e' := a_args i) rfl ?_⟩
  refine br_t (by decide) (br_f (by decide) (nm_r (nI_add (rs_sz a_kinds i) 3) (br_t (by decide) (br_f (by decide) (nm_e (br_f (by decide) (br_f (by decide) (br_f (by decide) (br_f (by decide) (br_t (by decide) (nm_r (nI_pred pd) (br_f (by decide) (br_f (by decide) (nm_r (nI_1 _) (br_f (by decide) (br_f (by decide) (?_)))))))))))))))))
  have e0 : nI ((rs_sk a_kinds i).length + 1) - 1 = nI (rs_sk a_kinds i).length := nI_pred _
  rw [e0]
  refine ⟨vp_in_nI (by simp at l6; omega) (by decide), nm_r (e' := upd a_marks (rs_sk a_kinds i).length (nI i)) (by rw [nI_clamp (by simp at l6; omega)]) ?_⟩
  exact br_f (by decide) (ry_s270 (l := (i, i) :: rs_sk a_kinds i) (rl_push' h rfl rfl) l6 hm K')
theorem ry_sc9 {post : SY → Prop} {q n N d i pd : Nat} (hN : N ≤ 128) (hi : i < N) (pv : rs_PV q n a_kinds a_args N) (hk : a_kinds i = 9) (hpd : rs_pd a_kinds a_args i = pd + 1)  (h : rl_A (fun x => nI x.2) a_marks (rs_sk a_kinds i))
    (K : ∀ mk, rl_A (fun x => nI x.2) mk (rs_sk a_kinds (i + 1)) → wY_scan_32 post f_p f_n f_room f_phase (nI N) f_cursor f_hasTangent f_steps f_faultItem f_nextItem f_nextCell f_top d (nI (i + 1)) (nI (rs_sz a_kinds (i + 1))) (nI (rs_pd a_kinds a_args (i + 1))) (rs_fac a_kinds a_args (rs_sk a_kinds (i + 1))) (rs_wk a_kinds a_args (i + 1)) (nI (rs_sk a_kinds (i + 1)).length) (nI (rs_lp a_kinds (rs_sk a_kinds (i + 1))).length) a_kinds a_args a_inputs a_weights a_tangents mk a_cell a_dcell a_seen a_val a_der a_start a_counter a_total) : wY_scan_32 post f_p f_n f_room f_phase (nI N) f_cursor f_hasTangent f_steps f_faultItem f_nextItem f_nextCell f_top (d + 1) (nI i) (nI (rs_sz a_kinds i)) (nI (rs_pd a_kinds a_args i)) (rs_fac a_kinds a_args (rs_sk a_kinds i)) (rs_wk a_kinds a_args i) (nI (rs_sk a_kinds i).length) (nI (rs_lp a_kinds (rs_sk a_kinds i)).length) a_kinds a_args a_inputs a_weights a_tangents a_marks a_cell a_dcell a_seen a_val a_der a_start a_counter a_total := by
  have es : rs_sz a_kinds (i + 1) = rs_sz a_kinds i + 3 := by show _ + rs_s1 (a_kinds i) = _; rw [hk]; rfl
  have ep : rs_pd a_kinds a_args (i + 1) = pd := by show rs_p1 (a_kinds i) (a_args i) (rs_pd a_kinds a_args i) = _; rw [hk, hpd]; rfl
  have ew : rs_wk a_kinds a_args (i + 1) = rs_wk a_kinds a_args i + 3 * rs_fac a_kinds a_args (rs_sk a_kinds i) := by show _ + rs_w1 (a_kinds i) (a_args i) _ = _; rw [hk]; rfl
  have ek : rs_sk a_kinds (i + 1) = (i, i) :: rs_sk a_kinds i := rs_skO (Or.inr (Or.inr hk))
  have pv1 : rs_PV q n a_kinds a_args (i + 1) := fun j hj => pv j (by omega)
  have l6 := rs_len (i + 1) pv1
  have hm : ∀ x, x ∈ rs_sk a_kinds (i + 1) → x.2 < 128 ∧ (a_kinds x.2 = 7 ∨ a_kinds x.2 = 8 ∨ a_kinds x.2 = 9 ∨ a_kinds x.2 = 10) := fun x hx => ⟨by have := (rs_lt (i + 1) pv1 x hx).2; omega, rs_mk (i + 1) pv1 x hx⟩
  have K' := K (upd a_marks (rs_sk a_kinds i).length (nI i)) (by rw [ek]; exact rl_push' h rfl rfl)
  rw [es, ep, ew, ek] at K'
  rw [ek] at l6 hm
  rw [hpd]
  refine br_f (nI_ge (a := i) (b := N) hi (by omega)) ⟨vp_in_nI (by omega) (by decide), ?_⟩
  rw [nI_clamp (by omega)]
  refine nm_r hk ⟨vp_in_nI (by omega) (by decide), nm_r (e' := a_args i) rfl ?_⟩
  refine br_t (by decide) (br_f (by decide) (nm_r (nI_add (rs_sz a_kinds i) 3) (br_t (by decide) (br_t (by decide) (br_t (by decide) (nm_e (br_f (by decide) (br_f (by decide) (br_f (by decide) (br_f (by decide) (br_f (by decide) (br_t (by decide) (nm_r (nI_pred pd) (br_f (by decide) (br_f (by decide) (nm_r (nI_1 _) (br_f (by decide) (br_f (by decide) (?_)))))))))))))))))))
  have e0 : nI ((rs_sk a_kinds i).length + 1) - 1 = nI (rs_sk a_kinds i).length := nI_pred _
  rw [e0]
  refine ⟨vp_in_nI (by simp at l6; omega) (by decide), nm_r (e' := upd a_marks (rs_sk a_kinds i).length (nI i)) (by rw [nI_clamp (by simp at l6; omega)]) ?_⟩
  exact br_f (by decide) (ry_s270 (l := (i, i) :: rs_sk a_kinds i) (rl_push' h rfl rfl) l6 hm K')
theorem ry_sc10 {post : SY → Prop} {q n N d i pd : Nat} (hN : N ≤ 128) (hi : i < N) (pv : rs_PV q n a_kinds a_args N) (hk : a_kinds i = 10) (hpd : rs_pd a_kinds a_args i = pd) {o m : Nat} {l : List (Nat × Nat)} (hs : rs_sk a_kinds i = (o, m) :: l) (h : rl_A (fun x => nI x.2) a_marks (rs_sk a_kinds i))
    (K : ∀ mk, rl_A (fun x => nI x.2) mk (rs_sk a_kinds (i + 1)) → wY_scan_32 post f_p f_n f_room f_phase (nI N) f_cursor f_hasTangent f_steps f_faultItem f_nextItem f_nextCell f_top d (nI (i + 1)) (nI (rs_sz a_kinds (i + 1))) (nI (rs_pd a_kinds a_args (i + 1))) (rs_fac a_kinds a_args (rs_sk a_kinds (i + 1))) (rs_wk a_kinds a_args (i + 1)) (nI (rs_sk a_kinds (i + 1)).length) (nI (rs_lp a_kinds (rs_sk a_kinds (i + 1))).length) a_kinds a_args a_inputs a_weights a_tangents mk a_cell a_dcell a_seen a_val a_der a_start a_counter a_total) : wY_scan_32 post f_p f_n f_room f_phase (nI N) f_cursor f_hasTangent f_steps f_faultItem f_nextItem f_nextCell f_top (d + 1) (nI i) (nI (rs_sz a_kinds i)) (nI (rs_pd a_kinds a_args i)) (rs_fac a_kinds a_args (rs_sk a_kinds i)) (rs_wk a_kinds a_args i) (nI (rs_sk a_kinds i).length) (nI (rs_lp a_kinds (rs_sk a_kinds i)).length) a_kinds a_args a_inputs a_weights a_tangents a_marks a_cell a_dcell a_seen a_val a_der a_start a_counter a_total := by
  have es : rs_sz a_kinds (i + 1) = rs_sz a_kinds i + 0 := by show _ + rs_s1 (a_kinds i) = _; rw [hk]; rfl
  have ep : rs_pd a_kinds a_args (i + 1) = pd := by show rs_p1 (a_kinds i) (a_args i) (rs_pd a_kinds a_args i) = _; rw [hk, hpd]; rfl
  have ew : rs_wk a_kinds a_args (i + 1) = rs_wk a_kinds a_args i + 0 := by show _ + rs_w1 (a_kinds i) (a_args i) _ = _; rw [hk]; rfl
  have ek : rs_sk a_kinds (i + 1) = (o, i) :: l := rs_skE hk hs
  have pv1 : rs_PV q n a_kinds a_args (i + 1) := fun j hj => pv j (by omega)
  have l6 := rs_len (i + 1) pv1
  have hm : ∀ x, x ∈ rs_sk a_kinds (i + 1) → x.2 < 128 ∧ (a_kinds x.2 = 7 ∨ a_kinds x.2 = 8 ∨ a_kinds x.2 = 9 ∨ a_kinds x.2 = 10) := fun x hx => ⟨by have := (rs_lt (i + 1) pv1 x hx).2; omega, rs_mk (i + 1) pv1 x hx⟩
  rw [hs] at h ⊢
  have K' := K (upd a_marks l.length (nI i)) (by rw [ek]; exact rl_push' h.2 rfl rfl)
  rw [es, ep, ew, ek] at K'
  rw [ek] at l6 hm
  rw [hpd]
  refine br_f (nI_ge (a := i) (b := N) hi (by omega)) ⟨vp_in_nI (by omega) (by decide), ?_⟩
  rw [nI_clamp (by omega)]
  refine nm_r hk ⟨vp_in_nI (by omega) (by decide), nm_r (e' := a_args i) rfl ?_⟩
  refine br_t (by decide) (br_t (by decide) (nm_r (nI_add (rs_sz a_kinds i) 0) (br_t (by decide) (br_t (by decide) (br_f (by decide) (nm_e (br_f (by decide) (br_f (by decide) (br_f (by decide) (br_f (by decide) (br_f (by decide) (br_f (by decide) (br_f (by decide) (br_f (by decide) (br_t (by decide) (br_f (by decide) (br_f (by decide) (?_))))))))))))))))))
  have e0 : nI ((o, m) :: l).length - 1 = nI l.length := nI_pred _
  rw [e0]
  refine ⟨vp_in_nI (by simp at l6; omega) (by decide), nm_r (e' := upd a_marks l.length (nI i)) (by rw [nI_clamp (by simp at l6; omega)]) ?_⟩
  exact br_f (by decide) (ry_s270 (l := (o, i) :: l) (rl_push' h.2 rfl rfl) l6 hm K')
theorem ry_sc11 {post : SY → Prop} {q n N d i pd : Nat} (hN : N ≤ 128) (hi : i < N) (pv : rs_PV q n a_kinds a_args N) (hk : a_kinds i = 11) (hpd : rs_pd a_kinds a_args i = pd) {o m : Nat} {l : List (Nat × Nat)} (hs : rs_sk a_kinds i = (o, m) :: l) (h : rl_A (fun x => nI x.2) a_marks (rs_sk a_kinds i))
    (K : ∀ mk, rl_A (fun x => nI x.2) mk (rs_sk a_kinds (i + 1)) → wY_scan_32 post f_p f_n f_room f_phase (nI N) f_cursor f_hasTangent f_steps f_faultItem f_nextItem f_nextCell f_top d (nI (i + 1)) (nI (rs_sz a_kinds (i + 1))) (nI (rs_pd a_kinds a_args (i + 1))) (rs_fac a_kinds a_args (rs_sk a_kinds (i + 1))) (rs_wk a_kinds a_args (i + 1)) (nI (rs_sk a_kinds (i + 1)).length) (nI (rs_lp a_kinds (rs_sk a_kinds (i + 1))).length) a_kinds a_args a_inputs a_weights a_tangents mk a_cell a_dcell a_seen a_val a_der a_start a_counter a_total) : wY_scan_32 post f_p f_n f_room f_phase (nI N) f_cursor f_hasTangent f_steps f_faultItem f_nextItem f_nextCell f_top (d + 1) (nI i) (nI (rs_sz a_kinds i)) (nI (rs_pd a_kinds a_args i)) (rs_fac a_kinds a_args (rs_sk a_kinds i)) (rs_wk a_kinds a_args i) (nI (rs_sk a_kinds i).length) (nI (rs_lp a_kinds (rs_sk a_kinds i)).length) a_kinds a_args a_inputs a_weights a_tangents a_marks a_cell a_dcell a_seen a_val a_der a_start a_counter a_total := by
  have es : rs_sz a_kinds (i + 1) = rs_sz a_kinds i + 0 := by show _ + rs_s1 (a_kinds i) = _; rw [hk]; rfl
  have ep : rs_pd a_kinds a_args (i + 1) = pd := by show rs_p1 (a_kinds i) (a_args i) (rs_pd a_kinds a_args i) = _; rw [hk, hpd]; rfl
  have ew : rs_wk a_kinds a_args (i + 1) = rs_wk a_kinds a_args i + 0 := by show _ + rs_w1 (a_kinds i) (a_args i) _ = _; rw [hk]; rfl
  have ek : rs_sk a_kinds (i + 1) = l := by rw [rs_skX hk, hs]; rfl
  have pv1 : rs_PV q n a_kinds a_args (i + 1) := fun j hj => pv j (by omega)
  have l6 := rs_len (i + 1) pv1
  have hm : ∀ x, x ∈ rs_sk a_kinds (i + 1) → x.2 < 128 ∧ (a_kinds x.2 = 7 ∨ a_kinds x.2 = 8 ∨ a_kinds x.2 = 9 ∨ a_kinds x.2 = 10) := fun x hx => ⟨by have := (rs_lt (i + 1) pv1 x hx).2; omega, rs_mk (i + 1) pv1 x hx⟩
  rw [hs] at h ⊢
  have K' := K a_marks (by rw [ek]; exact h.2)
  rw [es, ep, ew, ek] at K'
  rw [ek] at l6 hm
  rw [hpd]
  refine br_f (nI_ge (a := i) (b := N) hi (by omega)) ⟨vp_in_nI (by omega) (by decide), ?_⟩
  rw [nI_clamp (by omega)]
  refine nm_r hk ⟨vp_in_nI (by omega) (by decide), nm_r (e' := a_args i) rfl ?_⟩
  exact br_t (by decide) (br_t (by decide) (nm_r (nI_add (rs_sz a_kinds i) 0) (br_t (by decide) (br_t (by decide) (br_f (by decide) (nm_e (br_f (by decide) (br_f (by decide) (br_f (by decide) (br_f (by decide) (br_f (by decide) (br_f (by decide) (br_f (by decide) (br_f (by decide) (br_t (by decide) (br_f (by decide) (br_t (by decide) (br_t (by decide) (nm_r (nI_pred _) (ry_s270 (h.2) l6 hm K'))))))))))))))))))))
theorem ry_scan_lp {post : SY → Prop} {q n N : Nat} (hN : N ≤ 128) (pv : rs_PV q n a_kinds a_args N)
    (K : ∀ mk, rl_A (fun x => nI x.2) mk (rs_sk a_kinds N) → post (f_p, f_n, f_room, f_phase, nI N, f_cursor, f_hasTangent, nI (rs_sz a_kinds N), nI (rs_pd a_kinds a_args N), rs_fac a_kinds a_args (rs_sk a_kinds N), rs_wk a_kinds a_args N, nI (rs_sk a_kinds N).length, nI (rs_lp a_kinds (rs_sk a_kinds N)).length, f_steps, f_faultItem, f_nextItem, f_nextCell, f_top, a_kinds, a_args, a_inputs, a_weights, a_tangents, mk, a_cell, a_dcell, a_seen, a_val, a_der, a_start, a_counter, a_total)) :
    ∀ (d i : Nat) (mk : Nat → Int32), i + d = N → rl_A (fun x => nI x.2) mk (rs_sk a_kinds i) → wY_scan_32 post f_p f_n f_room f_phase (nI N) f_cursor f_hasTangent f_steps f_faultItem f_nextItem f_nextCell f_top (d + 1) (nI i) (nI (rs_sz a_kinds i)) (nI (rs_pd a_kinds a_args i)) (rs_fac a_kinds a_args (rs_sk a_kinds i)) (rs_wk a_kinds a_args i) (nI (rs_sk a_kinds i).length) (nI (rs_lp a_kinds (rs_sk a_kinds i)).length) a_kinds a_args a_inputs a_weights a_tangents mk a_cell a_dcell a_seen a_val a_der a_start a_counter a_total
  | 0, i, ma, h, h1 => by
    have e : i = N := by omega
    subst e
    exact br_t (nI_le (Nat.le_refl _) (by omega)) (K ma h1)
  | d + 1, i, ma, h, h1 => by
    have hi : i < N := by omega
    have go := fun mk' => ry_scan_lp hN pv K d (i + 1) mk' (by omega)
    have pos : ∀ x, 1 ≤ x → ∃ y, x = y + 1 := fun x hx => ⟨x - 1, by omega⟩
    rcases pv i hi with ⟨e, k, ca⟩ | ⟨e | e, k, _⟩ | ⟨e, k, _⟩ | ⟨e | e, k, _⟩ | ⟨e, eo, k⟩ | ⟨e, eo, k⟩ | ⟨e, eo, k, k8⟩ | ⟨e, k, _⟩ | ⟨e, k, _⟩ | ⟨e, k, _⟩ | ⟨e, k, o, l, s0, s9⟩ | ⟨e, k, o, m, l, s0⟩
    · exact ry_sc0 hN hi pv e rfl h1 go
    · exact ry_sc1 hN hi pv e rfl h1 go
    · exact ry_sc2 hN hi pv e rfl h1 go
    · exact ry_sc3 hN hi pv e rfl h1 go
    · exact ry_sc4 hN hi pv e (pd := 0) k h1 go
    · exact ry_sc5 hN hi pv e (pd := 0) k h1 go
    · obtain ⟨y, hy⟩ := pos _ (show 1 ≤ rs_pd a_kinds a_args i by omega)
      rcases eo with eo | eo | eo | eo | eo
      · exact ry_sc6_0 hN hi pv e eo hy h1 go
      · exact ry_sc6_1 hN hi pv e eo hy h1 go
      · exact ry_sc6_2 hN hi pv e eo hy h1 go
      · exact ry_sc6_3 hN hi pv e eo hy h1 go
      · exact ry_sc6_6 hN hi pv e eo rfl h1 go
    · exact ry_sc6_4 hN hi pv e eo rfl h1 go
    · exact ry_sc6_5 hN hi pv e eo rfl h1 go
    · exact ry_sc7 hN hi pv e rfl h1 go
    · exact ry_sc8 hN hi pv e (pd := 0) k h1 go
    · exact ry_sc9 hN hi pv e (pd := 0) k h1 go
    · exact ry_sc10 hN hi pv e rfl s0 h1 go
    · exact ry_sc11 hN hi pv e rfl s0 h1 go
theorem ry_scan {post : SY → Prop} {q n N : Nat} (hN : N ≤ 128) (pv : rs_PV q n a_kinds a_args N)
    (K : ∀ mk, rl_A (fun x => nI x.2) mk (rs_sk a_kinds N) → post (f_p, f_n, f_room, f_phase, nI N, f_cursor, f_hasTangent, nI (rs_sz a_kinds N), nI (rs_pd a_kinds a_args N), rs_fac a_kinds a_args (rs_sk a_kinds N), rs_wk a_kinds a_args N, nI (rs_sk a_kinds N).length, nI (rs_lp a_kinds (rs_sk a_kinds N)).length, f_steps, f_faultItem, f_nextItem, f_nextCell, f_top, a_kinds, a_args, a_inputs, a_weights, a_tangents, mk, a_cell, a_dcell, a_seen, a_val, a_der, a_start, a_counter, a_total)) : wpY_scan post (f_p, f_n, f_room, f_phase, nI N, f_cursor, f_hasTangent, f_size, f_pending, f_factor, f_work, f_open, f_loops, f_steps, f_faultItem, f_nextItem, f_nextCell, f_top, a_kinds, a_args, a_inputs, a_weights, a_tangents, a_marks, a_cell, a_dcell, a_seen, a_val, a_der, a_start, a_counter, a_total) :=
  ⟨N + 1, ry_scan_lp hN pv K N 0 a_marks (by omega) True.intro⟩
end
end
section
/-! a program grows by one item -/
def rr_OF (kd ar arr : Nat → Int32) : List (Nat × Nat) → Prop
  | [] => True
  | _ :: l => arr l.length = rs_fac kd ar l ∧ rr_OF kd ar arr l
theorem rr_OF_up {kd ar arr : Nat → Int32} {k : Nat} {v : Int32} : ∀ {l : List (Nat × Nat)}, l.length ≤ k → rr_OF kd ar arr l → rr_OF kd ar (upd arr k v) l
  | [], _, _ => True.intro
  | x :: l, h, a => by
    rw [List.length_cons] at h
    exact ⟨by rw [pk_un (by omega)]; exact a.1, rr_OF_up (by omega) a.2⟩
theorem rr_OF_cg {kd ar kd' ar' arr : Nat → Int32} : ∀ {l : List (Nat × Nat)}, (∀ x, x ∈ l → kd' x.2 = kd x.2 ∧ ar' x.2 = ar x.2) → rr_OF kd ar arr l → rr_OF kd' ar' arr l
  | [], _, _ => True.intro
  | x :: l, h, a => ⟨by rw [rs_fac_cg l (fun y hy => h y (List.mem_cons_of_mem _ hy))]; exact a.1, rr_OF_cg (fun y hy => h y (List.mem_cons_of_mem _ hy)) a.2⟩
def rr_oe (x : Nat × Nat) : Int32 := if x.2 = x.1 then -1 else nI x.2
/-- what both sides keep of the program -/
def rr_P (q n rm N : Nat) (kd ar jm oi oe of mk : Nat → Int32) : Prop :=
  rs_PV q n kd ar N ∧ rs_JW kd jm N ∧ N + rs_re (rs_sk kd N) ≤ rs_sz kd N ∧ rs_sz kd N ≤ rm
  ∧ rl_A (fun x => nI x.1) oi (rs_sk kd N) ∧ rl_A rr_oe oe (rs_sk kd N) ∧ rr_OF kd ar of (rs_sk kd N) ∧ rl_A (fun x => nI x.2) mk (rs_sk kd N) ∧ rs_wk kd ar N ≤ 1024
section
variable {q n rm N : Nat} {kd ar jm oi oe of mk : Nat → Int32} {k a : Int32}
theorem rb_sk : rs_sk (upd kd N k) N = rs_sk kd N := rs_sk_cg N (fun j hj => rs_u j hj)
theorem rb_pd0 : rs_pd (upd kd N k) (upd ar N a) N = rs_pd kd ar N := rs_pd_cg N (fun j hj => rs_u j hj) (fun j hj => rs_u j hj)
theorem rb_sz : rs_sz (upd kd N k) (N + 1) = rs_sz kd N + rs_s1 k := by
  show rs_sz (upd kd N k) N + rs_s1 (upd kd N k N) = _
  rw [pk_us, rs_sz_cg N (fun j hj => rs_u j hj)]
theorem rb_pd : rs_pd (upd kd N k) (upd ar N a) (N + 1) = rs_p1 k a (rs_pd kd ar N) := by
  show rs_p1 (upd kd N k N) (upd ar N a N) (rs_pd (upd kd N k) (upd ar N a) N) = _
  rw [pk_us, pk_us, rb_pd0]
theorem rb_mem (pv : rs_PV q n kd ar N) : ∀ x, x ∈ rs_sk kd N → upd kd N k x.2 = kd x.2 ∧ upd ar N a x.2 = ar x.2 := fun x hx => by
  have := (rs_lt N pv x hx).2
  exact ⟨pk_un (by omega), pk_un (by omega)⟩
theorem rb_fac (pv : rs_PV q n kd ar N) : rs_fac (upd kd N k) (upd ar N a) (rs_sk kd N) = rs_fac kd ar (rs_sk kd N) := rs_fac_cg _ (rb_mem pv)
theorem rb_lp (pv : rs_PV q n kd ar N) : rs_lp (upd kd N k) (rs_sk kd N) = rs_lp kd (rs_sk kd N) := rs_lp_cg _ (fun x hx => (rb_mem (a := 0) pv x hx).1)
theorem rb_wk (pv : rs_PV q n kd ar N) : rs_wk (upd kd N k) (upd ar N a) (N + 1) = rs_wk kd ar N + rs_w1 k a (rs_fac kd ar (rs_sk kd N)) := by
  show rs_wk (upd kd N k) (upd ar N a) N + rs_w1 (upd kd N k N) (upd ar N a N) (rs_fac (upd kd N k) (upd ar N a) (rs_sk (upd kd N k) N)) = _
  rw [pk_us, pk_us, rb_sk, rb_fac pv, rs_wk_cg N pv (fun j hj => rs_u j hj) (fun j hj => rs_u j hj)]
theorem rb_PV (pv : rs_PV q n kd ar N) (ok : rs_ok q n (upd kd N k) (upd ar N a) N) : rs_PV q n (upd kd N k) (upd ar N a) (N + 1) := by
  intro i hi
  by_cases e : i = N
  · rw [e]; exact ok
  · exact rs_PV_cg pv (fun j hj => rs_u j hj) (fun j hj => rs_u j hj) i (by omega)
/-- the forms of a good item, over the old program -/
theorem rb_ok (pv : rs_PV q n kd ar N) (h :
    (k = 0 ∧ rs_pd kd ar N < 8 ∧ ra_Cn q a)
  ∨ ((k = 1 ∨ k = 2) ∧ rs_pd kd ar N < 8 ∧ ∃ c, c < n ∧ a = nI c)
  ∨ (k = 3 ∧ rs_pd kd ar N < 8 ∧ ∃ c, c < (rs_lp kd (rs_sk kd N)).length ∧ a = nI c)
  ∨ ((k = 4 ∨ k = 5) ∧ rs_pd kd ar N = 1 ∧ ∃ c, c < n ∧ a = nI c)
  ∨ (k = 6 ∧ (a = 0 ∨ a = 1 ∨ a = 2 ∨ a = 3 ∨ a = 6) ∧ 2 ≤ rs_pd kd ar N)
  ∨ (k = 6 ∧ a = 4 ∧ 1 ≤ rs_pd kd ar N)
  ∨ (k = 6 ∧ a = 5 ∧ 1 ≤ rs_pd kd ar N ∧ rs_pd kd ar N < 8)
  ∨ (k = 7 ∧ rs_pd kd ar N = 0 ∧ (rs_sk kd N).length < 6 ∧ ∃ c, 1 ≤ c ∧ c ≤ 16 ∧ a = nI c)
  ∨ (k = 8 ∧ rs_pd kd ar N = 1 ∧ (rs_sk kd N).length < 6 ∧ ∃ c, 1 ≤ c ∧ c ≤ 16 ∧ a = nI c)
  ∨ (k = 9 ∧ rs_pd kd ar N = 1 ∧ (rs_sk kd N).length < 6 ∧ ∃ c, c ≤ 3 ∧ a = nI c)
  ∨ (k = 10 ∧ rs_pd kd ar N = 0 ∧ ∃ o l, rs_sk kd N = (o, o) :: l ∧ kd o = 9)
  ∨ (k = 11 ∧ rs_pd kd ar N = 0 ∧ ∃ o m l, rs_sk kd N = (o, m) :: l)) : rs_ok q n (upd kd N k) (upd ar N a) N := by
  unfold rs_ok
  rw [pk_us, pk_us, rb_sk, rb_pd0, rb_lp pv]
  rcases h with z | z | z | z | z | z | z | z | z | z | ⟨z, z1, o, l, e, z2⟩ | z
  · exact Or.inl z
  · exact Or.inr (Or.inl z)
  · exact Or.inr (Or.inr (Or.inl z))
  · exact Or.inr (Or.inr (Or.inr (Or.inl z)))
  · exact Or.inr (Or.inr (Or.inr (Or.inr (Or.inl z))))
  · exact Or.inr (Or.inr (Or.inr (Or.inr (Or.inr (Or.inl z)))))
  · exact Or.inr (Or.inr (Or.inr (Or.inr (Or.inr (Or.inr (Or.inl z))))))
  · exact Or.inr (Or.inr (Or.inr (Or.inr (Or.inr (Or.inr (Or.inr (Or.inl z)))))))
  · exact Or.inr (Or.inr (Or.inr (Or.inr (Or.inr (Or.inr (Or.inr (Or.inr (Or.inl z))))))))
  · exact Or.inr (Or.inr (Or.inr (Or.inr (Or.inr (Or.inr (Or.inr (Or.inr (Or.inr (Or.inl z)))))))))
  · refine Or.inr (Or.inr (Or.inr (Or.inr (Or.inr (Or.inr (Or.inr (Or.inr (Or.inr (Or.inr (Or.inl ⟨z, z1, o, l, e, ?_⟩))))))))))
    rw [rs_u o (rs_lt N pv (o, o) (by rw [e]; exact List.mem_cons_self ..)).1]; exact z2
  · exact Or.inr (Or.inr (Or.inr (Or.inr (Or.inr (Or.inr (Or.inr (Or.inr (Or.inr (Or.inr (Or.inr z))))))))))
theorem rb_skN (h7 : k ≠ 7) (h8 : k ≠ 8) (h9 : k ≠ 9) (h10 : k ≠ 10) (h11 : k ≠ 11) : rs_sk (upd kd N k) (N + 1) = rs_sk kd N := by
  rw [rs_skN (by rw [pk_us]; exact h7) (by rw [pk_us]; exact h8) (by rw [pk_us]; exact h9) (by rw [pk_us]; exact h10) (by rw [pk_us]; exact h11), rb_sk]
theorem rb_skO (h : k = 7 ∨ k = 8 ∨ k = 9) : rs_sk (upd kd N k) (N + 1) = (N, N) :: rs_sk kd N := by
  rw [rs_skO (by rw [pk_us]; exact h), rb_sk]
theorem rb_skE {o m : Nat} {l : List (Nat × Nat)} (e : rs_sk kd N = (o, m) :: l) : rs_sk (upd kd N 10) (N + 1) = (o, N) :: l :=
  rs_skE pk_us (by rw [rb_sk]; exact e)
theorem rb_skX {o m : Nat} {l : List (Nat × Nat)} (e : rs_sk kd N = (o, m) :: l) : rs_sk (upd kd N 11) (N + 1) = l := by
  rw [rs_skX pk_us, rb_sk, e]; rfl
/-- a plain item -/
theorem rb_P1 {v : Int32} {mk' : Nat → Int32} (P : rr_P q n rm N kd ar jm oi oe of mk) (ok : rs_ok q n (upd kd N k) (upd ar N a) N) (h7 : k ≠ 7) (h8 : k ≠ 8) (h9 : k ≠ 9) (h10 : k ≠ 10) (h11 : k ≠ 11) (hs1 : rs_s1 k = 1) (hs : rs_sz kd N + 1 ≤ rm) (hwk : rs_wk (upd kd N k) (upd ar N a) (N + 1) ≤ 1024)
    (hm : rl_A (fun x => nI x.2) mk' (rs_sk (upd kd N k) (N + 1))) : rr_P q n rm (N + 1) (upd kd N k) (upd ar N a) (upd jm N v) oi oe of mk' := by
  obtain ⟨p1, p2, p3, p4, p5, p6, p7, p8, p9⟩ := P
  have e := rb_skN (kd := kd) (N := N) h7 h8 h9 h10 h11
  refine ⟨rb_PV p1 ok, rs_JW1 p1 p2 h10 h11, ?_, ?_, ?_, ?_, ?_, hm, hwk⟩
  · rw [rb_sz, e, hs1]; omega
  · rw [rb_sz, hs1]; exact hs
  · rw [e]; exact p5
  · rw [e]; exact p6
  · rw [e]; exact rr_OF_cg (rb_mem p1) p7
/-- an opener -/
theorem rb_PO {v : Int32} {mk' : Nat → Int32} (P : rr_P q n rm N kd ar jm oi oe of mk) (ok : rs_ok q n (upd kd N k) (upd ar N a) N) (h : k = 7 ∨ k = 8 ∨ k = 9) (hs : rs_sz kd N + 3 ≤ rm) (hwk : rs_wk (upd kd N k) (upd ar N a) (N + 1) ≤ 1024)
    (hm : rl_A (fun x => nI x.2) mk' (rs_sk (upd kd N k) (N + 1))) :
    rr_P q n rm (N + 1) (upd kd N k) (upd ar N a) (upd jm N v) (upd oi (rs_sk kd N).length (nI N)) (upd oe (rs_sk kd N).length (-1)) (upd of (rs_sk kd N).length (rs_fac kd ar (rs_sk kd N))) mk' := by
  obtain ⟨p1, p2, p3, p4, p5, p6, p7, p8, p9⟩ := P
  have e := rb_skO (kd := kd) (N := N) h
  have s1 : rs_s1 k = 3 := by rcases h with z | z | z <;> rw [z] <;> rfl
  have h10 : k ≠ 10 := by rcases h with z | z | z <;> rw [z] <;> decide
  have h11 : k ≠ 11 := by rcases h with z | z | z <;> rw [z] <;> decide
  refine ⟨rb_PV p1 ok, rs_JW1 p1 p2 h10 h11, ?_, ?_, ?_, ?_, ?_, hm, hwk⟩
  · rw [rb_sz, e, s1]
    show N + 1 + ((if N = N then 2 else 1) + rs_re (rs_sk kd N)) ≤ _
    rw [if_pos rfl]; omega
  · rw [rb_sz, s1]; exact hs
  · rw [e]; exact rl_push' p5 rfl rfl
  · rw [e]; exact rl_push' p6 rfl (by show (-1 : Int32) = if N = N then -1 else nI N; rw [if_pos rfl])
  · rw [e]; exact ⟨by rw [pk_us, rb_fac p1], rr_OF_up (Nat.le_refl _) (rr_OF_cg (rb_mem p1) p7)⟩
/-- an else -/
theorem rb_PE {v : Int32} {mk' : Nat → Int32} (P : rr_P q n rm N kd ar jm oi oe of mk) {o : Nat} {l : List (Nat × Nat)} (hk : rs_sk kd N = (o, o) :: l) (ok : rs_ok q n (upd kd N 10) (upd ar N a) N)
    (hm : rl_A (fun x => nI x.2) mk' (rs_sk (upd kd N 10) (N + 1))) :
    rr_P q n rm (N + 1) (upd kd N 10) (upd ar N a) (upd (upd jm N v) o (nI N)) oi (upd oe l.length (nI N)) of mk' := by
  obtain ⟨p1, p2, p3, p4, p5, p6, p7, p8, p9⟩ := P
  have e := rb_skE (kd := kd) (N := N) hk
  have hwk : rs_wk (upd kd N 10) (upd ar N a) (N + 1) ≤ 1024 := by rw [rb_wk p1]; show rs_wk kd ar N + 0 ≤ 1024; rw [Int32.add_zero]; exact p9
  have lo : o < N := (rs_lt N p1 (o, o) (by rw [hk]; exact List.mem_cons_self ..)).1
  have mem := rb_mem (k := 10) (a := a) p1
  rw [hk] at p3 p5 p6 p7 mem
  refine ⟨rb_PV p1 ok, rs_JWE p1 p2 hk, ?_, ?_, ?_, ?_, ?_, hm, hwk⟩
  · rw [rb_sz, e]
    have p3' : N + ((if o = o then 2 else 1) + rs_re l) ≤ rs_sz kd N := p3
    rw [if_pos rfl] at p3'
    show N + 1 + ((if N = o then 2 else 1) + rs_re l) ≤ rs_sz kd N + rs_s1 10
    rw [if_neg (by omega)]
    show _ ≤ rs_sz kd N + 0
    omega
  · rw [rb_sz]; exact p4
  · rw [e]; exact ⟨p5.1, p5.2⟩
  · rw [e]; exact rl_push' p6.2 rfl (by show nI N = if N = o then -1 else nI N; rw [if_neg (by omega)])
  · rw [e]; exact ⟨by rw [rs_fac_cg l (fun y hy => mem y (List.mem_cons_of_mem _ hy))]; exact p7.1, rr_OF_cg (fun y hy => mem y (List.mem_cons_of_mem _ hy)) p7.2⟩
/-- an end -/
theorem rb_PX {v : Int32} {mk' : Nat → Int32} (P : rr_P q n rm N kd ar jm oi oe of mk) {o m : Nat} {l : List (Nat × Nat)} (hk : rs_sk kd N = (o, m) :: l) (ok : rs_ok q n (upd kd N 11) (upd ar N a) N)
    (hm : rl_A (fun x => nI x.2) mk' (rs_sk (upd kd N 11) (N + 1))) :
    rr_P q n rm (N + 1) (upd kd N 11) (upd ar N a) (upd (upd (upd jm N v) N (nI o)) m (nI N)) oi oe of mk' := by
  obtain ⟨p1, p2, p3, p4, p5, p6, p7, p8, p9⟩ := P
  have e := rb_skX (kd := kd) (N := N) hk
  have hwk : rs_wk (upd kd N 11) (upd ar N a) (N + 1) ≤ 1024 := by rw [rb_wk p1]; show rs_wk kd ar N + 0 ≤ 1024; rw [Int32.add_zero]; exact p9
  have mem := rb_mem (k := 11) (a := a) p1
  rw [hk] at p3 p5 p6 p7 mem
  refine ⟨rb_PV p1 ok, rs_JWX p1 p2 hk, ?_, ?_, ?_, ?_, ?_, hm, hwk⟩
  · rw [rb_sz, e]
    have p3' : N + ((if m = o then 2 else 1) + rs_re l) ≤ rs_sz kd N := p3
    show N + 1 + rs_re l ≤ rs_sz kd N + 0
    split at p3' <;> omega
  · rw [rb_sz]; exact p4
  · rw [e]; exact p5.2
  · rw [e]; exact p6.2
  · rw [e]; exact rr_OF_cg (fun y hy => mem y (List.mem_cons_of_mem _ hy)) p7.2
end
/-! the two sides' appending -/
section
variable {f_STORE_CELL f_STORE_AT f_OPERATOR f_LOOP f_LOOP_BY f_IF f_ELSE f_END f_ACT_ZERO f_ACT_READ f_ACT_WRITE f_ACT_DROP f_ACT_COMBINE f_ACT_NEGATE f_ACT_COPY f_ACT_EXCHANGE f_prime f_cellCount f_room f_phase f_itemCount f_size f_pending f_factor f_work f_openCount f_openLoops f_depth f_loopDepth f_faultItem f_actCount f_stepCount f_cursor f_hasTangent f_flowDepth : Int32} {a_inputs a_weights a_itemKind a_itemArg a_itemJump a_openItem a_openElse a_openFactor a_cells a_stack a_loopCounter a_loopLimit a_actCode a_actLeft a_actRight a_stepItem a_stepCell a_stepOld a_stepNew a_stepEnd a_adjoints a_tangents a_flow : Nat → Int32}
theorem rx_append {post : Int32 → SX → Prop} {N : Nat} {k a s w sz wk : Int32} (hN : N < 128) (es : f_size + s = sz) (ew : f_work + w = wk)
    (K : post (nI N) (f_STORE_CELL, f_STORE_AT, f_OPERATOR, f_LOOP, f_LOOP_BY, f_IF, f_ELSE, f_END, f_ACT_ZERO, f_ACT_READ, f_ACT_WRITE, f_ACT_DROP, f_ACT_COMBINE, f_ACT_NEGATE, f_ACT_COPY, f_ACT_EXCHANGE, f_prime, f_cellCount, f_room, f_phase, nI (N + 1), sz, f_pending, f_factor, wk, f_openCount, f_openLoops, f_depth, f_loopDepth, f_faultItem, f_actCount, f_stepCount, f_cursor, f_hasTangent, f_flowDepth, a_inputs, a_weights, upd a_itemKind N k, upd a_itemArg N a, upd a_itemJump N (nI N), a_openItem, a_openElse, a_openFactor, a_cells, a_stack, a_loopCounter, a_loopLimit, a_actCode, a_actLeft, a_actRight, a_stepItem, a_stepCell, a_stepOld, a_stepNew, a_stepEnd, a_adjoints, a_tangents, a_flow)) : wpX_append post (f_STORE_CELL, f_STORE_AT, f_OPERATOR, f_LOOP, f_LOOP_BY, f_IF, f_ELSE, f_END, f_ACT_ZERO, f_ACT_READ, f_ACT_WRITE, f_ACT_DROP, f_ACT_COMBINE, f_ACT_NEGATE, f_ACT_COPY, f_ACT_EXCHANGE, f_prime, f_cellCount, f_room, f_phase, nI N, f_size, f_pending, f_factor, f_work, f_openCount, f_openLoops, f_depth, f_loopDepth, f_faultItem, f_actCount, f_stepCount, f_cursor, f_hasTangent, f_flowDepth, a_inputs, a_weights, a_itemKind, a_itemArg, a_itemJump, a_openItem, a_openElse, a_openFactor, a_cells, a_stack, a_loopCounter, a_loopLimit, a_actCode, a_actLeft, a_actRight, a_stepItem, a_stepCell, a_stepOld, a_stepNew, a_stepEnd, a_adjoints, a_tangents, a_flow) k a s w :=
  And.intro (vp_in_nI hN (by decide)) (nm_r (e' := upd a_itemKind N k) (by rw [nI_clamp (by omega)]) (And.intro (vp_in_nI hN (by decide)) (nm_r (e' := upd a_itemArg N a) (by rw [nI_clamp (by omega)])
    (And.intro (vp_in_nI hN (by decide)) (nm_r (e' := upd a_itemJump N (nI N)) (by rw [nI_clamp (by omega)]) (nm_r (nI_1 N) (nm_r es (nm_r ew K))))))))
theorem rx_cost0 {post : Int32 → Prop} {s w : Int32} (h1 : f_size + s ≤ f_room) (h2 : f_work + w ≤ 1024) (K : post 0) : wpX_costRefusal post (f_STORE_CELL, f_STORE_AT, f_OPERATOR, f_LOOP, f_LOOP_BY, f_IF, f_ELSE, f_END, f_ACT_ZERO, f_ACT_READ, f_ACT_WRITE, f_ACT_DROP, f_ACT_COMBINE, f_ACT_NEGATE, f_ACT_COPY, f_ACT_EXCHANGE, f_prime, f_cellCount, f_room, f_phase, f_itemCount, f_size, f_pending, f_factor, f_work, f_openCount, f_openLoops, f_depth, f_loopDepth, f_faultItem, f_actCount, f_stepCount, f_cursor, f_hasTangent, f_flowDepth, a_inputs, a_weights, a_itemKind, a_itemArg, a_itemJump, a_openItem, a_openElse, a_openFactor, a_cells, a_stack, a_loopCounter, a_loopLimit, a_actCode, a_actLeft, a_actRight, a_stepItem, a_stepCell, a_stepOld, a_stepNew, a_stepEnd, a_adjoints, a_tangents, a_flow) s w := br_t h1 (br_t h2 K)
theorem rx_cost5 {post : Int32 → Prop} {s w : Int32} (h1 : ¬ f_size + s ≤ f_room) (K : post (-5)) : wpX_costRefusal post (f_STORE_CELL, f_STORE_AT, f_OPERATOR, f_LOOP, f_LOOP_BY, f_IF, f_ELSE, f_END, f_ACT_ZERO, f_ACT_READ, f_ACT_WRITE, f_ACT_DROP, f_ACT_COMBINE, f_ACT_NEGATE, f_ACT_COPY, f_ACT_EXCHANGE, f_prime, f_cellCount, f_room, f_phase, f_itemCount, f_size, f_pending, f_factor, f_work, f_openCount, f_openLoops, f_depth, f_loopDepth, f_faultItem, f_actCount, f_stepCount, f_cursor, f_hasTangent, f_flowDepth, a_inputs, a_weights, a_itemKind, a_itemArg, a_itemJump, a_openItem, a_openElse, a_openFactor, a_cells, a_stack, a_loopCounter, a_loopLimit, a_actCode, a_actLeft, a_actRight, a_stepItem, a_stepCell, a_stepOld, a_stepNew, a_stepEnd, a_adjoints, a_tangents, a_flow) s w := br_f h1 K
theorem rx_cost6 {post : Int32 → Prop} {s w : Int32} (h1 : f_size + s ≤ f_room) (h2 : ¬ f_work + w ≤ 1024) (K : post (-6)) : wpX_costRefusal post (f_STORE_CELL, f_STORE_AT, f_OPERATOR, f_LOOP, f_LOOP_BY, f_IF, f_ELSE, f_END, f_ACT_ZERO, f_ACT_READ, f_ACT_WRITE, f_ACT_DROP, f_ACT_COMBINE, f_ACT_NEGATE, f_ACT_COPY, f_ACT_EXCHANGE, f_prime, f_cellCount, f_room, f_phase, f_itemCount, f_size, f_pending, f_factor, f_work, f_openCount, f_openLoops, f_depth, f_loopDepth, f_faultItem, f_actCount, f_stepCount, f_cursor, f_hasTangent, f_flowDepth, a_inputs, a_weights, a_itemKind, a_itemArg, a_itemJump, a_openItem, a_openElse, a_openFactor, a_cells, a_stack, a_loopCounter, a_loopLimit, a_actCode, a_actLeft, a_actRight, a_stepItem, a_stepCell, a_stepOld, a_stepNew, a_stepEnd, a_adjoints, a_tangents, a_flow) s w := br_t h1 (br_f h2 K)
end
section
variable {f_p f_n f_room f_phase f_items f_cursor f_hasTangent f_size f_pending f_factor f_work f_open f_loops f_steps f_faultItem f_nextItem f_nextCell f_top : Int32} {a_kinds a_args a_inputs a_weights a_tangents a_marks a_cell a_dcell a_seen a_val a_der a_start a_counter a_total : Nat → Int32}
theorem ry_add5 {post : Int32 → SY → Prop} {k a s w : Int32} (h1 : ¬ f_size + s ≤ f_room) (K : post (-5) (f_p, f_n, f_room, f_phase, f_items, f_cursor, f_hasTangent, f_size, f_pending, f_factor, f_work, f_open, f_loops, f_steps, f_faultItem, f_nextItem, f_nextCell, f_top, a_kinds, a_args, a_inputs, a_weights, a_tangents, a_marks, a_cell, a_dcell, a_seen, a_val, a_der, a_start, a_counter, a_total)) : wpY_add post (f_p, f_n, f_room, f_phase, f_items, f_cursor, f_hasTangent, f_size, f_pending, f_factor, f_work, f_open, f_loops, f_steps, f_faultItem, f_nextItem, f_nextCell, f_top, a_kinds, a_args, a_inputs, a_weights, a_tangents, a_marks, a_cell, a_dcell, a_seen, a_val, a_der, a_start, a_counter, a_total) k a s w := br_f h1 K
theorem ry_add6 {post : Int32 → SY → Prop} {k a s w : Int32} (h1 : f_size + s ≤ f_room) (h2 : ¬ f_work + w ≤ 1024) (K : post (-6) (f_p, f_n, f_room, f_phase, f_items, f_cursor, f_hasTangent, f_size, f_pending, f_factor, f_work, f_open, f_loops, f_steps, f_faultItem, f_nextItem, f_nextCell, f_top, a_kinds, a_args, a_inputs, a_weights, a_tangents, a_marks, a_cell, a_dcell, a_seen, a_val, a_der, a_start, a_counter, a_total)) : wpY_add post (f_p, f_n, f_room, f_phase, f_items, f_cursor, f_hasTangent, f_size, f_pending, f_factor, f_work, f_open, f_loops, f_steps, f_faultItem, f_nextItem, f_nextCell, f_top, a_kinds, a_args, a_inputs, a_weights, a_tangents, a_marks, a_cell, a_dcell, a_seen, a_val, a_der, a_start, a_counter, a_total) k a s w := br_t h1 (br_f h2 K)
theorem ry_add0 {post : Int32 → SY → Prop} {q n N : Nat} {k a s w : Int32} (h1 : f_size + s ≤ f_room) (h2 : f_work + w ≤ 1024) (hN : N < 128) (pv : rs_PV q n (upd a_kinds N k) (upd a_args N a) (N + 1))
    (K : ∀ ma, rl_A (fun x => nI x.2) ma (rs_sk (upd a_kinds N k) (N + 1)) → post (nI N) (f_p, f_n, f_room, f_phase, nI (N + 1), f_cursor, f_hasTangent, nI (rs_sz (upd a_kinds N k) (N + 1)), nI (rs_pd (upd a_kinds N k) (upd a_args N a) (N + 1)), rs_fac (upd a_kinds N k) (upd a_args N a) (rs_sk (upd a_kinds N k) (N + 1)), rs_wk (upd a_kinds N k) (upd a_args N a) (N + 1), nI (rs_sk (upd a_kinds N k) (N + 1)).length, nI (rs_lp (upd a_kinds N k) (rs_sk (upd a_kinds N k) (N + 1))).length, f_steps, f_faultItem, f_nextItem, f_nextCell, f_top, upd a_kinds N k, upd a_args N a, a_inputs, a_weights, a_tangents, ma, a_cell, a_dcell, a_seen, a_val, a_der, a_start, a_counter, a_total)) :
    wpY_add post (f_p, f_n, f_room, f_phase, nI N, f_cursor, f_hasTangent, f_size, f_pending, f_factor, f_work, f_open, f_loops, f_steps, f_faultItem, f_nextItem, f_nextCell, f_top, a_kinds, a_args, a_inputs, a_weights, a_tangents, a_marks, a_cell, a_dcell, a_seen, a_val, a_der, a_start, a_counter, a_total) k a s w := by
  refine br_t h1 (br_t h2 (And.intro (vp_in_nI hN (by decide)) (nm_r (e' := upd a_kinds N k) (by rw [nI_clamp (by omega)]) (And.intro (vp_in_nI hN (by decide)) (nm_r (e' := upd a_args N a) (by rw [nI_clamp (by omega)]) (nm_r (nI_1 N) ?_))))))
  refine ry_scan (by omega) pv (fun ma h => ?_)
  have k := K ma h
  rw [← nI_pred N] at k
  exact k
end
end
section
/-! the relation -/
/-- a run that ended: c is its last configuration; the cells and the adjoints are those at the cursor -/
def rr_D (q n N : Nat) (kd ar inp wts : Nat → Int32) (f_phase : Int32) (f_hasTangent : Int32) (f_faultItem : Int32) (f_actCount : Int32) (f_stepCount : Int32) (f_cursor : Int32) (a_cells : Nat → Int32) (a_actCode : Nat → Int32) (a_actLeft : Nat → Int32) (a_actRight : Nat → Int32) (a_stepItem : Nat → Int32) (a_stepCell : Nat → Int32) (a_stepOld : Nat → Int32) (a_stepNew : Nat → Int32) (a_stepEnd : Nat → Int32) (a_adjoints : Nat → Int32) (a_tangents : Nat → Int32) (f_steps : Int32) (g_cursor : Int32) (g_faultItem : Int32) (g_tangents : Nat → Int32) : Prop :=
  ∃ (na ns cur M pc : Nat) (cells : rc_F) (st : List Int32) (lp : List (Nat × Nat × Nat)) (c0 : rc_C), (f_actCount = nI na ∧ f_stepCount = nI ns ∧ f_cursor = nI cur ∧ g_cursor = nI cur ∧ f_steps = nI ns)
    ∧ cur ≤ ns ∧ rc_I inp c0 ∧ M ≤ 1024 ∧ (M = 1024 ∨ N ≤ pc) ∧ rc_R q n N kd ar inp M c0 (pc, cells, st, lp, a_actCode, a_actLeft, a_actRight, na, a_stepItem, a_stepCell, a_stepOld, a_stepNew, a_stepEnd, ns) ∧ rc_G q n N kd ar inp (pc, cells, st, lp, a_actCode, a_actLeft, a_actRight, na, a_stepItem, a_stepCell, a_stepOld, a_stepNew, a_stepEnd, ns)
    ∧ (∀ i, i < 8 → a_cells i = rc_A inp a_stepCell a_stepNew cur i)
    ∧ (∀ i, i < n → a_adjoints i = (rt_bR (nI (q + 1)) a_actCode a_actLeft a_actRight (rc_tp a_stepEnd ns) (wts, []) (rc_tp a_stepEnd ns - rc_tp a_stepEnd cur)).1 i)
/-- what holds in each phase -/
def rr_H (q n N : Nat) (kd ar inp wts : Nat → Int32) (f_phase : Int32) (f_hasTangent : Int32) (f_faultItem : Int32) (f_actCount : Int32) (f_stepCount : Int32) (f_cursor : Int32) (a_cells : Nat → Int32) (a_actCode : Nat → Int32) (a_actLeft : Nat → Int32) (a_actRight : Nat → Int32) (a_stepItem : Nat → Int32) (a_stepCell : Nat → Int32) (a_stepOld : Nat → Int32) (a_stepNew : Nat → Int32) (a_stepEnd : Nat → Int32) (a_adjoints : Nat → Int32) (a_tangents : Nat → Int32) (f_steps : Int32) (g_cursor : Int32) (g_faultItem : Int32) (g_tangents : Nat → Int32) : Prop :=
  (f_phase = 0 ∧ f_hasTangent = 0) ∨ (f_phase = 1 ∧ f_hasTangent = 0 ∧ rs_sk kd N = [])
  ∨ (f_phase = 2 ∧ rs_sk kd N = [] ∧ (f_hasTangent = 0 ∨ (f_hasTangent = 1 ∧ ∀ i, i < n → a_tangents i = g_tangents i)) ∧ rr_D q n N kd ar inp wts f_phase f_hasTangent f_faultItem f_actCount f_stepCount f_cursor a_cells a_actCode a_actLeft a_actRight a_stepItem a_stepCell a_stepOld a_stepNew a_stepEnd a_adjoints a_tangents f_steps g_cursor g_faultItem g_tangents)
  ∨ (f_phase = 3 ∧ f_hasTangent = 0 ∧ rs_sk kd N = [] ∧ f_steps = f_stepCount ∧ g_faultItem = f_faultItem)
def rr_F (q n rm N : Nat) (kd ar jm oi oe of mk inp wts : Nat → Int32) (f_phase : Int32) (f_hasTangent : Int32) (f_faultItem : Int32) (f_actCount : Int32) (f_stepCount : Int32) (f_cursor : Int32) (a_cells : Nat → Int32) (a_actCode : Nat → Int32) (a_actLeft : Nat → Int32) (a_actRight : Nat → Int32) (a_stepItem : Nat → Int32) (a_stepCell : Nat → Int32) (a_stepOld : Nat → Int32) (a_stepNew : Nat → Int32) (a_stepEnd : Nat → Int32) (a_adjoints : Nat → Int32) (a_tangents : Nat → Int32) (f_steps : Int32) (g_cursor : Int32) (g_faultItem : Int32) (g_tangents : Nat → Int32) : Prop :=
  (ra_pr q ∧ 2 ≤ n ∧ n ≤ 8 ∧ 16 ≤ rm ∧ rm ≤ 128) ∧ rr_P q n rm N kd ar jm oi oe of mk ∧ rt_Cf q n inp ∧ rt_Cf q n wts ∧ rr_H q n N kd ar inp wts f_phase f_hasTangent f_faultItem f_actCount f_stepCount f_cursor a_cells a_actCode a_actLeft a_actRight a_stepItem a_stepCell a_stepOld a_stepNew a_stepEnd a_adjoints a_tangents f_steps g_cursor g_faultItem g_tangents
def i_Rel (k : Nat) (u : SX) (v : SY) : Prop := match u with
  | (f_STORE_CELL, f_STORE_AT, f_OPERATOR, f_LOOP, f_LOOP_BY, f_IF, f_ELSE, f_END, f_ACT_ZERO, f_ACT_READ, f_ACT_WRITE, f_ACT_DROP, f_ACT_COMBINE, f_ACT_NEGATE, f_ACT_COPY, f_ACT_EXCHANGE, f_prime, f_cellCount, f_room, f_phase, f_itemCount, f_size, f_pending, f_factor, f_work, f_openCount, f_openLoops, f_depth, f_loopDepth, f_faultItem, f_actCount, f_stepCount, f_cursor, f_hasTangent, f_flowDepth, a_inputs, a_weights, a_itemKind, a_itemArg, a_itemJump, a_openItem, a_openElse, a_openFactor, a_cells, a_stack, a_loopCounter, a_loopLimit, a_actCode, a_actLeft, a_actRight, a_stepItem, a_stepCell, a_stepOld, a_stepNew, a_stepEnd, a_adjoints, a_tangents, a_flow) => match v with
    | (f_p, f_n, g_room, g_phase, f_items, g_cursor, g_hasTangent, g_size, g_pending, g_factor, g_work, f_open, f_loops, f_steps, g_faultItem, f_nextItem, f_nextCell, f_top, a_kinds, a_args, g_inputs, g_weights, g_tangents, a_marks, a_cell, a_dcell, a_seen, a_val, a_der, a_start, a_counter, a_total) => ∃ q n rm N : Nat, (f_prime = nI (q + 1) ∧ f_cellCount = nI n ∧ f_room = nI rm ∧ f_itemCount = nI N ∧ f_size = nI (rs_sz a_itemKind N) ∧ f_pending = nI (rs_pd a_itemKind a_itemArg N) ∧ f_factor = rs_fac a_itemKind a_itemArg (rs_sk a_itemKind N) ∧ f_work = rs_wk a_itemKind a_itemArg N ∧ f_openCount = nI (rs_sk a_itemKind N).length ∧ f_openLoops = nI (rs_lp a_itemKind (rs_sk a_itemKind N)).length ∧ f_p = nI (q + 1) ∧ f_n = nI n ∧ g_room = nI rm ∧ g_phase = f_phase ∧ f_items = nI N ∧ g_hasTangent = f_hasTangent ∧ g_size = nI (rs_sz a_itemKind N) ∧ g_pending = nI (rs_pd a_itemKind a_itemArg N) ∧ g_factor = rs_fac a_itemKind a_itemArg (rs_sk a_itemKind N) ∧ g_work = rs_wk a_itemKind a_itemArg N ∧ f_open = nI (rs_sk a_itemKind N).length ∧ f_loops = nI (rs_lp a_itemKind (rs_sk a_itemKind N)).length ∧ a_kinds = a_itemKind ∧ a_args = a_itemArg ∧ g_inputs = a_inputs ∧ g_weights = a_weights)
      ∧ rr_F q n rm N a_itemKind a_itemArg a_itemJump a_openItem a_openElse a_openFactor a_marks a_inputs a_weights f_phase f_hasTangent f_faultItem f_actCount f_stepCount f_cursor a_cells a_actCode a_actLeft a_actRight a_stepItem a_stepCell a_stepOld a_stepNew a_stepEnd a_adjoints a_tangents f_steps g_cursor g_faultItem g_tangents
theorem i_up {k : Nat} {u : SX} {v : SY} (h : i_Rel k u v) : i_Rel (k + 3) u v := by
  obtain ⟨f_STORE_CELL, f_STORE_AT, f_OPERATOR, f_LOOP, f_LOOP_BY, f_IF, f_ELSE, f_END, f_ACT_ZERO, f_ACT_READ, f_ACT_WRITE, f_ACT_DROP, f_ACT_COMBINE, f_ACT_NEGATE, f_ACT_COPY, f_ACT_EXCHANGE, f_prime, f_cellCount, f_room, f_phase, f_itemCount, f_size, f_pending, f_factor, f_work, f_openCount, f_openLoops, f_depth, f_loopDepth, f_faultItem, f_actCount, f_stepCount, f_cursor, f_hasTangent, f_flowDepth, a_inputs, a_weights, a_itemKind, a_itemArg, a_itemJump, a_openItem, a_openElse, a_openFactor, a_cells, a_stack, a_loopCounter, a_loopLimit, a_actCode, a_actLeft, a_actRight, a_stepItem, a_stepCell, a_stepOld, a_stepNew, a_stepEnd, a_adjoints, a_tangents, a_flow⟩ := u
  obtain ⟨f_p, f_n, g_room, g_phase, f_items, g_cursor, g_hasTangent, g_size, g_pending, g_factor, g_work, f_open, f_loops, f_steps, g_faultItem, f_nextItem, f_nextCell, f_top, a_kinds, a_args, g_inputs, g_weights, g_tangents, a_marks, a_cell, a_dcell, a_seen, a_val, a_der, a_start, a_counter, a_total⟩ := v
  exact h
theorem rr_in {k q n rm N : Nat} {f_STORE_CELL f_STORE_AT f_OPERATOR f_LOOP f_LOOP_BY f_IF f_ELSE f_END f_ACT_ZERO f_ACT_READ f_ACT_WRITE f_ACT_DROP f_ACT_COMBINE f_ACT_NEGATE f_ACT_COPY f_ACT_EXCHANGE f_phase f_depth f_loopDepth f_faultItem f_actCount f_stepCount f_cursor f_hasTangent f_flowDepth f_steps f_nextItem f_nextCell f_top g_cursor g_faultItem : Int32} {a_inputs a_weights a_itemKind a_itemArg a_itemJump a_openItem a_openElse a_openFactor a_cells a_stack a_loopCounter a_loopLimit a_actCode a_actLeft a_actRight a_stepItem a_stepCell a_stepOld a_stepNew a_stepEnd a_adjoints a_tangents a_flow a_marks a_cell a_dcell a_seen a_val a_der a_start a_counter a_total g_tangents : Nat → Int32} (F : rr_F q n rm N a_itemKind a_itemArg a_itemJump a_openItem a_openElse a_openFactor a_marks a_inputs a_weights f_phase f_hasTangent f_faultItem f_actCount f_stepCount f_cursor a_cells a_actCode a_actLeft a_actRight a_stepItem a_stepCell a_stepOld a_stepNew a_stepEnd a_adjoints a_tangents f_steps g_cursor g_faultItem g_tangents) : i_Rel k (f_STORE_CELL, f_STORE_AT, f_OPERATOR, f_LOOP, f_LOOP_BY, f_IF, f_ELSE, f_END, f_ACT_ZERO, f_ACT_READ, f_ACT_WRITE, f_ACT_DROP, f_ACT_COMBINE, f_ACT_NEGATE, f_ACT_COPY, f_ACT_EXCHANGE, nI (q + 1), nI n, nI rm, f_phase, nI N, nI (rs_sz a_itemKind N), nI (rs_pd a_itemKind a_itemArg N), rs_fac a_itemKind a_itemArg (rs_sk a_itemKind N), rs_wk a_itemKind a_itemArg N, nI (rs_sk a_itemKind N).length, nI (rs_lp a_itemKind (rs_sk a_itemKind N)).length, f_depth, f_loopDepth, f_faultItem, f_actCount, f_stepCount, f_cursor, f_hasTangent, f_flowDepth, a_inputs, a_weights, a_itemKind, a_itemArg, a_itemJump, a_openItem, a_openElse, a_openFactor, a_cells, a_stack, a_loopCounter, a_loopLimit, a_actCode, a_actLeft, a_actRight, a_stepItem, a_stepCell, a_stepOld, a_stepNew, a_stepEnd, a_adjoints, a_tangents, a_flow) (nI (q + 1), nI n, nI rm, f_phase, nI N, g_cursor, f_hasTangent, nI (rs_sz a_itemKind N), nI (rs_pd a_itemKind a_itemArg N), rs_fac a_itemKind a_itemArg (rs_sk a_itemKind N), rs_wk a_itemKind a_itemArg N, nI (rs_sk a_itemKind N).length, nI (rs_lp a_itemKind (rs_sk a_itemKind N)).length, f_steps, g_faultItem, f_nextItem, f_nextCell, f_top, a_itemKind, a_itemArg, a_inputs, a_weights, g_tangents, a_marks, a_cell, a_dcell, a_seen, a_val, a_der, a_start, a_counter, a_total) :=
  ⟨q, n, rm, N, ⟨rfl, rfl, rfl, rfl, rfl, rfl, rfl, rfl, rfl, rfl, rfl, rfl, rfl, rfl, rfl, rfl, rfl, rfl, rfl, rfl, rfl, rfl, rfl, rfl, rfl, rfl⟩, F⟩
theorem rr_el {P : SX → SY → Prop} {k : Nat} {u : SX} {v : SY}
    (h : ∀ (q n rm N : Nat) (f_STORE_CELL f_STORE_AT f_OPERATOR f_LOOP f_LOOP_BY f_IF f_ELSE f_END f_ACT_ZERO f_ACT_READ f_ACT_WRITE f_ACT_DROP f_ACT_COMBINE f_ACT_NEGATE f_ACT_COPY f_ACT_EXCHANGE f_phase f_depth f_loopDepth f_faultItem f_actCount f_stepCount f_cursor f_hasTangent f_flowDepth f_steps f_nextItem f_nextCell f_top g_cursor g_faultItem : Int32) (a_inputs a_weights a_itemKind a_itemArg a_itemJump a_openItem a_openElse a_openFactor a_cells a_stack a_loopCounter a_loopLimit a_actCode a_actLeft a_actRight a_stepItem a_stepCell a_stepOld a_stepNew a_stepEnd a_adjoints a_tangents a_flow a_marks a_cell a_dcell a_seen a_val a_der a_start a_counter a_total g_tangents : Nat → Int32), rr_F q n rm N a_itemKind a_itemArg a_itemJump a_openItem a_openElse a_openFactor a_marks a_inputs a_weights f_phase f_hasTangent f_faultItem f_actCount f_stepCount f_cursor a_cells a_actCode a_actLeft a_actRight a_stepItem a_stepCell a_stepOld a_stepNew a_stepEnd a_adjoints a_tangents f_steps g_cursor g_faultItem g_tangents → P (f_STORE_CELL, f_STORE_AT, f_OPERATOR, f_LOOP, f_LOOP_BY, f_IF, f_ELSE, f_END, f_ACT_ZERO, f_ACT_READ, f_ACT_WRITE, f_ACT_DROP, f_ACT_COMBINE, f_ACT_NEGATE, f_ACT_COPY, f_ACT_EXCHANGE, nI (q + 1), nI n, nI rm, f_phase, nI N, nI (rs_sz a_itemKind N), nI (rs_pd a_itemKind a_itemArg N), rs_fac a_itemKind a_itemArg (rs_sk a_itemKind N), rs_wk a_itemKind a_itemArg N, nI (rs_sk a_itemKind N).length, nI (rs_lp a_itemKind (rs_sk a_itemKind N)).length, f_depth, f_loopDepth, f_faultItem, f_actCount, f_stepCount, f_cursor, f_hasTangent, f_flowDepth, a_inputs, a_weights, a_itemKind, a_itemArg, a_itemJump, a_openItem, a_openElse, a_openFactor, a_cells, a_stack, a_loopCounter, a_loopLimit, a_actCode, a_actLeft, a_actRight, a_stepItem, a_stepCell, a_stepOld, a_stepNew, a_stepEnd, a_adjoints, a_tangents, a_flow) (nI (q + 1), nI n, nI rm, f_phase, nI N, g_cursor, f_hasTangent, nI (rs_sz a_itemKind N), nI (rs_pd a_itemKind a_itemArg N), rs_fac a_itemKind a_itemArg (rs_sk a_itemKind N), rs_wk a_itemKind a_itemArg N, nI (rs_sk a_itemKind N).length, nI (rs_lp a_itemKind (rs_sk a_itemKind N)).length, f_steps, g_faultItem, f_nextItem, f_nextCell, f_top, a_itemKind, a_itemArg, a_inputs, a_weights, g_tangents, a_marks, a_cell, a_dcell, a_seen, a_val, a_der, a_start, a_counter, a_total)) (I : i_Rel k u v) : P u v := by
  obtain ⟨f_STORE_CELL, f_STORE_AT, f_OPERATOR, f_LOOP, f_LOOP_BY, f_IF, f_ELSE, f_END, f_ACT_ZERO, f_ACT_READ, f_ACT_WRITE, f_ACT_DROP, f_ACT_COMBINE, f_ACT_NEGATE, f_ACT_COPY, f_ACT_EXCHANGE, f_prime, f_cellCount, f_room, f_phase, f_itemCount, f_size, f_pending, f_factor, f_work, f_openCount, f_openLoops, f_depth, f_loopDepth, f_faultItem, f_actCount, f_stepCount, f_cursor, f_hasTangent, f_flowDepth, a_inputs, a_weights, a_itemKind, a_itemArg, a_itemJump, a_openItem, a_openElse, a_openFactor, a_cells, a_stack, a_loopCounter, a_loopLimit, a_actCode, a_actLeft, a_actRight, a_stepItem, a_stepCell, a_stepOld, a_stepNew, a_stepEnd, a_adjoints, a_tangents, a_flow⟩ := u
  obtain ⟨f_p, f_n, g_room, g_phase, f_items, g_cursor, g_hasTangent, g_size, g_pending, g_factor, g_work, f_open, f_loops, f_steps, g_faultItem, f_nextItem, f_nextCell, f_top, a_kinds, a_args, g_inputs, g_weights, g_tangents, a_marks, a_cell, a_dcell, a_seen, a_val, a_der, a_start, a_counter, a_total⟩ := v
  obtain ⟨q, n, rm, N, ⟨e0, e1, e2, e3, e4, e5, e6, e7, e8, e9, e10, e11, e12, e13, e14, e15, e16, e17, e18, e19, e20, e21, e22, e23, e24, e25⟩, F⟩ := I
  subst e0; subst e1; subst e2; subst e3; subst e4; subst e5; subst e6; subst e7; subst e8; subst e9; subst e10; subst e11; subst e12; subst e13; subst e14; subst e15; subst e16; subst e17; subst e18; subst e19; subst e20; subst e21; subst e22; subst e23; subst e24; subst e25
  exact h q n rm N _ _ _ _ _ _ _ _ _ _ _ _ _ _ _ _ _ _ _ _ _ _ _ _ _ _ _ _ _ _ _ _ _ _ _ _ _ _ _ _ _ _ _ _ _ _ _ _ _ _ _ _ _ _ _ _ _ _ _ _ _ _ _ _ F
end
section
/-! the plain questions -/
theorem i_vc_input {k : Nat} {u : SX} {v : SY} (I : i_Rel k u v) (hk : k + 3 ≤ 1539) (v1 : Int32) : wpX_input (fun r => wpY_input (fun r' => r' = r ∧ i_Rel (k + 3) u v) v v1) u v1 := by
  refine rr_el (P := fun u v => wpX_input (fun r => wpY_input (fun r' => r' = r ∧ i_Rel (k + 3) u v) v v1) u v1) ?_ I
  intro q n rm N f_STORE_CELL f_STORE_AT f_OPERATOR f_LOOP f_LOOP_BY f_IF f_ELSE f_END f_ACT_ZERO f_ACT_READ f_ACT_WRITE f_ACT_DROP f_ACT_COMBINE f_ACT_NEGATE f_ACT_COPY f_ACT_EXCHANGE f_phase f_depth f_loopDepth f_faultItem f_actCount f_stepCount f_cursor f_hasTangent f_flowDepth f_steps f_nextItem f_nextCell f_top g_cursor g_faultItem a_inputs a_weights a_itemKind a_itemArg a_itemJump a_openItem a_openElse a_openFactor a_cells a_stack a_loopCounter a_loopLimit a_actCode a_actLeft a_actRight a_stepItem a_stepCell a_stepOld a_stepNew a_stepEnd a_adjoints a_tangents a_flow a_marks a_cell a_dcell a_seen a_val a_der a_start a_counter a_total g_tangents F
  have J : i_Rel (k + 3) (f_STORE_CELL, f_STORE_AT, f_OPERATOR, f_LOOP, f_LOOP_BY, f_IF, f_ELSE, f_END, f_ACT_ZERO, f_ACT_READ, f_ACT_WRITE, f_ACT_DROP, f_ACT_COMBINE, f_ACT_NEGATE, f_ACT_COPY, f_ACT_EXCHANGE, nI (q + 1), nI n, nI rm, f_phase, nI N, nI (rs_sz a_itemKind N), nI (rs_pd a_itemKind a_itemArg N), rs_fac a_itemKind a_itemArg (rs_sk a_itemKind N), rs_wk a_itemKind a_itemArg N, nI (rs_sk a_itemKind N).length, nI (rs_lp a_itemKind (rs_sk a_itemKind N)).length, f_depth, f_loopDepth, f_faultItem, f_actCount, f_stepCount, f_cursor, f_hasTangent, f_flowDepth, a_inputs, a_weights, a_itemKind, a_itemArg, a_itemJump, a_openItem, a_openElse, a_openFactor, a_cells, a_stack, a_loopCounter, a_loopLimit, a_actCode, a_actLeft, a_actRight, a_stepItem, a_stepCell, a_stepOld, a_stepNew, a_stepEnd, a_adjoints, a_tangents, a_flow) (nI (q + 1), nI n, nI rm, f_phase, nI N, g_cursor, f_hasTangent, nI (rs_sz a_itemKind N), nI (rs_pd a_itemKind a_itemArg N), rs_fac a_itemKind a_itemArg (rs_sk a_itemKind N), rs_wk a_itemKind a_itemArg N, nI (rs_sk a_itemKind N).length, nI (rs_lp a_itemKind (rs_sk a_itemKind N)).length, f_steps, g_faultItem, f_nextItem, f_nextCell, f_top, a_itemKind, a_itemArg, a_inputs, a_weights, g_tangents, a_marks, a_cell, a_dcell, a_seen, a_val, a_der, a_start, a_counter, a_total) := rr_in F
  obtain ⟨⟨hp, hn2, hn, hr1, hr2⟩, P, cI, cW, H⟩ := F
  have hq := (ra_pr_lt hp).1
  rcases pk_ix v1 (n := n) (by omega) with h | h | ⟨c, hc, rfl⟩
  · unfold wpX_input
    refine rx_isCell_f (Or.inl h) (br_t rfl ?_)
    unfold wpY_input
    exact ry_noCell_f (Or.inl h) (br_f (by decide) ⟨rfl, J⟩)
  · unfold wpX_input
    refine rx_isCell_f (Or.inr h) (br_t rfl ?_)
    unfold wpY_input
    exact ry_noCell_f (Or.inr h) (br_f (by decide) ⟨rfl, J⟩)
  · unfold wpX_input
    refine rx_isCell_t hc hn (br_f (by decide) ⟨vp_in_nI (by omega) (by decide), ?_⟩)
    unfold wpY_input
    exact ry_noCell_t hc hn (br_t rfl ⟨vp_in_nI (by omega) (by decide), rfl, J⟩)
theorem i_vc_weight {k : Nat} {u : SX} {v : SY} (I : i_Rel k u v) (hk : k + 3 ≤ 1539) (v1 : Int32) : wpX_weight (fun r => wpY_weight (fun r' => r' = r ∧ i_Rel (k + 3) u v) v v1) u v1 := by
  refine rr_el (P := fun u v => wpX_weight (fun r => wpY_weight (fun r' => r' = r ∧ i_Rel (k + 3) u v) v v1) u v1) ?_ I
  intro q n rm N f_STORE_CELL f_STORE_AT f_OPERATOR f_LOOP f_LOOP_BY f_IF f_ELSE f_END f_ACT_ZERO f_ACT_READ f_ACT_WRITE f_ACT_DROP f_ACT_COMBINE f_ACT_NEGATE f_ACT_COPY f_ACT_EXCHANGE f_phase f_depth f_loopDepth f_faultItem f_actCount f_stepCount f_cursor f_hasTangent f_flowDepth f_steps f_nextItem f_nextCell f_top g_cursor g_faultItem a_inputs a_weights a_itemKind a_itemArg a_itemJump a_openItem a_openElse a_openFactor a_cells a_stack a_loopCounter a_loopLimit a_actCode a_actLeft a_actRight a_stepItem a_stepCell a_stepOld a_stepNew a_stepEnd a_adjoints a_tangents a_flow a_marks a_cell a_dcell a_seen a_val a_der a_start a_counter a_total g_tangents F
  have J : i_Rel (k + 3) (f_STORE_CELL, f_STORE_AT, f_OPERATOR, f_LOOP, f_LOOP_BY, f_IF, f_ELSE, f_END, f_ACT_ZERO, f_ACT_READ, f_ACT_WRITE, f_ACT_DROP, f_ACT_COMBINE, f_ACT_NEGATE, f_ACT_COPY, f_ACT_EXCHANGE, nI (q + 1), nI n, nI rm, f_phase, nI N, nI (rs_sz a_itemKind N), nI (rs_pd a_itemKind a_itemArg N), rs_fac a_itemKind a_itemArg (rs_sk a_itemKind N), rs_wk a_itemKind a_itemArg N, nI (rs_sk a_itemKind N).length, nI (rs_lp a_itemKind (rs_sk a_itemKind N)).length, f_depth, f_loopDepth, f_faultItem, f_actCount, f_stepCount, f_cursor, f_hasTangent, f_flowDepth, a_inputs, a_weights, a_itemKind, a_itemArg, a_itemJump, a_openItem, a_openElse, a_openFactor, a_cells, a_stack, a_loopCounter, a_loopLimit, a_actCode, a_actLeft, a_actRight, a_stepItem, a_stepCell, a_stepOld, a_stepNew, a_stepEnd, a_adjoints, a_tangents, a_flow) (nI (q + 1), nI n, nI rm, f_phase, nI N, g_cursor, f_hasTangent, nI (rs_sz a_itemKind N), nI (rs_pd a_itemKind a_itemArg N), rs_fac a_itemKind a_itemArg (rs_sk a_itemKind N), rs_wk a_itemKind a_itemArg N, nI (rs_sk a_itemKind N).length, nI (rs_lp a_itemKind (rs_sk a_itemKind N)).length, f_steps, g_faultItem, f_nextItem, f_nextCell, f_top, a_itemKind, a_itemArg, a_inputs, a_weights, g_tangents, a_marks, a_cell, a_dcell, a_seen, a_val, a_der, a_start, a_counter, a_total) := rr_in F
  obtain ⟨⟨hp, hn2, hn, hr1, hr2⟩, P, cI, cW, H⟩ := F
  have hq := (ra_pr_lt hp).1
  rcases pk_ix v1 (n := n) (by omega) with h | h | ⟨c, hc, rfl⟩
  · unfold wpX_weight
    refine rx_isCell_f (Or.inl h) (br_t rfl ?_)
    unfold wpY_weight
    exact ry_noCell_f (Or.inl h) (br_f (by decide) ⟨rfl, J⟩)
  · unfold wpX_weight
    refine rx_isCell_f (Or.inr h) (br_t rfl ?_)
    unfold wpY_weight
    exact ry_noCell_f (Or.inr h) (br_f (by decide) ⟨rfl, J⟩)
  · unfold wpX_weight
    refine rx_isCell_t hc hn (br_f (by decide) ⟨vp_in_nI (by omega) (by decide), ?_⟩)
    unfold wpY_weight
    exact ry_noCell_t hc hn (br_t rfl ⟨vp_in_nI (by omega) (by decide), rfl, J⟩)
theorem i_vc_item {k : Nat} {u : SX} {v : SY} (I : i_Rel k u v) (hk : k + 3 ≤ 1539) (v1 : Int32) : wpX_item (fun r => wpY_item (fun r' => r' = r ∧ i_Rel (k + 3) u v) v v1) u v1 := by
  refine rr_el (P := fun u v => wpX_item (fun r => wpY_item (fun r' => r' = r ∧ i_Rel (k + 3) u v) v v1) u v1) ?_ I
  intro q n rm N f_STORE_CELL f_STORE_AT f_OPERATOR f_LOOP f_LOOP_BY f_IF f_ELSE f_END f_ACT_ZERO f_ACT_READ f_ACT_WRITE f_ACT_DROP f_ACT_COMBINE f_ACT_NEGATE f_ACT_COPY f_ACT_EXCHANGE f_phase f_depth f_loopDepth f_faultItem f_actCount f_stepCount f_cursor f_hasTangent f_flowDepth f_steps f_nextItem f_nextCell f_top g_cursor g_faultItem a_inputs a_weights a_itemKind a_itemArg a_itemJump a_openItem a_openElse a_openFactor a_cells a_stack a_loopCounter a_loopLimit a_actCode a_actLeft a_actRight a_stepItem a_stepCell a_stepOld a_stepNew a_stepEnd a_adjoints a_tangents a_flow a_marks a_cell a_dcell a_seen a_val a_der a_start a_counter a_total g_tangents F
  have J : i_Rel (k + 3) (f_STORE_CELL, f_STORE_AT, f_OPERATOR, f_LOOP, f_LOOP_BY, f_IF, f_ELSE, f_END, f_ACT_ZERO, f_ACT_READ, f_ACT_WRITE, f_ACT_DROP, f_ACT_COMBINE, f_ACT_NEGATE, f_ACT_COPY, f_ACT_EXCHANGE, nI (q + 1), nI n, nI rm, f_phase, nI N, nI (rs_sz a_itemKind N), nI (rs_pd a_itemKind a_itemArg N), rs_fac a_itemKind a_itemArg (rs_sk a_itemKind N), rs_wk a_itemKind a_itemArg N, nI (rs_sk a_itemKind N).length, nI (rs_lp a_itemKind (rs_sk a_itemKind N)).length, f_depth, f_loopDepth, f_faultItem, f_actCount, f_stepCount, f_cursor, f_hasTangent, f_flowDepth, a_inputs, a_weights, a_itemKind, a_itemArg, a_itemJump, a_openItem, a_openElse, a_openFactor, a_cells, a_stack, a_loopCounter, a_loopLimit, a_actCode, a_actLeft, a_actRight, a_stepItem, a_stepCell, a_stepOld, a_stepNew, a_stepEnd, a_adjoints, a_tangents, a_flow) (nI (q + 1), nI n, nI rm, f_phase, nI N, g_cursor, f_hasTangent, nI (rs_sz a_itemKind N), nI (rs_pd a_itemKind a_itemArg N), rs_fac a_itemKind a_itemArg (rs_sk a_itemKind N), rs_wk a_itemKind a_itemArg N, nI (rs_sk a_itemKind N).length, nI (rs_lp a_itemKind (rs_sk a_itemKind N)).length, f_steps, g_faultItem, f_nextItem, f_nextCell, f_top, a_itemKind, a_itemArg, a_inputs, a_weights, g_tangents, a_marks, a_cell, a_dcell, a_seen, a_val, a_der, a_start, a_counter, a_total) := rr_in F
  obtain ⟨⟨hp, hn2, hn, hr1, hr2⟩, P, cI, cW, H⟩ := F
  have hq := (ra_pr_lt hp).1
  have hN : N ≤ 128 := by have := P.2.2.1; have := P.2.2.2.1; omega
  rcases pk_ix v1 (n := N) (by omega) with h | h | ⟨c, hc, rfl⟩
  · exact br_t h (br_t h ⟨rfl, J⟩)
  · have h0 : ¬ v1 < 0 := fun z => absurd (Int32.lt_of_lt_of_le z (nI_pos' (n := N) (by omega))) (Int32.not_lt.mpr h)
    have h1 : ¬ v1 < nI N := Int32.not_lt.mpr h
    exact br_f h0 (br_f h1 (br_f h0 (br_f h1 ⟨rfl, J⟩)))
  · have h0 : ¬ nI c < 0 := nI_pos (by omega)
    have h1 : nI c < nI N := nI_lt hc (by omega)
    have hi : vp_in (nI c) 128 := vp_in_nI (by omega) (by decide)
    exact br_f h0 (br_t h1 ⟨hi, hi, br_f h0 (br_t h1 ⟨hi, hi, rfl, J⟩)⟩)
theorem i_vc_tangent {k : Nat} {u : SX} {v : SY} (I : i_Rel k u v) (hk : k + 3 ≤ 1539) (v1 : Int32) : wpX_tangent (fun r => wpY_tangent (fun r' => r' = r ∧ i_Rel (k + 3) u v) v v1) u v1 := by
  refine rr_el (P := fun u v => wpX_tangent (fun r => wpY_tangent (fun r' => r' = r ∧ i_Rel (k + 3) u v) v v1) u v1) ?_ I
  intro q n rm N f_STORE_CELL f_STORE_AT f_OPERATOR f_LOOP f_LOOP_BY f_IF f_ELSE f_END f_ACT_ZERO f_ACT_READ f_ACT_WRITE f_ACT_DROP f_ACT_COMBINE f_ACT_NEGATE f_ACT_COPY f_ACT_EXCHANGE f_phase f_depth f_loopDepth f_faultItem f_actCount f_stepCount f_cursor f_hasTangent f_flowDepth f_steps f_nextItem f_nextCell f_top g_cursor g_faultItem a_inputs a_weights a_itemKind a_itemArg a_itemJump a_openItem a_openElse a_openFactor a_cells a_stack a_loopCounter a_loopLimit a_actCode a_actLeft a_actRight a_stepItem a_stepCell a_stepOld a_stepNew a_stepEnd a_adjoints a_tangents a_flow a_marks a_cell a_dcell a_seen a_val a_der a_start a_counter a_total g_tangents F
  have J : i_Rel (k + 3) (f_STORE_CELL, f_STORE_AT, f_OPERATOR, f_LOOP, f_LOOP_BY, f_IF, f_ELSE, f_END, f_ACT_ZERO, f_ACT_READ, f_ACT_WRITE, f_ACT_DROP, f_ACT_COMBINE, f_ACT_NEGATE, f_ACT_COPY, f_ACT_EXCHANGE, nI (q + 1), nI n, nI rm, f_phase, nI N, nI (rs_sz a_itemKind N), nI (rs_pd a_itemKind a_itemArg N), rs_fac a_itemKind a_itemArg (rs_sk a_itemKind N), rs_wk a_itemKind a_itemArg N, nI (rs_sk a_itemKind N).length, nI (rs_lp a_itemKind (rs_sk a_itemKind N)).length, f_depth, f_loopDepth, f_faultItem, f_actCount, f_stepCount, f_cursor, f_hasTangent, f_flowDepth, a_inputs, a_weights, a_itemKind, a_itemArg, a_itemJump, a_openItem, a_openElse, a_openFactor, a_cells, a_stack, a_loopCounter, a_loopLimit, a_actCode, a_actLeft, a_actRight, a_stepItem, a_stepCell, a_stepOld, a_stepNew, a_stepEnd, a_adjoints, a_tangents, a_flow) (nI (q + 1), nI n, nI rm, f_phase, nI N, g_cursor, f_hasTangent, nI (rs_sz a_itemKind N), nI (rs_pd a_itemKind a_itemArg N), rs_fac a_itemKind a_itemArg (rs_sk a_itemKind N), rs_wk a_itemKind a_itemArg N, nI (rs_sk a_itemKind N).length, nI (rs_lp a_itemKind (rs_sk a_itemKind N)).length, f_steps, g_faultItem, f_nextItem, f_nextCell, f_top, a_itemKind, a_itemArg, a_inputs, a_weights, g_tangents, a_marks, a_cell, a_dcell, a_seen, a_val, a_der, a_start, a_counter, a_total) := rr_in F
  obtain ⟨⟨hp, hn2, hn, hr1, hr2⟩, P, cI, cW, H⟩ := F
  have hq := (ra_pr_lt hp).1
  by_cases h2 : f_phase = 2
  · rcases H with ⟨z, _⟩ | ⟨z, _⟩ | ⟨_, hs, ht, _⟩ | ⟨z, _⟩
    · rw [z] at h2; exact absurd h2 (by decide)
    · rw [z] at h2; exact absurd h2 (by decide)
    · rcases ht with ht | ⟨ht, he⟩
      · exact br_t h2 (br_t ht (br_t ht ⟨rfl, J⟩))
      · have h1 : ¬ f_hasTangent = 0 := by rw [ht]; decide
        rcases pk_ix v1 (n := n) (by omega) with h | h | ⟨c, hc, rfl⟩
        · exact br_t h2 (br_f h1 (rx_isCell_f (Or.inl h) (br_t rfl (br_f h1 (ry_noCell_f (Or.inl h) (br_f (by decide) ⟨rfl, J⟩))))))
        · exact br_t h2 (br_f h1 (rx_isCell_f (Or.inr h) (br_t rfl (br_f h1 (ry_noCell_f (Or.inr h) (br_f (by decide) ⟨rfl, J⟩))))))
        · have e : g_tangents (nI c).toNatClampNeg = a_tangents (nI c).toNatClampNeg := by rw [nI_clamp (by omega)]; exact (he c hc).symm
          exact br_t h2 (br_f h1 (rx_isCell_t hc hn (br_f (by decide) ⟨vp_in_nI (by omega) (by decide), br_f h1 (ry_noCell_t hc hn (br_t rfl ⟨vp_in_nI (by omega) (by decide), e, J⟩))⟩)))
    · rw [z] at h2; exact absurd h2 (by decide)
  · have h0 : f_hasTangent = 0 := by
      rcases H with ⟨_, z⟩ | ⟨_, z, _⟩ | ⟨z, _⟩ | ⟨_, z, _⟩
      · exact z
      · exact z
      · exact absurd z h2
      · exact z
    exact br_f h2 (br_t h0 ⟨rfl, J⟩)
theorem i_vc_seal {k : Nat} {u : SX} {v : SY} (I : i_Rel k u v) (hk : k + 3 ≤ 1539) : wpX_seal (fun r u' => wpY_seal (fun r' v' => r' = r ∧ i_Rel (k + 3) u' v') v) u := by
  refine rr_el (P := fun u v => wpX_seal (fun r u' => wpY_seal (fun r' v' => r' = r ∧ i_Rel (k + 3) u' v') v) u) ?_ I
  intro q n rm N f_STORE_CELL f_STORE_AT f_OPERATOR f_LOOP f_LOOP_BY f_IF f_ELSE f_END f_ACT_ZERO f_ACT_READ f_ACT_WRITE f_ACT_DROP f_ACT_COMBINE f_ACT_NEGATE f_ACT_COPY f_ACT_EXCHANGE f_phase f_depth f_loopDepth f_faultItem f_actCount f_stepCount f_cursor f_hasTangent f_flowDepth f_steps f_nextItem f_nextCell f_top g_cursor g_faultItem a_inputs a_weights a_itemKind a_itemArg a_itemJump a_openItem a_openElse a_openFactor a_cells a_stack a_loopCounter a_loopLimit a_actCode a_actLeft a_actRight a_stepItem a_stepCell a_stepOld a_stepNew a_stepEnd a_adjoints a_tangents a_flow a_marks a_cell a_dcell a_seen a_val a_der a_start a_counter a_total g_tangents F
  have J : i_Rel (k + 3) (f_STORE_CELL, f_STORE_AT, f_OPERATOR, f_LOOP, f_LOOP_BY, f_IF, f_ELSE, f_END, f_ACT_ZERO, f_ACT_READ, f_ACT_WRITE, f_ACT_DROP, f_ACT_COMBINE, f_ACT_NEGATE, f_ACT_COPY, f_ACT_EXCHANGE, nI (q + 1), nI n, nI rm, f_phase, nI N, nI (rs_sz a_itemKind N), nI (rs_pd a_itemKind a_itemArg N), rs_fac a_itemKind a_itemArg (rs_sk a_itemKind N), rs_wk a_itemKind a_itemArg N, nI (rs_sk a_itemKind N).length, nI (rs_lp a_itemKind (rs_sk a_itemKind N)).length, f_depth, f_loopDepth, f_faultItem, f_actCount, f_stepCount, f_cursor, f_hasTangent, f_flowDepth, a_inputs, a_weights, a_itemKind, a_itemArg, a_itemJump, a_openItem, a_openElse, a_openFactor, a_cells, a_stack, a_loopCounter, a_loopLimit, a_actCode, a_actLeft, a_actRight, a_stepItem, a_stepCell, a_stepOld, a_stepNew, a_stepEnd, a_adjoints, a_tangents, a_flow) (nI (q + 1), nI n, nI rm, f_phase, nI N, g_cursor, f_hasTangent, nI (rs_sz a_itemKind N), nI (rs_pd a_itemKind a_itemArg N), rs_fac a_itemKind a_itemArg (rs_sk a_itemKind N), rs_wk a_itemKind a_itemArg N, nI (rs_sk a_itemKind N).length, nI (rs_lp a_itemKind (rs_sk a_itemKind N)).length, f_steps, g_faultItem, f_nextItem, f_nextCell, f_top, a_itemKind, a_itemArg, a_inputs, a_weights, g_tangents, a_marks, a_cell, a_dcell, a_seen, a_val, a_der, a_start, a_counter, a_total) := rr_in F
  obtain ⟨⟨hp, hn2, hn, hr1, hr2⟩, P, cI, cW, H⟩ := F
  have hq := (ra_pr_lt hp).1
  have p0 : rs_pd a_itemKind a_itemArg N ≤ 8 := rs_pd8 N P.1
  have l6 := rs_len N P.1
  by_cases h0 : f_phase = 0
  · refine br_t h0 (pk_eq (rs_pd a_itemKind a_itemArg N) 0 (fun e1 => ?_) (fun e1 => ?_))
    · refine pk_eq (rs_sk a_itemKind N).length 0 (fun e2 => ?_) (fun e2 => ?_)
      · refine br_t h0 (br_t (by rw [e1]; rfl) (br_t (by rw [e2]; decide) ⟨rfl, ?_⟩))
        refine rr_in ⟨⟨hp, hn2, hn, hr1, hr2⟩, P, cI, cW, ?_⟩
        rcases H with ⟨_, z⟩ | ⟨z, _⟩ | ⟨z, _⟩ | ⟨z, _⟩
        · exact Or.inr (Or.inl ⟨rfl, z, List.eq_nil_of_length_eq_zero e2⟩)
        · rw [z] at h0; exact absurd h0 (by decide)
        · rw [z] at h0; exact absurd h0 (by decide)
        · rw [z] at h0; exact absurd h0 (by decide)
      · exact br_t h0 (br_t (by rw [e1]; rfl) (br_f (nI_nle (by omega) (by omega)) ⟨rfl, J⟩))
    · exact br_t h0 (br_f (nI_ne0 (by omega) (by omega)) ⟨rfl, J⟩)
  · exact br_f h0 (br_f h0 ⟨rfl, J⟩)
end
section
/-! the constructors, clear -/
theorem rr_cl (x : Int32) {lo hi : Nat} (h : lo ≤ hi) (hh : hi < 2 ^ 31) : ∃ c, lo ≤ c ∧ c ≤ hi ∧ ((nI lo ≤ x ∧ x ≤ nI hi ∧ x = nI c) ∨ (nI lo ≤ x ∧ ¬ x ≤ nI hi ∧ c = hi) ∨ (¬ nI lo ≤ x ∧ c = lo)) := by
  by_cases h1 : nI lo ≤ x
  · by_cases h2 : x ≤ nI hi
    · have h0 : ¬ x < 0 := Int32.not_lt.mpr (Int32.le_trans (nI_pos' (n := lo) (by omega)) h1)
      obtain ⟨j, hj, rfl⟩ := nI_of h0
      rw [nI_leI (by omega) hj] at h1
      rw [nI_leI hj (by omega)] at h2
      exact ⟨j, h1, h2, Or.inl ⟨nI_le h1 hj, nI_le h2 hh, rfl⟩⟩
    · exact ⟨hi, h, Nat.le_refl _, Or.inr (Or.inl ⟨h1, h2, rfl⟩)⟩
  · exact ⟨lo, Nat.le_refl _, h, Or.inr (Or.inr ⟨h1, rfl⟩)⟩
section
variable {f_STORE_CELL f_STORE_AT f_OPERATOR f_LOOP f_LOOP_BY f_IF f_ELSE f_END f_ACT_ZERO f_ACT_READ f_ACT_WRITE f_ACT_DROP f_ACT_COMBINE f_ACT_NEGATE f_ACT_COPY f_ACT_EXCHANGE f_prime f_cellCount f_room f_phase f_itemCount f_size f_pending f_factor f_work f_openCount f_openLoops f_depth f_loopDepth f_faultItem f_actCount f_stepCount f_cursor f_hasTangent f_flowDepth : Int32} {a_inputs a_weights a_itemKind a_itemArg a_itemJump a_openItem a_openElse a_openFactor a_cells a_stack a_loopCounter a_loopLimit a_actCode a_actLeft a_actRight a_stepItem a_stepCell a_stepOld a_stepNew a_stepEnd a_adjoints a_tangents a_flow : Nat → Int32}
theorem rx_clamp {post : Int32 → Prop} {x : Int32} {lo hi c : Nat} (h : ((nI lo ≤ x ∧ x ≤ nI hi ∧ x = nI c) ∨ (nI lo ≤ x ∧ ¬ x ≤ nI hi ∧ c = hi) ∨ (¬ nI lo ≤ x ∧ c = lo))) (K : post (nI c)) : wpX_clamp post (f_STORE_CELL, f_STORE_AT, f_OPERATOR, f_LOOP, f_LOOP_BY, f_IF, f_ELSE, f_END, f_ACT_ZERO, f_ACT_READ, f_ACT_WRITE, f_ACT_DROP, f_ACT_COMBINE, f_ACT_NEGATE, f_ACT_COPY, f_ACT_EXCHANGE, f_prime, f_cellCount, f_room, f_phase, f_itemCount, f_size, f_pending, f_factor, f_work, f_openCount, f_openLoops, f_depth, f_loopDepth, f_faultItem, f_actCount, f_stepCount, f_cursor, f_hasTangent, f_flowDepth, a_inputs, a_weights, a_itemKind, a_itemArg, a_itemJump, a_openItem, a_openElse, a_openFactor, a_cells, a_stack, a_loopCounter, a_loopLimit, a_actCode, a_actLeft, a_actRight, a_stepItem, a_stepCell, a_stepOld, a_stepNew, a_stepEnd, a_adjoints, a_tangents, a_flow) x (nI lo) (nI hi) := by
  rcases h with ⟨h1, h2, h3⟩ | ⟨h1, h2, h3⟩ | ⟨h1, h3⟩
  · rw [← h3] at K; exact br_t h1 (br_t h2 K)
  · rw [h3] at K; exact br_t h1 (br_f h2 K)
  · rw [h3] at K; exact br_f h1 K
end
section
variable {f_p f_n f_room f_phase f_items f_cursor f_hasTangent f_size f_pending f_factor f_work f_open f_loops f_steps f_faultItem f_nextItem f_nextCell f_top : Int32} {a_kinds a_args a_inputs a_weights a_tangents a_marks a_cell a_dcell a_seen a_val a_der a_start a_counter a_total : Nat → Int32}
theorem ry_i176 {post : SY → Prop} {x z0 : Int32} {c : Nat} (h : ((nI 16 ≤ x ∧ x ≤ nI 128 ∧ x = nI c) ∨ (nI 16 ≤ x ∧ ¬ x ≤ nI 128 ∧ c = 128) ∨ (¬ nI 16 ≤ x ∧ c = 16))) (K : wY_init_205 post (nI c) z0 f_n f_room f_phase f_items f_cursor f_hasTangent f_size f_pending f_factor f_work f_open f_loops f_steps f_faultItem f_nextItem f_nextCell f_top a_kinds a_args a_inputs a_weights a_tangents a_marks a_cell a_dcell a_seen a_val a_der a_start a_counter a_total) : wY_init_176 post x z0 f_p f_n f_room f_phase f_items f_cursor f_hasTangent f_size f_pending f_factor f_work f_open f_loops f_steps f_faultItem f_nextItem f_nextCell f_top a_kinds a_args a_inputs a_weights a_tangents a_marks a_cell a_dcell a_seen a_val a_der a_start a_counter a_total := by
  rcases h with ⟨h1, h2, h3⟩ | ⟨h1, h2, h3⟩ | ⟨h1, h3⟩
  · rw [← h3] at K; exact br_t h1 (br_t h2 K)
  · rw [h3] at K; exact br_t h1 (br_f h2 K)
  · rw [h3] at K; exact br_f h1 K
end
theorem i_vc0 (k0 : Int32) (k1 : Int32) (k2 : Int32) : wpX_init (fun u => wpY_init (fun v => i_Rel 3 u v) k0 k1 k2) k0 k1 k2 := by
  obtain ⟨n, n2, n8, tn⟩ := rr_cl k0 (lo := 2) (hi := 8) (by decide) (by decide)
  obtain ⟨rm, r16, r128, tr⟩ := rr_cl k2 (lo := 16) (hi := 128) (by decide) (by decide)
  obtain ⟨ch, c0, c3, tc⟩ := rr_cl k1 (lo := 0) (hi := 3) (by decide) (by decide)
  unfold wpX_init
  refine rx_clamp tn ?_
  refine rx_clamp tr ?_
  refine rx_clamp tc ?_
  have fin : ∀ q, ra_pr q → ∀ z : Int32, z = nI (q + 1) → (∀ post : SY → Prop, wY_init_176 post k2 z (0 : Int32) (nI n) 0 0 0 0 0 0 0 0 0 0 0 0 0 0 0 0 (fun _ => 0) (fun _ => 0) (fun _ => 0) (fun _ => 0) (fun _ => 0) (fun _ => 0) (fun _ => 0) (fun _ => 0) (fun _ => 0) (fun _ => 0) (fun _ => 0) (fun _ => 0) (fun _ => 0) (fun _ => 0) → wpY_init post k0 k1 k2) →
      wpY_init (fun v => i_Rel 3 (4, 5, 6, 7, 8, 9, 10, 11, 0, 1, 2, 3, 4, 5, 6, 7, nI (q + 1), nI n, nI rm, 0, 0, 0, 0, 1, 0, 0, 0, 0, 0, (-1), 0, 0, 0, 0, 0, (fun _ => 0), (fun _ => 0), (fun _ => 0), (fun _ => 0), (fun _ => 0), (fun _ => 0), (fun _ => 0), (fun _ => 0), (fun _ => 0), (fun _ => 0), (fun _ => 0), (fun _ => 0), (fun _ => 0), (fun _ => 0), (fun _ => 0), (fun _ => 0), (fun _ => 0), (fun _ => 0), (fun _ => 0), (fun _ => 0), (fun _ => 0), (fun _ => 0), (fun _ => 0)) v) k0 k1 k2 := by
    intro q hp z ez hy
    refine hy _ (ry_i176 tr ?_)
    rw [ez]
    unfold wY_init_205
    refine ry_scan (q := q) (n := n) (N := 0) (by decide) (fun i hi => absurd hi (Nat.not_lt_zero i)) (fun ma _ => ?_)
    refine rr_in (N := 0) ⟨⟨hp, n2, n8, r16, r128⟩, ⟨fun i hi => absurd hi (Nat.not_lt_zero i), rs_JW0 _ _, Nat.le_refl 0, Nat.zero_le _, True.intro, True.intro, True.intro, True.intro, show (0 : Int32) ≤ 1024 by decide⟩, fun i _ => ra_Cn_0 q, fun i _ => ra_Cn_0 q, Or.inl ⟨rfl, rfl⟩⟩
  have top : ∀ post : SY → Prop, wY_init_140 post k1 k2 (nI n) (0 : Int32) 0 0 0 0 0 0 0 0 0 0 0 0 0 0 0 0 0 (fun _ => 0) (fun _ => 0) (fun _ => 0) (fun _ => 0) (fun _ => 0) (fun _ => 0) (fun _ => 0) (fun _ => 0) (fun _ => 0) (fun _ => 0) (fun _ => 0) (fun _ => 0) (fun _ => 0) (fun _ => 0) → wpY_init post k0 k1 k2 := by
    intro post K
    rcases tn with ⟨h1, h2, h3⟩ | ⟨h1, h2, h3⟩ | ⟨h1, h3⟩
    · rw [← h3] at K; exact br_t h1 (br_t h2 K)
    · rw [h3] at K; exact br_t h1 (br_f h2 K)
    · rw [h3] at K; exact br_f h1 K
  rcases (show ch = 0 ∨ ch = 1 ∨ ch = 2 ∨ ch = 3 by omega) with rfl | rfl | rfl | rfl
  · refine br_t rfl (fin 4 (Or.inl rfl) 5 rfl (fun post K => top post (br_f ?_ K)))
    rcases tc with ⟨h1, h2, h3⟩ | ⟨h1, h2, h3⟩ | ⟨h1, h3⟩
    · rw [h3]; decide
    · omega
    · exact fun z => h1 (Int32.le_of_lt z)
  · refine br_f (by decide) (br_t rfl (fin 12 (Or.inr (Or.inl rfl)) 13 rfl (fun post K => top post ?_)))
    rcases tc with ⟨h1, h2, h3⟩ | ⟨h1, h2, h3⟩ | ⟨h1, h3⟩
    · exact br_t (by rw [h3]; decide) (br_t h3 K)
    · omega
    · omega
  · refine br_f (by decide) (br_f (by decide) (br_t rfl (fin 250 (Or.inr (Or.inr (Or.inl rfl))) 251 rfl (fun post K => top post ?_))))
    rcases tc with ⟨h1, h2, h3⟩ | ⟨h1, h2, h3⟩ | ⟨h1, h3⟩
    · exact br_t (by rw [h3]; decide) (br_f (by rw [h3]; decide) (br_t h3 K))
    · omega
    · omega
  · refine br_f (by decide) (br_f (by decide) (br_f (by decide) (fin 32748 (Or.inr (Or.inr (Or.inr rfl))) 32749 rfl (fun post K => top post ?_))))
    rcases tc with ⟨h1, h2, h3⟩ | ⟨h1, h2, h3⟩ | ⟨h1, h3⟩
    · exact br_t (by rw [h3]; decide) (br_f (by rw [h3]; decide) (br_f (by rw [h3]; decide) K))
    · have g : (3 : Int32) < k1 := Int32.not_le.mp h2
      exact br_t (Int32.lt_trans (by decide) g) (br_f (fun z => by rw [z] at g; exact absurd g (by decide)) (br_f (fun z => by rw [z] at g; exact absurd g (by decide)) K))
    · omega
theorem i_vc_clear {k : Nat} {u : SX} {v : SY} (I : i_Rel k u v) (hk : k + 3 ≤ 1539) : wpX_clear (fun u' => wpY_clear (fun v' => i_Rel (k + 3) u' v') v) u := by
  refine rr_el (P := fun u v => wpX_clear (fun u' => wpY_clear (fun v' => i_Rel (k + 3) u' v') v) u) ?_ I
  intro q n rm N f_STORE_CELL f_STORE_AT f_OPERATOR f_LOOP f_LOOP_BY f_IF f_ELSE f_END f_ACT_ZERO f_ACT_READ f_ACT_WRITE f_ACT_DROP f_ACT_COMBINE f_ACT_NEGATE f_ACT_COPY f_ACT_EXCHANGE f_phase f_depth f_loopDepth f_faultItem f_actCount f_stepCount f_cursor f_hasTangent f_flowDepth f_steps f_nextItem f_nextCell f_top g_cursor g_faultItem a_inputs a_weights a_itemKind a_itemArg a_itemJump a_openItem a_openElse a_openFactor a_cells a_stack a_loopCounter a_loopLimit a_actCode a_actLeft a_actRight a_stepItem a_stepCell a_stepOld a_stepNew a_stepEnd a_adjoints a_tangents a_flow a_marks a_cell a_dcell a_seen a_val a_der a_start a_counter a_total g_tangents F
  have J : i_Rel (k + 3) (f_STORE_CELL, f_STORE_AT, f_OPERATOR, f_LOOP, f_LOOP_BY, f_IF, f_ELSE, f_END, f_ACT_ZERO, f_ACT_READ, f_ACT_WRITE, f_ACT_DROP, f_ACT_COMBINE, f_ACT_NEGATE, f_ACT_COPY, f_ACT_EXCHANGE, nI (q + 1), nI n, nI rm, f_phase, nI N, nI (rs_sz a_itemKind N), nI (rs_pd a_itemKind a_itemArg N), rs_fac a_itemKind a_itemArg (rs_sk a_itemKind N), rs_wk a_itemKind a_itemArg N, nI (rs_sk a_itemKind N).length, nI (rs_lp a_itemKind (rs_sk a_itemKind N)).length, f_depth, f_loopDepth, f_faultItem, f_actCount, f_stepCount, f_cursor, f_hasTangent, f_flowDepth, a_inputs, a_weights, a_itemKind, a_itemArg, a_itemJump, a_openItem, a_openElse, a_openFactor, a_cells, a_stack, a_loopCounter, a_loopLimit, a_actCode, a_actLeft, a_actRight, a_stepItem, a_stepCell, a_stepOld, a_stepNew, a_stepEnd, a_adjoints, a_tangents, a_flow) (nI (q + 1), nI n, nI rm, f_phase, nI N, g_cursor, f_hasTangent, nI (rs_sz a_itemKind N), nI (rs_pd a_itemKind a_itemArg N), rs_fac a_itemKind a_itemArg (rs_sk a_itemKind N), rs_wk a_itemKind a_itemArg N, nI (rs_sk a_itemKind N).length, nI (rs_lp a_itemKind (rs_sk a_itemKind N)).length, f_steps, g_faultItem, f_nextItem, f_nextCell, f_top, a_itemKind, a_itemArg, a_inputs, a_weights, g_tangents, a_marks, a_cell, a_dcell, a_seen, a_val, a_der, a_start, a_counter, a_total) := rr_in F
  obtain ⟨⟨hp, hn2, hn, hr1, hr2⟩, P, cI, cW, H⟩ := F
  have hq := (ra_pr_lt hp).1
  unfold wpX_clear wpX_discardRun
  show wpY_clear _ _
  unfold wpY_clear
  refine ry_scan (q := q) (n := n) (N := 0) (by decide) (fun i hi => absurd hi (Nat.not_lt_zero i)) (fun ma _ => ?_)
  exact rr_in (N := 0) ⟨⟨hp, hn2, hn, hr1, hr2⟩, ⟨fun i hi => absurd hi (Nat.not_lt_zero i), rs_JW0 _ _, Nat.le_refl 0, Nat.zero_le _, True.intro, True.intro, True.intro, True.intro, show (0 : Int32) ≤ 1024 by decide⟩, cI, cW, Or.inl ⟨rfl, rfl⟩⟩
theorem i_vc_setInput {k : Nat} {u : SX} {v : SY} (I : i_Rel k u v) (hk : k + 3 ≤ 1539) (v1 : Int32) (v2 : Int32) : wpX_setInput (fun r u' => wpY_setInput (fun r' v' => r' = r ∧ i_Rel (k + 3) u' v') v v1 v2) u v1 v2 := by
  refine rr_el (P := fun u v => wpX_setInput (fun r u' => wpY_setInput (fun r' v' => r' = r ∧ i_Rel (k + 3) u' v') v v1 v2) u v1 v2) ?_ I
  intro q n rm N f_STORE_CELL f_STORE_AT f_OPERATOR f_LOOP f_LOOP_BY f_IF f_ELSE f_END f_ACT_ZERO f_ACT_READ f_ACT_WRITE f_ACT_DROP f_ACT_COMBINE f_ACT_NEGATE f_ACT_COPY f_ACT_EXCHANGE f_phase f_depth f_loopDepth f_faultItem f_actCount f_stepCount f_cursor f_hasTangent f_flowDepth f_steps f_nextItem f_nextCell f_top g_cursor g_faultItem a_inputs a_weights a_itemKind a_itemArg a_itemJump a_openItem a_openElse a_openFactor a_cells a_stack a_loopCounter a_loopLimit a_actCode a_actLeft a_actRight a_stepItem a_stepCell a_stepOld a_stepNew a_stepEnd a_adjoints a_tangents a_flow a_marks a_cell a_dcell a_seen a_val a_der a_start a_counter a_total g_tangents F
  have J : i_Rel (k + 3) (f_STORE_CELL, f_STORE_AT, f_OPERATOR, f_LOOP, f_LOOP_BY, f_IF, f_ELSE, f_END, f_ACT_ZERO, f_ACT_READ, f_ACT_WRITE, f_ACT_DROP, f_ACT_COMBINE, f_ACT_NEGATE, f_ACT_COPY, f_ACT_EXCHANGE, nI (q + 1), nI n, nI rm, f_phase, nI N, nI (rs_sz a_itemKind N), nI (rs_pd a_itemKind a_itemArg N), rs_fac a_itemKind a_itemArg (rs_sk a_itemKind N), rs_wk a_itemKind a_itemArg N, nI (rs_sk a_itemKind N).length, nI (rs_lp a_itemKind (rs_sk a_itemKind N)).length, f_depth, f_loopDepth, f_faultItem, f_actCount, f_stepCount, f_cursor, f_hasTangent, f_flowDepth, a_inputs, a_weights, a_itemKind, a_itemArg, a_itemJump, a_openItem, a_openElse, a_openFactor, a_cells, a_stack, a_loopCounter, a_loopLimit, a_actCode, a_actLeft, a_actRight, a_stepItem, a_stepCell, a_stepOld, a_stepNew, a_stepEnd, a_adjoints, a_tangents, a_flow) (nI (q + 1), nI n, nI rm, f_phase, nI N, g_cursor, f_hasTangent, nI (rs_sz a_itemKind N), nI (rs_pd a_itemKind a_itemArg N), rs_fac a_itemKind a_itemArg (rs_sk a_itemKind N), rs_wk a_itemKind a_itemArg N, nI (rs_sk a_itemKind N).length, nI (rs_lp a_itemKind (rs_sk a_itemKind N)).length, f_steps, g_faultItem, f_nextItem, f_nextCell, f_top, a_itemKind, a_itemArg, a_inputs, a_weights, g_tangents, a_marks, a_cell, a_dcell, a_seen, a_val, a_der, a_start, a_counter, a_total) := rr_in F
  obtain ⟨⟨hp, hn2, hn, hr1, hr2⟩, P, cI, cW, H⟩ := F
  have hq := (ra_pr_lt hp).1
  rcases pk_ix v1 (n := n) (by omega) with h | h | ⟨c, hc, rfl⟩
  · unfold wpX_setInput
    refine rx_isCell_f (Or.inl h) (br_t rfl ?_)
    unfold wpY_setInput
    exact ry_noCell_f (Or.inl h) (br_f (by decide) ⟨rfl, J⟩)
  · unfold wpX_setInput
    refine rx_isCell_f (Or.inr h) (br_t rfl ?_)
    unfold wpY_setInput
    exact ry_noCell_f (Or.inr h) (br_f (by decide) ⟨rfl, J⟩)
  · have cy := (ra_yr_ok hq v2).1
    have eu : ∀ x : Int32, upd a_inputs (nI c).toNatClampNeg x = upd a_inputs c x := fun x => by rw [nI_clamp (by omega)]
    have er : upd a_inputs c (ra_yr (nI (q + 1)) v2) (nI c).toNatClampNeg = ra_yr (nI (q + 1)) v2 := by rw [nI_clamp (by omega), pk_us]
    have cI' : rt_Cf q n (upd a_inputs c (ra_yr (nI (q + 1)) v2)) := rt_Cf_upd cI cy
    unfold wpX_setInput
    refine rx_isCell_t hc hn (br_f (by decide) (rx_residue hq ⟨vp_in_nI (by omega) (by decide), nm_r (eu _) ?_⟩))
    rcases H with ⟨z, zt⟩ | ⟨z, zt, zs⟩ | ⟨z, zs, _⟩ | ⟨z, zt, zs, _⟩
    · subst z; subst zt
      refine br_f (by decide) (br_f (by decide) ?_)
      unfold wpY_setInput
      refine ry_noCell_t hc hn (br_t rfl (ry_residue hq ⟨vp_in_nI (by omega) (by decide), nm_r (eu _) (br_f (by decide) (br_f (by decide) ⟨vp_in_nI (by omega) (by decide), er, ?_⟩))⟩))
      exact rr_in ⟨⟨hp, hn2, hn, hr1, hr2⟩, P, cI', cW, Or.inl ⟨rfl, rfl⟩⟩
    · subst z; subst zt
      refine br_f (by decide) (br_f (by decide) ?_)
      unfold wpY_setInput
      refine ry_noCell_t hc hn (br_t rfl (ry_residue hq ⟨vp_in_nI (by omega) (by decide), nm_r (eu _) (br_f (by decide) (br_f (by decide) ⟨vp_in_nI (by omega) (by decide), er, ?_⟩))⟩))
      exact rr_in ⟨⟨hp, hn2, hn, hr1, hr2⟩, P, cI', cW, Or.inr (Or.inl ⟨rfl, rfl, zs⟩)⟩
    · subst z
      refine br_t rfl ?_
      unfold wX_setInput_40 wpX_discardRun
      show wpY_setInput _ _ _ _
      unfold wpY_setInput
      refine ry_noCell_t hc hn (br_t rfl (ry_residue hq ⟨vp_in_nI (by omega) (by decide), nm_r (eu _) (br_t rfl ⟨vp_in_nI (by omega) (by decide), er, ?_⟩)⟩))
      exact rr_in ⟨⟨hp, hn2, hn, hr1, hr2⟩, P, cI', cW, Or.inr (Or.inl ⟨rfl, rfl, zs⟩)⟩
    · subst z
      refine br_f (by decide) (br_t rfl ?_)
      unfold wX_setInput_40 wpX_discardRun
      show wpY_setInput _ _ _ _
      unfold wpY_setInput
      refine ry_noCell_t hc hn (br_t rfl (ry_residue hq ⟨vp_in_nI (by omega) (by decide), nm_r (eu _) (br_f (by decide) (br_t rfl ⟨vp_in_nI (by omega) (by decide), er, ?_⟩))⟩))
      exact rr_in ⟨⟨hp, hn2, hn, hr1, hr2⟩, P, cI', cW, Or.inr (Or.inl ⟨rfl, rfl, zs⟩)⟩
end
section
/-! questions to a run that ended -/
theorem rc_mono {q n : Nat} {inp cells AC AL AR SC SO SN SE : rc_F} {d na ns : Nat} (h : rc_TI q n inp cells d AC AL AR na SC SO SN SE ns) {a : Nat} : ∀ {b : Nat}, a ≤ b → b ≤ ns → rc_tp SE a ≤ rc_tp SE b
  | 0, h1, _ => by rw [show a = 0 by omega]; exact Nat.le_refl _
  | b + 1, h1, h2 => by
    by_cases e : a = b + 1
    · rw [e]; exact Nat.le_refl _
    · exact Nat.le_trans (rc_mono h (a := a) (b := b) (by omega) (by omega)) (h.2.2.2.2.2.2.1 b (by omega))
theorem i_vc_value {k : Nat} {u : SX} {v : SY} (I : i_Rel k u v) (hk : k + 3 ≤ 1539) (v1 : Int32) : wpX_value (fun r => wpY_value (fun r' v' => r' = r ∧ i_Rel (k + 3) u v') v v1) u v1 := by
  refine rr_el (P := fun u v => wpX_value (fun r => wpY_value (fun r' v' => r' = r ∧ i_Rel (k + 3) u v') v v1) u v1) ?_ I
  intro q n rm N f_STORE_CELL f_STORE_AT f_OPERATOR f_LOOP f_LOOP_BY f_IF f_ELSE f_END f_ACT_ZERO f_ACT_READ f_ACT_WRITE f_ACT_DROP f_ACT_COMBINE f_ACT_NEGATE f_ACT_COPY f_ACT_EXCHANGE f_phase f_depth f_loopDepth f_faultItem f_actCount f_stepCount f_cursor f_hasTangent f_flowDepth f_steps f_nextItem f_nextCell f_top g_cursor g_faultItem a_inputs a_weights a_itemKind a_itemArg a_itemJump a_openItem a_openElse a_openFactor a_cells a_stack a_loopCounter a_loopLimit a_actCode a_actLeft a_actRight a_stepItem a_stepCell a_stepOld a_stepNew a_stepEnd a_adjoints a_tangents a_flow a_marks a_cell a_dcell a_seen a_val a_der a_start a_counter a_total g_tangents F
  have J : i_Rel (k + 3) (f_STORE_CELL, f_STORE_AT, f_OPERATOR, f_LOOP, f_LOOP_BY, f_IF, f_ELSE, f_END, f_ACT_ZERO, f_ACT_READ, f_ACT_WRITE, f_ACT_DROP, f_ACT_COMBINE, f_ACT_NEGATE, f_ACT_COPY, f_ACT_EXCHANGE, nI (q + 1), nI n, nI rm, f_phase, nI N, nI (rs_sz a_itemKind N), nI (rs_pd a_itemKind a_itemArg N), rs_fac a_itemKind a_itemArg (rs_sk a_itemKind N), rs_wk a_itemKind a_itemArg N, nI (rs_sk a_itemKind N).length, nI (rs_lp a_itemKind (rs_sk a_itemKind N)).length, f_depth, f_loopDepth, f_faultItem, f_actCount, f_stepCount, f_cursor, f_hasTangent, f_flowDepth, a_inputs, a_weights, a_itemKind, a_itemArg, a_itemJump, a_openItem, a_openElse, a_openFactor, a_cells, a_stack, a_loopCounter, a_loopLimit, a_actCode, a_actLeft, a_actRight, a_stepItem, a_stepCell, a_stepOld, a_stepNew, a_stepEnd, a_adjoints, a_tangents, a_flow) (nI (q + 1), nI n, nI rm, f_phase, nI N, g_cursor, f_hasTangent, nI (rs_sz a_itemKind N), nI (rs_pd a_itemKind a_itemArg N), rs_fac a_itemKind a_itemArg (rs_sk a_itemKind N), rs_wk a_itemKind a_itemArg N, nI (rs_sk a_itemKind N).length, nI (rs_lp a_itemKind (rs_sk a_itemKind N)).length, f_steps, g_faultItem, f_nextItem, f_nextCell, f_top, a_itemKind, a_itemArg, a_inputs, a_weights, g_tangents, a_marks, a_cell, a_dcell, a_seen, a_val, a_der, a_start, a_counter, a_total) := rr_in F
  obtain ⟨⟨hp, hn2, hn, hr1, hr2⟩, P, cI, cW, H⟩ := F
  have hq := (ra_pr_lt hp).1
  by_cases h2 : f_phase = 2
  · rcases H with ⟨z, _⟩ | ⟨z, _⟩ | ⟨_, hs, ht, D⟩ | ⟨z, _⟩
    · rw [z] at h2; exact absurd h2 (by decide)
    · rw [z] at h2; exact absurd h2 (by decide)
    · obtain ⟨na, ns, cur, M, pc, cells, st, lp, c0, ⟨e1, e2, e3, e4, e5⟩, hcur, hI, hM, hx, R, G, hc8, had⟩ := D
      subst e1; subst e2; subst e3; subst e4; subst e5
      have hN : N ≤ 128 := by have := P.2.2.1; have := P.2.2.2.1; omega
      have TI := G.2.2.2.2.2.2
      have pcN : pc ≤ N := G.1
      have hns : ns ≤ 1024 := Nat.le_trans TI.2.2.1 TI.2.2.2.1
      rcases pk_ix v1 (n := n) (by omega) with h | h | ⟨c, hc, rfl⟩
      · exact br_t h2 (rx_isCell_f (Or.inl h) (br_t rfl (br_t h2 (ry_noCell_f (Or.inl h) (br_f (by decide) ⟨rfl, J⟩)))))
      · exact br_t h2 (rx_isCell_f (Or.inr h) (br_t rfl (br_t h2 (ry_noCell_f (Or.inr h) (br_f (by decide) ⟨rfl, J⟩)))))
      · refine br_t h2 (rx_isCell_t hc hn (br_f (by decide) ⟨vp_in_nI (by omega) (by decide), br_t h2 (ry_noCell_t hc hn (br_t rfl ?_))⟩))
        refine ry_sim (j := 0) hN hn (by decide) hI hM hx pcN R (fun nit ncl cell dcell seen val der start counter total h1 h2' h3 h4 h5 hD => ⟨vp_in_nI (by omega) (by decide), ?_, ?_⟩)
        · have g := ((hD cur rfl (by omega)).2.2 hcur).1 c hc
          rw [nI_clamp (by omega), hc8 c (by omega)]; exact g
        · exact rr_in ⟨⟨hp, hn2, hn, hr1, hr2⟩, P, cI, cW, Or.inr (Or.inr (Or.inl ⟨h2, hs, ht, ⟨na, ns, cur, M, pc, cells, st, lp, c0, ⟨rfl, rfl, rfl, rfl, rfl⟩, hcur, hI, hM, hx, R, G, hc8, had⟩⟩))⟩
    · rw [z] at h2; exact absurd h2 (by decide)
  · exact br_f h2 (br_f h2 ⟨rfl, J⟩)
theorem i_vc_adjoint {k : Nat} {u : SX} {v : SY} (I : i_Rel k u v) (hk : k + 3 ≤ 1539) (v1 : Int32) : wpX_adjoint (fun r => wpY_adjoint (fun r' v' => r' = r ∧ i_Rel (k + 3) u v') v v1) u v1 := by
  refine rr_el (P := fun u v => wpX_adjoint (fun r => wpY_adjoint (fun r' v' => r' = r ∧ i_Rel (k + 3) u v') v v1) u v1) ?_ I
  intro q n rm N f_STORE_CELL f_STORE_AT f_OPERATOR f_LOOP f_LOOP_BY f_IF f_ELSE f_END f_ACT_ZERO f_ACT_READ f_ACT_WRITE f_ACT_DROP f_ACT_COMBINE f_ACT_NEGATE f_ACT_COPY f_ACT_EXCHANGE f_phase f_depth f_loopDepth f_faultItem f_actCount f_stepCount f_cursor f_hasTangent f_flowDepth f_steps f_nextItem f_nextCell f_top g_cursor g_faultItem a_inputs a_weights a_itemKind a_itemArg a_itemJump a_openItem a_openElse a_openFactor a_cells a_stack a_loopCounter a_loopLimit a_actCode a_actLeft a_actRight a_stepItem a_stepCell a_stepOld a_stepNew a_stepEnd a_adjoints a_tangents a_flow a_marks a_cell a_dcell a_seen a_val a_der a_start a_counter a_total g_tangents F
  have J : i_Rel (k + 3) (f_STORE_CELL, f_STORE_AT, f_OPERATOR, f_LOOP, f_LOOP_BY, f_IF, f_ELSE, f_END, f_ACT_ZERO, f_ACT_READ, f_ACT_WRITE, f_ACT_DROP, f_ACT_COMBINE, f_ACT_NEGATE, f_ACT_COPY, f_ACT_EXCHANGE, nI (q + 1), nI n, nI rm, f_phase, nI N, nI (rs_sz a_itemKind N), nI (rs_pd a_itemKind a_itemArg N), rs_fac a_itemKind a_itemArg (rs_sk a_itemKind N), rs_wk a_itemKind a_itemArg N, nI (rs_sk a_itemKind N).length, nI (rs_lp a_itemKind (rs_sk a_itemKind N)).length, f_depth, f_loopDepth, f_faultItem, f_actCount, f_stepCount, f_cursor, f_hasTangent, f_flowDepth, a_inputs, a_weights, a_itemKind, a_itemArg, a_itemJump, a_openItem, a_openElse, a_openFactor, a_cells, a_stack, a_loopCounter, a_loopLimit, a_actCode, a_actLeft, a_actRight, a_stepItem, a_stepCell, a_stepOld, a_stepNew, a_stepEnd, a_adjoints, a_tangents, a_flow) (nI (q + 1), nI n, nI rm, f_phase, nI N, g_cursor, f_hasTangent, nI (rs_sz a_itemKind N), nI (rs_pd a_itemKind a_itemArg N), rs_fac a_itemKind a_itemArg (rs_sk a_itemKind N), rs_wk a_itemKind a_itemArg N, nI (rs_sk a_itemKind N).length, nI (rs_lp a_itemKind (rs_sk a_itemKind N)).length, f_steps, g_faultItem, f_nextItem, f_nextCell, f_top, a_itemKind, a_itemArg, a_inputs, a_weights, g_tangents, a_marks, a_cell, a_dcell, a_seen, a_val, a_der, a_start, a_counter, a_total) := rr_in F
  obtain ⟨⟨hp, hn2, hn, hr1, hr2⟩, P, cI, cW, H⟩ := F
  have hq := (ra_pr_lt hp).1
  by_cases h2 : f_phase = 2
  · rcases H with ⟨z, _⟩ | ⟨z, _⟩ | ⟨_, hs, ht, D⟩ | ⟨z, _⟩
    · rw [z] at h2; exact absurd h2 (by decide)
    · rw [z] at h2; exact absurd h2 (by decide)
    · obtain ⟨na, ns, cur, M, pc, cells, st, lp, c0, ⟨e1, e2, e3, e4, e5⟩, hcur, hI, hM, hx, R, G, hc8, had⟩ := D
      subst e1; subst e2; subst e3; subst e4; subst e5
      have hN : N ≤ 128 := by have := P.2.2.1; have := P.2.2.2.1; omega
      have TI := G.2.2.2.2.2.2
      have pcN : pc ≤ N := G.1
      have hns : ns ≤ 1024 := Nat.le_trans TI.2.2.1 TI.2.2.2.1
      rcases pk_ix v1 (n := n) (by omega) with h | h | ⟨c, hc, rfl⟩
      · exact br_t h2 (rx_isCell_f (Or.inl h) (br_t rfl (br_t h2 (ry_noCell_f (Or.inl h) (br_f (by decide) ⟨rfl, J⟩)))))
      · exact br_t h2 (rx_isCell_f (Or.inr h) (br_t rfl (br_t h2 (ry_noCell_f (Or.inr h) (br_f (by decide) ⟨rfl, J⟩)))))
      · refine br_t h2 (rx_isCell_t hc hn (br_f (by decide) ⟨vp_in_nI (by omega) (by decide), br_t h2 (ry_noCell_t hc hn (br_t rfl ?_))⟩))
        unfold wpY_derive
        refine ry_sim (j := c) hN hn (by omega) hI hM hx pcN R (fun nit ncl cell dcell seen val der start counter total h1 h2' h3 h4 h5 hD => ⟨n + 1, ?_⟩)
        have g := (hD cur rfl (by omega)).2.2 hcur
        have t1 := TI.2.2.2.2.2.1 cur hcur
        have t2 := TI.2.2.2.2.2.1 ns (Nat.le_refl _)
        have h1q : 1 ≤ q := by have := (ra_pr_lt hp).2; omega
        have c0' : rt_Cl q [] := fun x hx => absurd hx (List.not_mem_nil)
        have fi := rt_fR_inv hq hn TI.1 (rt_e_C (n := n) (j := c) h1q) c0' t1.2.symm (na - rc_tp a_stepEnd cur) (by omega)
        refine ry_der_lp hq hn cW fi.1 g.2.2 ⟨?_, ?_⟩ n 0 (by omega)
        · rw [nI_clamp (by omega), had c hc]
          exact (rt_adjoint hq hn h1q TI.1 (rc_mono TI hcur (Nat.le_refl _)) t2.1 cW t1.2 t2.2 TI.2.2.2.2.2.2.2.1 hc).symm
        · exact rr_in ⟨⟨hp, hn2, hn, hr1, hr2⟩, P, cI, cW, Or.inr (Or.inr (Or.inl ⟨h2, hs, ht, ⟨na, ns, cur, M, pc, cells, st, lp, c0, ⟨rfl, rfl, rfl, rfl, rfl⟩, hcur, hI, hM, hx, R, G, hc8, had⟩⟩))⟩
    · rw [z] at h2; exact absurd h2 (by decide)
  · exact br_f h2 (br_f h2 ⟨rfl, J⟩)
theorem i_vc_setWeight {k : Nat} {u : SX} {v : SY} (I : i_Rel k u v) (hk : k + 3 ≤ 1539) (v1 : Int32) (v2 : Int32) : wpX_setWeight (fun r u' => wpY_setWeight (fun r' v' => r' = r ∧ i_Rel (k + 3) u' v') v v1 v2) u v1 v2 := by
  refine rr_el (P := fun u v => wpX_setWeight (fun r u' => wpY_setWeight (fun r' v' => r' = r ∧ i_Rel (k + 3) u' v') v v1 v2) u v1 v2) ?_ I
  intro q n rm N f_STORE_CELL f_STORE_AT f_OPERATOR f_LOOP f_LOOP_BY f_IF f_ELSE f_END f_ACT_ZERO f_ACT_READ f_ACT_WRITE f_ACT_DROP f_ACT_COMBINE f_ACT_NEGATE f_ACT_COPY f_ACT_EXCHANGE f_phase f_depth f_loopDepth f_faultItem f_actCount f_stepCount f_cursor f_hasTangent f_flowDepth f_steps f_nextItem f_nextCell f_top g_cursor g_faultItem a_inputs a_weights a_itemKind a_itemArg a_itemJump a_openItem a_openElse a_openFactor a_cells a_stack a_loopCounter a_loopLimit a_actCode a_actLeft a_actRight a_stepItem a_stepCell a_stepOld a_stepNew a_stepEnd a_adjoints a_tangents a_flow a_marks a_cell a_dcell a_seen a_val a_der a_start a_counter a_total g_tangents F
  have J : i_Rel (k + 3) (f_STORE_CELL, f_STORE_AT, f_OPERATOR, f_LOOP, f_LOOP_BY, f_IF, f_ELSE, f_END, f_ACT_ZERO, f_ACT_READ, f_ACT_WRITE, f_ACT_DROP, f_ACT_COMBINE, f_ACT_NEGATE, f_ACT_COPY, f_ACT_EXCHANGE, nI (q + 1), nI n, nI rm, f_phase, nI N, nI (rs_sz a_itemKind N), nI (rs_pd a_itemKind a_itemArg N), rs_fac a_itemKind a_itemArg (rs_sk a_itemKind N), rs_wk a_itemKind a_itemArg N, nI (rs_sk a_itemKind N).length, nI (rs_lp a_itemKind (rs_sk a_itemKind N)).length, f_depth, f_loopDepth, f_faultItem, f_actCount, f_stepCount, f_cursor, f_hasTangent, f_flowDepth, a_inputs, a_weights, a_itemKind, a_itemArg, a_itemJump, a_openItem, a_openElse, a_openFactor, a_cells, a_stack, a_loopCounter, a_loopLimit, a_actCode, a_actLeft, a_actRight, a_stepItem, a_stepCell, a_stepOld, a_stepNew, a_stepEnd, a_adjoints, a_tangents, a_flow) (nI (q + 1), nI n, nI rm, f_phase, nI N, g_cursor, f_hasTangent, nI (rs_sz a_itemKind N), nI (rs_pd a_itemKind a_itemArg N), rs_fac a_itemKind a_itemArg (rs_sk a_itemKind N), rs_wk a_itemKind a_itemArg N, nI (rs_sk a_itemKind N).length, nI (rs_lp a_itemKind (rs_sk a_itemKind N)).length, f_steps, g_faultItem, f_nextItem, f_nextCell, f_top, a_itemKind, a_itemArg, a_inputs, a_weights, g_tangents, a_marks, a_cell, a_dcell, a_seen, a_val, a_der, a_start, a_counter, a_total) := rr_in F
  obtain ⟨⟨hp, hn2, hn, hr1, hr2⟩, P, cI, cW, H⟩ := F
  have hq := (ra_pr_lt hp).1
  rcases pk_ix v1 (n := n) (by omega) with h | h | ⟨c, hc, rfl⟩
  · unfold wpX_setWeight
    refine rx_isCell_f (Or.inl h) (br_t rfl ?_)
    unfold wpY_setWeight
    exact ry_noCell_f (Or.inl h) (br_f (by decide) ⟨rfl, J⟩)
  · unfold wpX_setWeight
    refine rx_isCell_f (Or.inr h) (br_t rfl ?_)
    unfold wpY_setWeight
    exact ry_noCell_f (Or.inr h) (br_f (by decide) ⟨rfl, J⟩)
  · have cy := (ra_yr_ok hq v2).1
    have eu : ∀ x : Int32, upd a_weights (nI c).toNatClampNeg x = upd a_weights c x := fun x => by rw [nI_clamp (by omega)]
    have er : upd a_weights c (ra_yr (nI (q + 1)) v2) (nI c).toNatClampNeg = ra_yr (nI (q + 1)) v2 := by rw [nI_clamp (by omega), pk_us]
    have cW' : rt_Cf q n (upd a_weights c (ra_yr (nI (q + 1)) v2)) := rt_Cf_upd cW cy
    unfold wpX_setWeight
    refine rx_isCell_t hc hn (br_f (by decide) (rx_residue hq ⟨vp_in_nI (by omega) (by decide), nm_r (eu _) ?_⟩))
    by_cases h2 : f_phase = 2
    · rcases H with ⟨z, _⟩ | ⟨z, _⟩ | ⟨_, hs, ht, D⟩ | ⟨z, _⟩
      · rw [z] at h2; exact absurd h2 (by decide)
      · rw [z] at h2; exact absurd h2 (by decide)
      · obtain ⟨na, ns, cur, M, pc, cells, st, lp, c0, ⟨e1, e2, e3, e4, e5⟩, hcur, hI, hM, hx, R, G, hc8, had⟩ := D
        subst e1; subst e2; subst e3; subst e4; subst e5
        have hN : N ≤ 128 := by have := P.2.2.1; have := P.2.2.2.1; omega
        have TI := G.2.2.2.2.2.2
        have pcN : pc ≤ N := G.1
        have hns : ns ≤ 1024 := Nat.le_trans TI.2.2.1 TI.2.2.2.1
        refine br_t h2 (rx_move hn (Nat.le_refl _) hcur hns TI.2.2.2.2.2.2.2.2.1 hc8 (fun cl hcl => rx_seed (fun ad had' => ?_)))
        unfold wpY_setWeight
        refine ry_noCell_t hc hn (br_t rfl (ry_residue hq ⟨vp_in_nI (by omega) (by decide), nm_r (eu _) (br_t h2 ⟨vp_in_nI (by omega) (by decide), er, ?_⟩)⟩))
        exact rr_in ⟨⟨hp, hn2, hn, hr1, hr2⟩, P, cI, cW', Or.inr (Or.inr (Or.inl ⟨h2, hs, ht, ⟨na, ns, ns, M, pc, cells, st, lp, c0, ⟨rfl, rfl, rfl, rfl, rfl⟩, Nat.le_refl _, hI, hM, hx, R, G, hcl, (fun i hi => by rw [Nat.sub_self]; exact had' i (by omega))⟩⟩))⟩
      · rw [z] at h2; exact absurd h2 (by decide)
    · refine br_f h2 ?_
      unfold wpY_setWeight
      refine ry_noCell_t hc hn (br_t rfl (ry_residue hq ⟨vp_in_nI (by omega) (by decide), nm_r (eu _) (br_f h2 ⟨vp_in_nI (by omega) (by decide), er, ?_⟩)⟩))
      refine rr_in ⟨⟨hp, hn2, hn, hr1, hr2⟩, P, cI, cW', ?_⟩
      rcases H with z | z | ⟨z, _⟩ | z
      · exact Or.inl z
      · exact Or.inr (Or.inl z)
      · exact absurd z h2
      · exact Or.inr (Or.inr (Or.inr z))
end
section
/-! sweepTo, tangentFrom -/
theorem i_vc_sweepTo {k : Nat} {u : SX} {v : SY} (I : i_Rel k u v) (hk : k + 3 ≤ 1539) (v1 : Int32) : wpX_sweepTo (fun r u' => wpY_sweepTo (fun r' v' => r' = r ∧ i_Rel (k + 3) u' v') v v1) u v1 := by
  refine rr_el (P := fun u v => wpX_sweepTo (fun r u' => wpY_sweepTo (fun r' v' => r' = r ∧ i_Rel (k + 3) u' v') v v1) u v1) ?_ I
  intro q n rm N f_STORE_CELL f_STORE_AT f_OPERATOR f_LOOP f_LOOP_BY f_IF f_ELSE f_END f_ACT_ZERO f_ACT_READ f_ACT_WRITE f_ACT_DROP f_ACT_COMBINE f_ACT_NEGATE f_ACT_COPY f_ACT_EXCHANGE f_phase f_depth f_loopDepth f_faultItem f_actCount f_stepCount f_cursor f_hasTangent f_flowDepth f_steps f_nextItem f_nextCell f_top g_cursor g_faultItem a_inputs a_weights a_itemKind a_itemArg a_itemJump a_openItem a_openElse a_openFactor a_cells a_stack a_loopCounter a_loopLimit a_actCode a_actLeft a_actRight a_stepItem a_stepCell a_stepOld a_stepNew a_stepEnd a_adjoints a_tangents a_flow a_marks a_cell a_dcell a_seen a_val a_der a_start a_counter a_total g_tangents F
  have J : i_Rel (k + 3) (f_STORE_CELL, f_STORE_AT, f_OPERATOR, f_LOOP, f_LOOP_BY, f_IF, f_ELSE, f_END, f_ACT_ZERO, f_ACT_READ, f_ACT_WRITE, f_ACT_DROP, f_ACT_COMBINE, f_ACT_NEGATE, f_ACT_COPY, f_ACT_EXCHANGE, nI (q + 1), nI n, nI rm, f_phase, nI N, nI (rs_sz a_itemKind N), nI (rs_pd a_itemKind a_itemArg N), rs_fac a_itemKind a_itemArg (rs_sk a_itemKind N), rs_wk a_itemKind a_itemArg N, nI (rs_sk a_itemKind N).length, nI (rs_lp a_itemKind (rs_sk a_itemKind N)).length, f_depth, f_loopDepth, f_faultItem, f_actCount, f_stepCount, f_cursor, f_hasTangent, f_flowDepth, a_inputs, a_weights, a_itemKind, a_itemArg, a_itemJump, a_openItem, a_openElse, a_openFactor, a_cells, a_stack, a_loopCounter, a_loopLimit, a_actCode, a_actLeft, a_actRight, a_stepItem, a_stepCell, a_stepOld, a_stepNew, a_stepEnd, a_adjoints, a_tangents, a_flow) (nI (q + 1), nI n, nI rm, f_phase, nI N, g_cursor, f_hasTangent, nI (rs_sz a_itemKind N), nI (rs_pd a_itemKind a_itemArg N), rs_fac a_itemKind a_itemArg (rs_sk a_itemKind N), rs_wk a_itemKind a_itemArg N, nI (rs_sk a_itemKind N).length, nI (rs_lp a_itemKind (rs_sk a_itemKind N)).length, f_steps, g_faultItem, f_nextItem, f_nextCell, f_top, a_itemKind, a_itemArg, a_inputs, a_weights, g_tangents, a_marks, a_cell, a_dcell, a_seen, a_val, a_der, a_start, a_counter, a_total) := rr_in F
  obtain ⟨⟨hp, hn2, hn, hr1, hr2⟩, P, cI, cW, H⟩ := F
  have hq := (ra_pr_lt hp).1
  by_cases h2 : f_phase = 2
  · rcases H with ⟨z, _⟩ | ⟨z, _⟩ | ⟨_, hs, ht, D⟩ | ⟨z, _⟩
    · rw [z] at h2; exact absurd h2 (by decide)
    · rw [z] at h2; exact absurd h2 (by decide)
    · obtain ⟨na, ns, cur, M, pc, cells, st, lp, c0, ⟨e1, e2, e3, e4, e5⟩, hcur, hI, hM, hx, R, G, hc8, had⟩ := D
      subst e1; subst e2; subst e3; subst e4; subst e5
      have hN : N ≤ 128 := by have := P.2.2.1; have := P.2.2.2.1; omega
      have TI := G.2.2.2.2.2.2
      have pcN : pc ≤ N := G.1
      have hns : ns ≤ 1024 := Nat.le_trans TI.2.2.1 TI.2.2.2.1
      rcases pk_ix v1 (n := ns + 1) (by omega) with h | h | ⟨j, hj, rfl⟩
      · exact br_t h2 (br_t h (br_t h2 (br_t h ⟨rfl, J⟩)))
      · have h0 : ¬ v1 < 0 := fun z => absurd (Int32.lt_of_lt_of_le z (nI_pos' (n := ns + 1) (by omega))) (Int32.not_lt.mpr h)
        have h1 : ¬ v1 ≤ nI ns := fun z => absurd (Int32.le_trans h z) (nI_ge (by omega) (by omega))
        exact br_t h2 (br_f h0 (br_f h1 (br_t h2 (br_f h0 (br_f h1 ⟨rfl, J⟩)))))
      · have h0 : ¬ nI j < 0 := nI_pos (by omega)
        have h1 : nI j ≤ nI ns := nI_le (by omega) (by omega)
        have tj := TI.2.2.2.2.2.1 j (by omega)
        have tc := TI.2.2.2.2.2.1 cur hcur
        have tn := TI.2.2.2.2.2.1 ns (Nat.le_refl _)
        have mj := rc_mono TI (show j ≤ ns by omega) (Nat.le_refl _)
        have mc := rc_mono TI hcur (Nat.le_refl _)
        refine br_t h2 (br_f h0 (br_t h1 ?_))
        refine pk_le j cur (fun hjc => ?_) (fun hjc => ?_)
        · unfold wX_sweepTo_47
          refine rx_tp hcur hns TI.2.2.2.2.1 ?_
          refine rx_tp (show j ≤ ns by omega) hns TI.2.2.2.2.1 ?_
          refine rx_flowBackward hq hn TI.2.2.2.1 tn.1 mc (rc_mono TI hjc hcur) TI.1 cW tn.2 tc.2 had (fun fd ad fl hd => ?_)
          refine rx_move hn (show j ≤ ns by omega) hcur hns TI.2.2.2.2.2.2.2.2.1 hc8 (fun cl hcl => ?_)
          refine br_t h2 (br_f h0 (br_t h1 ⟨rfl, ?_⟩))
          exact rr_in ⟨⟨hp, hn2, hn, hr1, hr2⟩, P, cI, cW, Or.inr (Or.inr (Or.inl ⟨h2, hs, ht, ⟨na, ns, j, M, pc, cells, st, lp, c0, ⟨rfl, rfl, rfl, rfl, rfl⟩, (by omega), hI, hM, hx, R, G, hcl, hd⟩⟩))⟩
        · refine rx_seed (fun ad0 had0 => ?_)
          unfold wX_sweepTo_47
          refine rx_tp (Nat.le_refl _) hns TI.2.2.2.2.1 ?_
          refine rx_tp (show j ≤ ns by omega) hns TI.2.2.2.2.1 ?_
          refine rx_flowBackward (hi := rc_tp a_stepEnd ns) hq hn TI.2.2.2.1 tn.1 (Nat.le_refl _) mj TI.1 cW tn.2 tn.2 (fun i hi => by rw [Nat.sub_self]; exact had0 i (by omega)) (fun fd ad fl hd => ?_)
          refine rx_move hn (show j ≤ ns by omega) hcur hns TI.2.2.2.2.2.2.2.2.1 hc8 (fun cl hcl => ?_)
          refine br_t h2 (br_f h0 (br_t h1 ⟨rfl, ?_⟩))
          exact rr_in ⟨⟨hp, hn2, hn, hr1, hr2⟩, P, cI, cW, Or.inr (Or.inr (Or.inl ⟨h2, hs, ht, ⟨na, ns, j, M, pc, cells, st, lp, c0, ⟨rfl, rfl, rfl, rfl, rfl⟩, (by omega), hI, hM, hx, R, G, hcl, hd⟩⟩))⟩
    · rw [z] at h2; exact absurd h2 (by decide)
  · exact br_f h2 (br_f h2 ⟨rfl, J⟩)
section
variable {f_STORE_CELL f_STORE_AT f_OPERATOR f_LOOP f_LOOP_BY f_IF f_ELSE f_END f_ACT_ZERO f_ACT_READ f_ACT_WRITE f_ACT_DROP f_ACT_COMBINE f_ACT_NEGATE f_ACT_COPY f_ACT_EXCHANGE f_prime f_cellCount f_room f_phase f_itemCount f_size f_pending f_factor f_work f_openCount f_openLoops f_depth f_loopDepth f_faultItem f_actCount f_stepCount f_cursor f_hasTangent f_flowDepth : Int32} {a_inputs a_weights a_itemKind a_itemArg a_itemJump a_openItem a_openElse a_openFactor a_cells a_stack a_loopCounter a_loopLimit a_actCode a_actLeft a_actRight a_stepItem a_stepCell a_stepOld a_stepNew a_stepEnd a_adjoints a_tangents a_flow : Nat → Int32}
theorem rx_tf_lp {post : Int32 → SX → Prop} {x1 : Int32} {j : Nat} (hj : j < 8) (K : ∀ tg, (∀ i, i < 8 → tg i = rt_e j i) → wpX_tapePosition (fun r => wpX_flowForward (fun u => match u with | (f_STORE_CELL, f_STORE_AT, f_OPERATOR, f_LOOP, f_LOOP_BY, f_IF, f_ELSE, f_END, f_ACT_ZERO, f_ACT_READ, f_ACT_WRITE, f_ACT_DROP, f_ACT_COMBINE, f_ACT_NEGATE, f_ACT_COPY, f_ACT_EXCHANGE, f_prime, f_cellCount, f_room, f_phase, f_itemCount, f_size, f_pending, f_factor, f_work, f_openCount, f_openLoops, f_depth, f_loopDepth, f_faultItem, f_actCount, f_stepCount, f_cursor, f_hasTangent, f_flowDepth, a_inputs, a_weights, a_itemKind, a_itemArg, a_itemJump, a_openItem, a_openElse, a_openFactor, a_cells, a_stack, a_loopCounter, a_loopLimit, a_actCode, a_actLeft, a_actRight, a_stepItem, a_stepCell, a_stepOld, a_stepNew, a_stepEnd, a_adjoints, a_tangents, a_flow) => wpX_weightedTangent (fun s => post s (f_STORE_CELL, f_STORE_AT, f_OPERATOR, f_LOOP, f_LOOP_BY, f_IF, f_ELSE, f_END, f_ACT_ZERO, f_ACT_READ, f_ACT_WRITE, f_ACT_DROP, f_ACT_COMBINE, f_ACT_NEGATE, f_ACT_COPY, f_ACT_EXCHANGE, f_prime, f_cellCount, f_room, f_phase, f_itemCount, f_size, f_pending, f_factor, f_work, f_openCount, f_openLoops, f_depth, f_loopDepth, f_faultItem, f_actCount, f_stepCount, f_cursor, 1, f_flowDepth, a_inputs, a_weights, a_itemKind, a_itemArg, a_itemJump, a_openItem, a_openElse, a_openFactor, a_cells, a_stack, a_loopCounter, a_loopLimit, a_actCode, a_actLeft, a_actRight, a_stepItem, a_stepCell, a_stepOld, a_stepNew, a_stepEnd, a_adjoints, a_tangents, a_flow)) (f_STORE_CELL, f_STORE_AT, f_OPERATOR, f_LOOP, f_LOOP_BY, f_IF, f_ELSE, f_END, f_ACT_ZERO, f_ACT_READ, f_ACT_WRITE, f_ACT_DROP, f_ACT_COMBINE, f_ACT_NEGATE, f_ACT_COPY, f_ACT_EXCHANGE, f_prime, f_cellCount, f_room, f_phase, f_itemCount, f_size, f_pending, f_factor, f_work, f_openCount, f_openLoops, f_depth, f_loopDepth, f_faultItem, f_actCount, f_stepCount, f_cursor, 1, f_flowDepth, a_inputs, a_weights, a_itemKind, a_itemArg, a_itemJump, a_openItem, a_openElse, a_openFactor, a_cells, a_stack, a_loopCounter, a_loopLimit, a_actCode, a_actLeft, a_actRight, a_stepItem, a_stepCell, a_stepOld, a_stepNew, a_stepEnd, a_adjoints, a_tangents, a_flow)) (f_STORE_CELL, f_STORE_AT, f_OPERATOR, f_LOOP, f_LOOP_BY, f_IF, f_ELSE, f_END, f_ACT_ZERO, f_ACT_READ, f_ACT_WRITE, f_ACT_DROP, f_ACT_COMBINE, f_ACT_NEGATE, f_ACT_COPY, f_ACT_EXCHANGE, f_prime, f_cellCount, f_room, f_phase, f_itemCount, f_size, f_pending, f_factor, f_work, f_openCount, f_openLoops, f_depth, f_loopDepth, f_faultItem, f_actCount, f_stepCount, f_cursor, f_hasTangent, f_flowDepth, a_inputs, a_weights, a_itemKind, a_itemArg, a_itemJump, a_openItem, a_openElse, a_openFactor, a_cells, a_stack, a_loopCounter, a_loopLimit, a_actCode, a_actLeft, a_actRight, a_stepItem, a_stepCell, a_stepOld, a_stepNew, a_stepEnd, a_adjoints, tg, a_flow) r) (f_STORE_CELL, f_STORE_AT, f_OPERATOR, f_LOOP, f_LOOP_BY, f_IF, f_ELSE, f_END, f_ACT_ZERO, f_ACT_READ, f_ACT_WRITE, f_ACT_DROP, f_ACT_COMBINE, f_ACT_NEGATE, f_ACT_COPY, f_ACT_EXCHANGE, f_prime, f_cellCount, f_room, f_phase, f_itemCount, f_size, f_pending, f_factor, f_work, f_openCount, f_openLoops, f_depth, f_loopDepth, f_faultItem, f_actCount, f_stepCount, f_cursor, f_hasTangent, f_flowDepth, a_inputs, a_weights, a_itemKind, a_itemArg, a_itemJump, a_openItem, a_openElse, a_openFactor, a_cells, a_stack, a_loopCounter, a_loopLimit, a_actCode, a_actLeft, a_actRight, a_stepItem, a_stepCell, a_stepOld, a_stepNew, a_stepEnd, a_adjoints, tg, a_flow) x1) :
    ∀ (d i : Nat) (tg : Nat → Int32), i + d = 8 → (∀ t, t < i → tg t = 0) → wX_tangentFrom_38 post x1 (nI j) f_STORE_CELL f_STORE_AT f_OPERATOR f_LOOP f_LOOP_BY f_IF f_ELSE f_END f_ACT_ZERO f_ACT_READ f_ACT_WRITE f_ACT_DROP f_ACT_COMBINE f_ACT_NEGATE f_ACT_COPY f_ACT_EXCHANGE f_prime f_cellCount f_room f_phase f_itemCount f_size f_pending f_factor f_work f_openCount f_openLoops f_depth f_loopDepth f_faultItem f_actCount f_stepCount f_cursor f_hasTangent f_flowDepth (d + 1) (nI i) a_inputs a_weights a_itemKind a_itemArg a_itemJump a_openItem a_openElse a_openFactor a_cells a_stack a_loopCounter a_loopLimit a_actCode a_actLeft a_actRight a_stepItem a_stepCell a_stepOld a_stepNew a_stepEnd a_adjoints tg a_flow
  | 0, i, tg, h, h1 => by
    refine br_t (nI_le (a := 8) (b := i) (by omega) (by omega)) ⟨vp_in_nI hj (by decide), nm_r (e' := upd tg j 1) (by rw [nI_clamp (by omega)]) ?_⟩
    refine K (upd tg j 1) (fun t ht => ?_)
    unfold rt_e
    by_cases z : t = j
    · rw [z, pk_us, if_pos rfl]
    · rw [pk_un z, if_neg z]; exact h1 t (by omega)
  | d + 1, i, tg, h, h1 => by
    refine br_f (nI_ge (a := i) (b := 8) (by omega) (by omega)) ⟨vp_in_nI (by omega) (by decide), nm_r (e' := upd tg i 0) (by rw [nI_clamp (by omega)]) (nm_r (nI_1 i) (rx_tf_lp hj K d (i + 1) _ (by omega) ?_))⟩
    intro t ht
    by_cases z : t = i
    · rw [z, pk_us]
    · rw [pk_un z]; exact h1 t (by omega)
end
section
variable {f_p f_n f_room f_phase f_items f_cursor f_hasTangent f_size f_pending f_factor f_work f_open f_loops f_steps f_faultItem f_nextItem f_nextCell f_top : Int32} {a_kinds a_args a_inputs a_weights a_tangents a_marks a_cell a_dcell a_seen a_val a_der a_start a_counter a_total : Nat → Int32}
theorem ry_tf_lp {post : Int32 → SY → Prop} {x3 : Int32} {n : Nat} (hn : n ≤ 8) (K : ∀ tg, (∀ i, i < n → tg i = a_dcell i) → post x3 (f_p, nI n, f_room, f_phase, f_items, f_cursor, 1, f_size, f_pending, f_factor, f_work, f_open, f_loops, f_steps, f_faultItem, f_nextItem, f_nextCell, f_top, a_kinds, a_args, a_inputs, a_weights, tg, a_marks, a_cell, a_dcell, a_seen, a_val, a_der, a_start, a_counter, a_total)) :
    ∀ (d i : Nat) (tg : Nat → Int32), i + d = n → (∀ t, t < i → tg t = a_dcell t) → wY_tangentFrom_43 post x3 f_p (nI n) f_room f_phase f_items f_cursor f_hasTangent f_size f_pending f_factor f_work f_open f_loops f_steps f_faultItem f_nextItem f_nextCell f_top (d + 1) (nI i) a_kinds a_args a_inputs a_weights tg a_marks a_cell a_dcell a_seen a_val a_der a_start a_counter a_total
  | 0, i, tg, h, h1 => br_t (nI_le (by omega) (by omega)) (K tg (fun t ht => h1 t (by omega)))
  | d + 1, i, tg, h, h1 => by
    refine br_f (nI_ge (by omega) (by omega)) ⟨vp_in_nI (by omega) (by decide), vp_in_nI (by omega) (by decide), nm_r (e' := upd tg i (a_dcell i)) (by rw [nI_clamp (by omega)]) (nm_r (nI_1 i) (ry_tf_lp hn K d (i + 1) _ (by omega) ?_))⟩
    intro t ht
    by_cases z : t = i
    · rw [z, pk_us]
    · rw [pk_un z]; exact h1 t (by omega)
end
theorem i_vc_tangentFrom {k : Nat} {u : SX} {v : SY} (I : i_Rel k u v) (hk : k + 3 ≤ 1539) (v1 : Int32) (v2 : Int32) : wpX_tangentFrom (fun r u' => wpY_tangentFrom (fun r' v' => r' = r ∧ i_Rel (k + 3) u' v') v v1 v2) u v1 v2 := by
  refine rr_el (P := fun u v => wpX_tangentFrom (fun r u' => wpY_tangentFrom (fun r' v' => r' = r ∧ i_Rel (k + 3) u' v') v v1 v2) u v1 v2) ?_ I
  intro q n rm N f_STORE_CELL f_STORE_AT f_OPERATOR f_LOOP f_LOOP_BY f_IF f_ELSE f_END f_ACT_ZERO f_ACT_READ f_ACT_WRITE f_ACT_DROP f_ACT_COMBINE f_ACT_NEGATE f_ACT_COPY f_ACT_EXCHANGE f_phase f_depth f_loopDepth f_faultItem f_actCount f_stepCount f_cursor f_hasTangent f_flowDepth f_steps f_nextItem f_nextCell f_top g_cursor g_faultItem a_inputs a_weights a_itemKind a_itemArg a_itemJump a_openItem a_openElse a_openFactor a_cells a_stack a_loopCounter a_loopLimit a_actCode a_actLeft a_actRight a_stepItem a_stepCell a_stepOld a_stepNew a_stepEnd a_adjoints a_tangents a_flow a_marks a_cell a_dcell a_seen a_val a_der a_start a_counter a_total g_tangents F
  have J : i_Rel (k + 3) (f_STORE_CELL, f_STORE_AT, f_OPERATOR, f_LOOP, f_LOOP_BY, f_IF, f_ELSE, f_END, f_ACT_ZERO, f_ACT_READ, f_ACT_WRITE, f_ACT_DROP, f_ACT_COMBINE, f_ACT_NEGATE, f_ACT_COPY, f_ACT_EXCHANGE, nI (q + 1), nI n, nI rm, f_phase, nI N, nI (rs_sz a_itemKind N), nI (rs_pd a_itemKind a_itemArg N), rs_fac a_itemKind a_itemArg (rs_sk a_itemKind N), rs_wk a_itemKind a_itemArg N, nI (rs_sk a_itemKind N).length, nI (rs_lp a_itemKind (rs_sk a_itemKind N)).length, f_depth, f_loopDepth, f_faultItem, f_actCount, f_stepCount, f_cursor, f_hasTangent, f_flowDepth, a_inputs, a_weights, a_itemKind, a_itemArg, a_itemJump, a_openItem, a_openElse, a_openFactor, a_cells, a_stack, a_loopCounter, a_loopLimit, a_actCode, a_actLeft, a_actRight, a_stepItem, a_stepCell, a_stepOld, a_stepNew, a_stepEnd, a_adjoints, a_tangents, a_flow) (nI (q + 1), nI n, nI rm, f_phase, nI N, g_cursor, f_hasTangent, nI (rs_sz a_itemKind N), nI (rs_pd a_itemKind a_itemArg N), rs_fac a_itemKind a_itemArg (rs_sk a_itemKind N), rs_wk a_itemKind a_itemArg N, nI (rs_sk a_itemKind N).length, nI (rs_lp a_itemKind (rs_sk a_itemKind N)).length, f_steps, g_faultItem, f_nextItem, f_nextCell, f_top, a_itemKind, a_itemArg, a_inputs, a_weights, g_tangents, a_marks, a_cell, a_dcell, a_seen, a_val, a_der, a_start, a_counter, a_total) := rr_in F
  obtain ⟨⟨hp, hn2, hn, hr1, hr2⟩, P, cI, cW, H⟩ := F
  have hq := (ra_pr_lt hp).1
  by_cases h2 : f_phase = 2
  · rcases H with ⟨z, _⟩ | ⟨z, _⟩ | ⟨_, hs, ht, D⟩ | ⟨z, _⟩
    · rw [z] at h2; exact absurd h2 (by decide)
    · rw [z] at h2; exact absurd h2 (by decide)
    · obtain ⟨na, ns, cur, M, pc, cells, st, lp, c0, ⟨e1, e2, e3, e4, e5⟩, hcur, hI, hM, hx, R, G, hc8, had⟩ := D
      subst e1; subst e2; subst e3; subst e4; subst e5
      have hN : N ≤ 128 := by have := P.2.2.1; have := P.2.2.2.1; omega
      have TI := G.2.2.2.2.2.2
      have pcN : pc ≤ N := G.1
      have hns : ns ≤ 1024 := Nat.le_trans TI.2.2.1 TI.2.2.2.1
      rcases pk_ix v1 (n := ns + 1) (by omega) with h | h | ⟨j, hj, rfl⟩
      · exact br_t h2 (br_t h (br_t h2 (br_t h ⟨rfl, J⟩)))
      · have h0 : ¬ v1 < 0 := fun z => absurd (Int32.lt_of_lt_of_le z (nI_pos' (n := ns + 1) (by omega))) (Int32.not_lt.mpr h)
        have h1 : ¬ v1 ≤ nI ns := fun z => absurd (Int32.le_trans h z) (nI_ge (by omega) (by omega))
        exact br_t h2 (br_f h0 (br_f h1 (br_t h2 (br_f h0 (br_t (Int32.not_le.mp h1) ⟨rfl, J⟩)))))
      · have h0 : ¬ nI j < 0 := nI_pos (by omega)
        have h1 : nI j ≤ nI ns := nI_le (by omega) (by omega)
        have h1' : ¬ nI ns < nI j := nI_nlt (by omega) (by omega)
        refine br_t h2 (br_f h0 (br_t h1 ?_))
        rcases pk_ix v2 (n := n) (by omega) with h | h | ⟨c, hc, rfl⟩
        · refine rx_isCell_f (Or.inl h) (br_t rfl (br_t h2 (br_f h0 (br_f h1' ?_))))
          exact ry_noCell_f (Or.inl h) (br_f (by decide) ⟨rfl, J⟩)
        · refine rx_isCell_f (Or.inr h) (br_t rfl (br_t h2 (br_f h0 (br_f h1' ?_))))
          exact ry_noCell_f (Or.inr h) (br_f (by decide) ⟨rfl, J⟩)
        · have tj := TI.2.2.2.2.2.1 j (by omega)
          have h1q : 1 ≤ q := by have := (ra_pr_lt hp).2; omega
          have c0' : rt_Cl q [] := fun x hx => absurd hx (List.not_mem_nil)
          have fi := rt_fR_inv hq hn TI.1 (rt_e_C (n := n) (j := c) h1q) c0' tj.2.symm (na - rc_tp a_stepEnd j) (by omega)
          refine rx_isCell_t hc hn (br_f (by decide) ⟨9, rx_tf_lp (by omega) (fun tg htg => ?_) 8 0 a_tangents (by omega) (fun t ht => absurd ht (Nat.not_lt_zero t))⟩)
          refine rx_tp (show j ≤ ns by omega) hns TI.2.2.2.2.1 ?_
          refine rx_flowForward hq hn TI.2.2.2.1 tj.1 TI.1 (rt_e_C (n := n) (j := c) h1q) tj.2 (fun i hi => htg i (by omega)) (fun fd tg' fl htg' => ?_)
          refine rx_wt hq hn ?_
          refine br_t h2 (br_f h0 (br_f h1' ?_))
          refine ry_noCell_t hc hn (br_t rfl ?_)
          unfold wpY_derive
          refine ry_sim (j := c) hN hn (by omega) hI hM hx pcN R (fun nit ncl cell dcell seen val der start counter total g1 g2 g3 g4 g5 hD => ⟨n + 1, ?_⟩)
          have g := (hD j rfl (by omega)).2.2 (by omega)
          refine ry_der_lp hq hn cW fi.1 g.2.2 ?_ n 0 (by omega)
          refine ⟨n + 1, ry_tf_lp hn (fun tg2 h2' => ⟨?_, ?_⟩) n 0 g_tangents (by omega) (fun t ht => absurd ht (Nat.not_lt_zero t))⟩
          · exact (rt_sm_cg (fun i hi => rfl) htg').symm
          · exact rr_in ⟨⟨hp, hn2, hn, hr1, hr2⟩, P, cI, cW, Or.inr (Or.inr (Or.inl ⟨h2, hs, Or.inr ⟨rfl, fun i hi => (htg' i hi).trans ((g.2.2 i hi).symm.trans (h2' i hi).symm)⟩, ⟨na, ns, cur, M, pc, cells, st, lp, c0, ⟨rfl, rfl, rfl, rfl, rfl⟩, hcur, hI, hM, hx, R, G, hc8, had⟩⟩))⟩
    · rw [z] at h2; exact absurd h2 (by decide)
  · exact br_f h2 (br_f h2 ⟨rfl, J⟩)
end
section
/-! state -/
theorem i_vc_state {k : Nat} {u : SX} {v : SY} (I : i_Rel k u v) (hk : k + 3 ≤ 1539) (v1 : Int32) : wpX_state (fun r => wpY_state (fun r' v' => r' = r ∧ i_Rel (k + 3) u v') v v1) u v1 := by
  refine rr_el (P := fun u v => wpX_state (fun r => wpY_state (fun r' v' => r' = r ∧ i_Rel (k + 3) u v') v v1) u v1) ?_ I
  intro q n rm N f_STORE_CELL f_STORE_AT f_OPERATOR f_LOOP f_LOOP_BY f_IF f_ELSE f_END f_ACT_ZERO f_ACT_READ f_ACT_WRITE f_ACT_DROP f_ACT_COMBINE f_ACT_NEGATE f_ACT_COPY f_ACT_EXCHANGE f_phase f_depth f_loopDepth f_faultItem f_actCount f_stepCount f_cursor f_hasTangent f_flowDepth f_steps f_nextItem f_nextCell f_top g_cursor g_faultItem a_inputs a_weights a_itemKind a_itemArg a_itemJump a_openItem a_openElse a_openFactor a_cells a_stack a_loopCounter a_loopLimit a_actCode a_actLeft a_actRight a_stepItem a_stepCell a_stepOld a_stepNew a_stepEnd a_adjoints a_tangents a_flow a_marks a_cell a_dcell a_seen a_val a_der a_start a_counter a_total g_tangents F
  have J : i_Rel (k + 3) (f_STORE_CELL, f_STORE_AT, f_OPERATOR, f_LOOP, f_LOOP_BY, f_IF, f_ELSE, f_END, f_ACT_ZERO, f_ACT_READ, f_ACT_WRITE, f_ACT_DROP, f_ACT_COMBINE, f_ACT_NEGATE, f_ACT_COPY, f_ACT_EXCHANGE, nI (q + 1), nI n, nI rm, f_phase, nI N, nI (rs_sz a_itemKind N), nI (rs_pd a_itemKind a_itemArg N), rs_fac a_itemKind a_itemArg (rs_sk a_itemKind N), rs_wk a_itemKind a_itemArg N, nI (rs_sk a_itemKind N).length, nI (rs_lp a_itemKind (rs_sk a_itemKind N)).length, f_depth, f_loopDepth, f_faultItem, f_actCount, f_stepCount, f_cursor, f_hasTangent, f_flowDepth, a_inputs, a_weights, a_itemKind, a_itemArg, a_itemJump, a_openItem, a_openElse, a_openFactor, a_cells, a_stack, a_loopCounter, a_loopLimit, a_actCode, a_actLeft, a_actRight, a_stepItem, a_stepCell, a_stepOld, a_stepNew, a_stepEnd, a_adjoints, a_tangents, a_flow) (nI (q + 1), nI n, nI rm, f_phase, nI N, g_cursor, f_hasTangent, nI (rs_sz a_itemKind N), nI (rs_pd a_itemKind a_itemArg N), rs_fac a_itemKind a_itemArg (rs_sk a_itemKind N), rs_wk a_itemKind a_itemArg N, nI (rs_sk a_itemKind N).length, nI (rs_lp a_itemKind (rs_sk a_itemKind N)).length, f_steps, g_faultItem, f_nextItem, f_nextCell, f_top, a_itemKind, a_itemArg, a_inputs, a_weights, g_tangents, a_marks, a_cell, a_dcell, a_seen, a_val, a_der, a_start, a_counter, a_total) := rr_in F
  obtain ⟨⟨hp, hn2, hn, hr1, hr2⟩, P, cI, cW, H⟩ := F
  have hq := (ra_pr_lt hp).1
  have hN : N ≤ 128 := by have := P.2.2.1; have := P.2.2.2.1; omega
  have cases : v1 < 0 ∨ nI 15 ≤ v1 ∨ ∃ j, j < 15 ∧ v1 = nI j := pk_ix v1 (by decide)
  have hne : (v1 < 0 ∨ nI 15 ≤ v1) → ∀ j : Nat, j < 15 → ¬ v1 = nI j := by
    intro h j hj e
    rw [e] at h
    rcases h with z | z
    · exact absurd z (nI_pos (by omega))
    · exact absurd z (nI_ge (by omega) (by decide))
  have outX : (v1 < 0 ∨ nI 15 ≤ v1) → ∀ post : Int32 → Prop, post (-2) → wpX_state post (f_STORE_CELL, f_STORE_AT, f_OPERATOR, f_LOOP, f_LOOP_BY, f_IF, f_ELSE, f_END, f_ACT_ZERO, f_ACT_READ, f_ACT_WRITE, f_ACT_DROP, f_ACT_COMBINE, f_ACT_NEGATE, f_ACT_COPY, f_ACT_EXCHANGE, nI (q + 1), nI n, nI rm, f_phase, nI N, nI (rs_sz a_itemKind N), nI (rs_pd a_itemKind a_itemArg N), rs_fac a_itemKind a_itemArg (rs_sk a_itemKind N), rs_wk a_itemKind a_itemArg N, nI (rs_sk a_itemKind N).length, nI (rs_lp a_itemKind (rs_sk a_itemKind N)).length, f_depth, f_loopDepth, f_faultItem, f_actCount, f_stepCount, f_cursor, f_hasTangent, f_flowDepth, a_inputs, a_weights, a_itemKind, a_itemArg, a_itemJump, a_openItem, a_openElse, a_openFactor, a_cells, a_stack, a_loopCounter, a_loopLimit, a_actCode, a_actLeft, a_actRight, a_stepItem, a_stepCell, a_stepOld, a_stepNew, a_stepEnd, a_adjoints, a_tangents, a_flow) v1 := by
    intro hh post Q
    rcases hh with h | h
    · exact br_t h (br_t (Int32.lt_trans h (by decide)) Q)
    · have h15 : (15 : Int32) ≤ v1 := h
      have h0 : ¬ v1 < 0 := fun z => absurd (Int32.lt_of_le_of_lt h15 z) (by decide)
      have h9 : (9 : Int32) < v1 := Int32.lt_of_lt_of_le (by decide) h15
      have h10 : ¬ v1 < 10 := fun z => absurd (Int32.lt_of_le_of_lt h15 z) (by decide)
      have h14 : ¬ v1 ≤ 14 := fun z => absurd (Int32.le_trans h15 z) (by decide)
      exact br_f h0 (br_t h9 (br_f h10 (br_f h14 Q)))
  rcases H with ⟨z, zt⟩ | ⟨z, zt, zs⟩ | ⟨h2, hs, ht, D⟩ | ⟨z, zt, zs, es, ef⟩
  · subst z
    rcases cases with h | h | ⟨j, hj, rfl⟩
    · refine outX (Or.inl h) _ (br_f (by decide) ?_)
      have hn' := hne (Or.inl h)
      exact br_f (hn' 0 (by decide)) (br_f (hn' 1 (by decide)) (br_f (hn' 2 (by decide)) (br_f (hn' 3 (by decide)) (br_f (hn' 4 (by decide)) (br_f (hn' 5 (by decide)) (br_f (hn' 6 (by decide)) (br_f (hn' 7 (by decide)) (br_f (hn' 8 (by decide)) (br_f (hn' 9 (by decide)) (br_f (hn' 10 (by decide)) (br_f (hn' 11 (by decide)) (br_f (hn' 12 (by decide)) (br_f (hn' 13 (by decide)) (br_f (hn' 14 (by decide)) (⟨rfl, J⟩)))))))))))))))
    · refine outX (Or.inr h) _ (br_f (by decide) ?_)
      have hn' := hne (Or.inr h)
      exact br_f (hn' 0 (by decide)) (br_f (hn' 1 (by decide)) (br_f (hn' 2 (by decide)) (br_f (hn' 3 (by decide)) (br_f (hn' 4 (by decide)) (br_f (hn' 5 (by decide)) (br_f (hn' 6 (by decide)) (br_f (hn' 7 (by decide)) (br_f (hn' 8 (by decide)) (br_f (hn' 9 (by decide)) (br_f (hn' 10 (by decide)) (br_f (hn' 11 (by decide)) (br_f (hn' 12 (by decide)) (br_f (hn' 13 (by decide)) (br_f (hn' 14 (by decide)) (⟨rfl, J⟩)))))))))))))))
    · rcases (show j = 0 ∨ j = 1 ∨ j = 2 ∨ j = 3 ∨ j = 4 ∨ j = 5 ∨ j = 6 ∨ j = 7 ∨ j = 8 ∨ j = 9 ∨ j = 10 ∨ j = 11 ∨ j = 12 ∨ j = 13 ∨ j = 14 by omega) with rfl | rfl | rfl | rfl | rfl | rfl | rfl | rfl | rfl | rfl | rfl | rfl | rfl | rfl | rfl
      · exact br_f (by decide) (br_f (by decide) (br_t (by decide) (br_f (by decide) (br_t (by decide) (⟨rfl, J⟩)))))
      · exact br_f (by decide) (br_f (by decide) (br_f (by decide) (br_t (by decide) (br_f (by decide) (br_f (by decide) (br_t (by decide) (⟨rfl, J⟩)))))))
      · exact br_f (by decide) (br_f (by decide) (br_f (by decide) (br_f (by decide) (br_t (by decide) (br_f (by decide) (br_f (by decide) (br_f (by decide) (br_t (by decide) (⟨rfl, J⟩)))))))))
      · exact br_f (by decide) (br_f (by decide) (br_f (by decide) (br_f (by decide) (br_f (by decide) (br_t (by decide) (br_f (by decide) (br_f (by decide) (br_f (by decide) (br_f (by decide) (br_t (by decide) (⟨rfl, J⟩)))))))))))
      · exact br_f (by decide) (br_f (by decide) (br_f (by decide) (br_f (by decide) (br_f (by decide) (br_f (by decide) (br_t (by decide) (br_f (by decide) (br_f (by decide) (br_f (by decide) (br_f (by decide) (br_f (by decide) (br_t (by decide) (⟨rfl, J⟩)))))))))))))
      · exact br_f (by decide) (br_f (by decide) (br_f (by decide) (br_f (by decide) (br_f (by decide) (br_f (by decide) (br_f (by decide) (br_t (by decide) (br_f (by decide) (br_f (by decide) (br_f (by decide) (br_f (by decide) (br_f (by decide) (br_f (by decide) (br_t (by decide) (⟨rfl, J⟩)))))))))))))))
      · exact br_f (by decide) (br_f (by decide) (br_f (by decide) (br_f (by decide) (br_f (by decide) (br_f (by decide) (br_f (by decide) (br_f (by decide) (br_t (by decide) (br_f (by decide) (br_f (by decide) (br_f (by decide) (br_f (by decide) (br_f (by decide) (br_f (by decide) (br_f (by decide) (br_t (by decide) (⟨rfl, J⟩)))))))))))))))))
      · exact br_f (by decide) (br_f (by decide) (br_f (by decide) (br_f (by decide) (br_f (by decide) (br_f (by decide) (br_f (by decide) (br_f (by decide) (br_f (by decide) (br_t (by decide) (br_f (by decide) (br_f (by decide) (br_f (by decide) (br_f (by decide) (br_f (by decide) (br_f (by decide) (br_f (by decide) (br_f (by decide) (br_t (by decide) (⟨rfl, J⟩)))))))))))))))))))
      · exact br_f (by decide) (br_f (by decide) (br_f (by decide) (br_f (by decide) (br_f (by decide) (br_f (by decide) (br_f (by decide) (br_f (by decide) (br_f (by decide) (br_f (by decide) (br_t (by decide) (br_f (by decide) (br_f (by decide) (br_f (by decide) (br_f (by decide) (br_f (by decide) (br_f (by decide) (br_f (by decide) (br_f (by decide) (br_f (by decide) (br_t (by decide) (⟨rfl, J⟩)))))))))))))))))))))
      · exact br_f (by decide) (br_f (by decide) (br_f (by decide) (br_f (by decide) (br_f (by decide) (br_f (by decide) (br_f (by decide) (br_f (by decide) (br_f (by decide) (br_f (by decide) (br_f (by decide) (br_t (by decide) (br_f (by decide) (br_f (by decide) (br_f (by decide) (br_f (by decide) (br_f (by decide) (br_f (by decide) (br_f (by decide) (br_f (by decide) (br_f (by decide) (br_f (by decide) (br_t (by decide) (⟨rfl, J⟩)))))))))))))))))))))))
      · exact br_f (by decide) (br_t (by decide) (br_f (by decide) (br_t (by decide) (br_f (by decide) (br_t (by decide) (br_f (by decide) (br_f (by decide) (br_f (by decide) (br_f (by decide) (br_f (by decide) (br_f (by decide) (br_f (by decide) (br_f (by decide) (br_f (by decide) (br_f (by decide) (br_f (by decide) (br_f (by decide) (br_f (by decide) (br_t (by decide) (br_f (by decide) (br_f (by decide) (⟨rfl, J⟩))))))))))))))))))))))
      · exact br_f (by decide) (br_t (by decide) (br_f (by decide) (br_t (by decide) (br_f (by decide) (br_f (by decide) (br_f (by decide) (br_f (by decide) (br_f (by decide) (br_f (by decide) (br_f (by decide) (br_f (by decide) (br_f (by decide) (br_f (by decide) (br_f (by decide) (br_f (by decide) (br_f (by decide) (br_f (by decide) (br_f (by decide) (br_t (by decide) (br_f (by decide) (⟨rfl, J⟩)))))))))))))))))))))
      · exact br_f (by decide) (br_t (by decide) (br_f (by decide) (br_t (by decide) (br_f (by decide) (br_f (by decide) (br_f (by decide) (br_f (by decide) (br_f (by decide) (br_f (by decide) (br_f (by decide) (br_f (by decide) (br_f (by decide) (br_f (by decide) (br_f (by decide) (br_f (by decide) (br_f (by decide) (br_f (by decide) (br_f (by decide) (br_f (by decide) (br_t (by decide) (br_f (by decide) (⟨rfl, J⟩))))))))))))))))))))))
      · exact br_f (by decide) (br_t (by decide) (br_f (by decide) (br_t (by decide) (br_f (by decide) (br_f (by decide) (br_f (by decide) (br_f (by decide) (br_f (by decide) (br_f (by decide) (br_f (by decide) (br_f (by decide) (br_f (by decide) (br_f (by decide) (br_f (by decide) (br_f (by decide) (br_f (by decide) (br_f (by decide) (br_f (by decide) (br_f (by decide) (br_f (by decide) (br_t (by decide) (br_f (by decide) (⟨rfl, J⟩)))))))))))))))))))))))
      · exact br_f (by decide) (br_t (by decide) (br_f (by decide) (br_t (by decide) (br_t (by decide) (br_f (by decide) (br_f (by decide) (br_f (by decide) (br_f (by decide) (br_f (by decide) (br_f (by decide) (br_f (by decide) (br_f (by decide) (br_f (by decide) (br_f (by decide) (br_f (by decide) (br_f (by decide) (br_f (by decide) (br_f (by decide) (br_f (by decide) (br_f (by decide) (br_t (by decide) (br_f (by decide) (⟨rfl, J⟩)))))))))))))))))))))))
  · subst z
    rcases cases with h | h | ⟨j, hj, rfl⟩
    · refine outX (Or.inl h) _ (br_f (by decide) ?_)
      have hn' := hne (Or.inl h)
      exact br_f (hn' 0 (by decide)) (br_f (hn' 1 (by decide)) (br_f (hn' 2 (by decide)) (br_f (hn' 3 (by decide)) (br_f (hn' 4 (by decide)) (br_f (hn' 5 (by decide)) (br_f (hn' 6 (by decide)) (br_f (hn' 7 (by decide)) (br_f (hn' 8 (by decide)) (br_f (hn' 9 (by decide)) (br_f (hn' 10 (by decide)) (br_f (hn' 11 (by decide)) (br_f (hn' 12 (by decide)) (br_f (hn' 13 (by decide)) (br_f (hn' 14 (by decide)) (⟨rfl, J⟩)))))))))))))))
    · refine outX (Or.inr h) _ (br_f (by decide) ?_)
      have hn' := hne (Or.inr h)
      exact br_f (hn' 0 (by decide)) (br_f (hn' 1 (by decide)) (br_f (hn' 2 (by decide)) (br_f (hn' 3 (by decide)) (br_f (hn' 4 (by decide)) (br_f (hn' 5 (by decide)) (br_f (hn' 6 (by decide)) (br_f (hn' 7 (by decide)) (br_f (hn' 8 (by decide)) (br_f (hn' 9 (by decide)) (br_f (hn' 10 (by decide)) (br_f (hn' 11 (by decide)) (br_f (hn' 12 (by decide)) (br_f (hn' 13 (by decide)) (br_f (hn' 14 (by decide)) (⟨rfl, J⟩)))))))))))))))
    · rcases (show j = 0 ∨ j = 1 ∨ j = 2 ∨ j = 3 ∨ j = 4 ∨ j = 5 ∨ j = 6 ∨ j = 7 ∨ j = 8 ∨ j = 9 ∨ j = 10 ∨ j = 11 ∨ j = 12 ∨ j = 13 ∨ j = 14 by omega) with rfl | rfl | rfl | rfl | rfl | rfl | rfl | rfl | rfl | rfl | rfl | rfl | rfl | rfl | rfl
      · exact br_f (by decide) (br_f (by decide) (br_t (by decide) (br_f (by decide) (br_t (by decide) (⟨rfl, J⟩)))))
      · exact br_f (by decide) (br_f (by decide) (br_f (by decide) (br_t (by decide) (br_f (by decide) (br_f (by decide) (br_t (by decide) (⟨rfl, J⟩)))))))
      · exact br_f (by decide) (br_f (by decide) (br_f (by decide) (br_f (by decide) (br_t (by decide) (br_f (by decide) (br_f (by decide) (br_f (by decide) (br_t (by decide) (⟨rfl, J⟩)))))))))
      · exact br_f (by decide) (br_f (by decide) (br_f (by decide) (br_f (by decide) (br_f (by decide) (br_t (by decide) (br_f (by decide) (br_f (by decide) (br_f (by decide) (br_f (by decide) (br_t (by decide) (⟨rfl, J⟩)))))))))))
      · exact br_f (by decide) (br_f (by decide) (br_f (by decide) (br_f (by decide) (br_f (by decide) (br_f (by decide) (br_t (by decide) (br_f (by decide) (br_f (by decide) (br_f (by decide) (br_f (by decide) (br_f (by decide) (br_t (by decide) (⟨rfl, J⟩)))))))))))))
      · exact br_f (by decide) (br_f (by decide) (br_f (by decide) (br_f (by decide) (br_f (by decide) (br_f (by decide) (br_f (by decide) (br_t (by decide) (br_f (by decide) (br_f (by decide) (br_f (by decide) (br_f (by decide) (br_f (by decide) (br_f (by decide) (br_t (by decide) (⟨rfl, J⟩)))))))))))))))
      · exact br_f (by decide) (br_f (by decide) (br_f (by decide) (br_f (by decide) (br_f (by decide) (br_f (by decide) (br_f (by decide) (br_f (by decide) (br_t (by decide) (br_f (by decide) (br_f (by decide) (br_f (by decide) (br_f (by decide) (br_f (by decide) (br_f (by decide) (br_f (by decide) (br_t (by decide) (⟨rfl, J⟩)))))))))))))))))
      · exact br_f (by decide) (br_f (by decide) (br_f (by decide) (br_f (by decide) (br_f (by decide) (br_f (by decide) (br_f (by decide) (br_f (by decide) (br_f (by decide) (br_t (by decide) (br_f (by decide) (br_f (by decide) (br_f (by decide) (br_f (by decide) (br_f (by decide) (br_f (by decide) (br_f (by decide) (br_f (by decide) (br_t (by decide) (⟨rfl, J⟩)))))))))))))))))))
      · exact br_f (by decide) (br_f (by decide) (br_f (by decide) (br_f (by decide) (br_f (by decide) (br_f (by decide) (br_f (by decide) (br_f (by decide) (br_f (by decide) (br_f (by decide) (br_t (by decide) (br_f (by decide) (br_f (by decide) (br_f (by decide) (br_f (by decide) (br_f (by decide) (br_f (by decide) (br_f (by decide) (br_f (by decide) (br_f (by decide) (br_t (by decide) (⟨rfl, J⟩)))))))))))))))))))))
      · exact br_f (by decide) (br_f (by decide) (br_f (by decide) (br_f (by decide) (br_f (by decide) (br_f (by decide) (br_f (by decide) (br_f (by decide) (br_f (by decide) (br_f (by decide) (br_f (by decide) (br_t (by decide) (br_f (by decide) (br_f (by decide) (br_f (by decide) (br_f (by decide) (br_f (by decide) (br_f (by decide) (br_f (by decide) (br_f (by decide) (br_f (by decide) (br_f (by decide) (br_t (by decide) (⟨rfl, J⟩)))))))))))))))))))))))
      · exact br_f (by decide) (br_t (by decide) (br_f (by decide) (br_t (by decide) (br_f (by decide) (br_t (by decide) (br_f (by decide) (br_f (by decide) (br_f (by decide) (br_f (by decide) (br_f (by decide) (br_f (by decide) (br_f (by decide) (br_f (by decide) (br_f (by decide) (br_f (by decide) (br_f (by decide) (br_f (by decide) (br_f (by decide) (br_t (by decide) (br_f (by decide) (br_f (by decide) (⟨rfl, J⟩))))))))))))))))))))))
      · exact br_f (by decide) (br_t (by decide) (br_f (by decide) (br_t (by decide) (br_f (by decide) (br_f (by decide) (br_f (by decide) (br_f (by decide) (br_f (by decide) (br_f (by decide) (br_f (by decide) (br_f (by decide) (br_f (by decide) (br_f (by decide) (br_f (by decide) (br_f (by decide) (br_f (by decide) (br_f (by decide) (br_f (by decide) (br_t (by decide) (br_f (by decide) (⟨rfl, J⟩)))))))))))))))))))))
      · exact br_f (by decide) (br_t (by decide) (br_f (by decide) (br_t (by decide) (br_f (by decide) (br_f (by decide) (br_f (by decide) (br_f (by decide) (br_f (by decide) (br_f (by decide) (br_f (by decide) (br_f (by decide) (br_f (by decide) (br_f (by decide) (br_f (by decide) (br_f (by decide) (br_f (by decide) (br_f (by decide) (br_f (by decide) (br_f (by decide) (br_t (by decide) (br_f (by decide) (⟨rfl, J⟩))))))))))))))))))))))
      · exact br_f (by decide) (br_t (by decide) (br_f (by decide) (br_t (by decide) (br_f (by decide) (br_f (by decide) (br_f (by decide) (br_f (by decide) (br_f (by decide) (br_f (by decide) (br_f (by decide) (br_f (by decide) (br_f (by decide) (br_f (by decide) (br_f (by decide) (br_f (by decide) (br_f (by decide) (br_f (by decide) (br_f (by decide) (br_f (by decide) (br_f (by decide) (br_t (by decide) (br_f (by decide) (⟨rfl, J⟩)))))))))))))))))))))))
      · exact br_f (by decide) (br_t (by decide) (br_f (by decide) (br_t (by decide) (br_t (by decide) (br_f (by decide) (br_f (by decide) (br_f (by decide) (br_f (by decide) (br_f (by decide) (br_f (by decide) (br_f (by decide) (br_f (by decide) (br_f (by decide) (br_f (by decide) (br_f (by decide) (br_f (by decide) (br_f (by decide) (br_f (by decide) (br_f (by decide) (br_f (by decide) (br_t (by decide) (br_f (by decide) (⟨rfl, J⟩)))))))))))))))))))))))
  · subst h2
    have h2 : (2 : Int32) = 2 := rfl
    obtain ⟨na, ns, cur, M, pc, cells, st, lp, c0, ⟨e1, e2, e3, e4, e5⟩, hcur, hI, hM, hx, R, G, hc8, had⟩ := D
    subst e1; subst e2; subst e3; subst e4; subst e5
    have hN : N ≤ 128 := by have := P.2.2.1; have := P.2.2.2.1; omega
    have TI := G.2.2.2.2.2.2
    have pcN : pc ≤ N := G.1
    have hns : ns ≤ 1024 := Nat.le_trans TI.2.2.1 TI.2.2.2.1
    have hY : ∀ r : Int32, (∀ nit ncl : Int32, (cur < ns → nit = a_stepItem cur ∧ ncl = a_stepCell cur) → (ns ≤ cur → nit = nI N ∧ ncl = nI n) → ∀ (post : Int32 → SY → Prop) (dcell cell seen val der start counter total : Nat → Int32), post r (nI (q + 1), nI n, nI rm, 2, nI N, nI cur, f_hasTangent, nI (rs_sz a_itemKind N), nI (rs_pd a_itemKind a_itemArg N), rs_fac a_itemKind a_itemArg (rs_sk a_itemKind N), rs_wk a_itemKind a_itemArg N, nI (rs_sk a_itemKind N).length, nI (rs_lp a_itemKind (rs_sk a_itemKind N)).length, nI ns, (-1), nit, ncl, nI st.length, a_itemKind, a_itemArg, a_inputs, a_weights, g_tangents, a_marks, cell, dcell, seen, val, der, start, counter, total) → wY_state_17 post v1 (nI (q + 1)) (nI n) (nI rm) 2 (nI N) (nI cur) f_hasTangent (nI (rs_sz a_itemKind N)) (nI (rs_pd a_itemKind a_itemArg N)) (rs_fac a_itemKind a_itemArg (rs_sk a_itemKind N)) (rs_wk a_itemKind a_itemArg N) (nI (rs_sk a_itemKind N).length) (nI (rs_lp a_itemKind (rs_sk a_itemKind N)).length) (nI ns) (-1) nit ncl (nI st.length) a_itemKind a_itemArg a_inputs a_weights g_tangents a_marks cell dcell seen val der start counter total) →
        wpY_state (fun r' v' => r' = r ∧ i_Rel (k + 3) (f_STORE_CELL, f_STORE_AT, f_OPERATOR, f_LOOP, f_LOOP_BY, f_IF, f_ELSE, f_END, f_ACT_ZERO, f_ACT_READ, f_ACT_WRITE, f_ACT_DROP, f_ACT_COMBINE, f_ACT_NEGATE, f_ACT_COPY, f_ACT_EXCHANGE, nI (q + 1), nI n, nI rm, 2, nI N, nI (rs_sz a_itemKind N), nI (rs_pd a_itemKind a_itemArg N), rs_fac a_itemKind a_itemArg (rs_sk a_itemKind N), rs_wk a_itemKind a_itemArg N, nI (rs_sk a_itemKind N).length, nI (rs_lp a_itemKind (rs_sk a_itemKind N)).length, f_depth, f_loopDepth, f_faultItem, nI na, nI ns, nI cur, f_hasTangent, f_flowDepth, a_inputs, a_weights, a_itemKind, a_itemArg, a_itemJump, a_openItem, a_openElse, a_openFactor, a_cells, a_stack, a_loopCounter, a_loopLimit, a_actCode, a_actLeft, a_actRight, a_stepItem, a_stepCell, a_stepOld, a_stepNew, a_stepEnd, a_adjoints, a_tangents, a_flow) v') (nI (q + 1), nI n, nI rm, 2, nI N, nI cur, f_hasTangent, nI (rs_sz a_itemKind N), nI (rs_pd a_itemKind a_itemArg N), rs_fac a_itemKind a_itemArg (rs_sk a_itemKind N), rs_wk a_itemKind a_itemArg N, nI (rs_sk a_itemKind N).length, nI (rs_lp a_itemKind (rs_sk a_itemKind N)).length, nI ns, g_faultItem, f_nextItem, f_nextCell, f_top, a_itemKind, a_itemArg, a_inputs, a_weights, g_tangents, a_marks, a_cell, a_dcell, a_seen, a_val, a_der, a_start, a_counter, a_total) v1 := by
      intro r K
      refine br_t rfl ?_
      refine ry_sim (j := 0) hN hn (by decide) hI hM hx pcN R (fun nit ncl cell dcell seen val der start counter total g1 g2 g3 g4 g5 hD => ?_)
      have g := hD cur rfl (by omega)
      exact K nit ncl g.1 g.2.1 _ dcell cell seen val der start counter total ⟨rfl, rr_in ⟨⟨hp, hn2, hn, hr1, hr2⟩, P, cI, cW, Or.inr (Or.inr (Or.inl ⟨h2, hs, ht, ⟨na, ns, cur, M, pc, cells, st, lp, c0, ⟨rfl, rfl, rfl, rfl, rfl⟩, hcur, hI, hM, hx, R, G, hc8, had⟩⟩))⟩⟩
    rcases cases with h | h | ⟨j, hj, rfl⟩
    · refine outX (Or.inl h) _ (hY (-2) (fun nit ncl _ _ post dcell cell seen val der start counter total Q => ?_))
      have hn' := hne (Or.inl h)
      exact br_f (hn' 0 (by decide)) (br_f (hn' 1 (by decide)) (br_f (hn' 2 (by decide)) (br_f (hn' 3 (by decide)) (br_f (hn' 4 (by decide)) (br_f (hn' 5 (by decide)) (br_f (hn' 6 (by decide)) (br_f (hn' 7 (by decide)) (br_f (hn' 8 (by decide)) (br_f (hn' 9 (by decide)) (br_f (hn' 10 (by decide)) (br_f (hn' 11 (by decide)) (br_f (hn' 12 (by decide)) (br_f (hn' 13 (by decide)) (br_f (hn' 14 (by decide)) (Q)))))))))))))))
    · refine outX (Or.inr h) _ (hY (-2) (fun nit ncl _ _ post dcell cell seen val der start counter total Q => ?_))
      have hn' := hne (Or.inr h)
      exact br_f (hn' 0 (by decide)) (br_f (hn' 1 (by decide)) (br_f (hn' 2 (by decide)) (br_f (hn' 3 (by decide)) (br_f (hn' 4 (by decide)) (br_f (hn' 5 (by decide)) (br_f (hn' 6 (by decide)) (br_f (hn' 7 (by decide)) (br_f (hn' 8 (by decide)) (br_f (hn' 9 (by decide)) (br_f (hn' 10 (by decide)) (br_f (hn' 11 (by decide)) (br_f (hn' 12 (by decide)) (br_f (hn' 13 (by decide)) (br_f (hn' 14 (by decide)) (Q)))))))))))))))
    · rcases (show j = 0 ∨ j = 1 ∨ j = 2 ∨ j = 3 ∨ j = 4 ∨ j = 5 ∨ j = 6 ∨ j = 7 ∨ j = 8 ∨ j = 9 ∨ j = 10 ∨ j = 11 ∨ j = 12 ∨ j = 13 ∨ j = 14 by omega) with rfl | rfl | rfl | rfl | rfl | rfl | rfl | rfl | rfl | rfl | rfl | rfl | rfl | rfl | rfl
      · exact br_f (by decide) (br_f (by decide) (br_t (by decide) (hY _ (fun nit ncl a1 a2 post dcell cell seen val der start counter total Q => br_t (by decide) (Q)))))
      · exact br_f (by decide) (br_f (by decide) (br_f (by decide) (br_t (by decide) (hY _ (fun nit ncl a1 a2 post dcell cell seen val der start counter total Q => br_f (by decide) (br_t (by decide) (Q)))))))
      · exact br_f (by decide) (br_f (by decide) (br_f (by decide) (br_f (by decide) (br_t (by decide) (hY _ (fun nit ncl a1 a2 post dcell cell seen val der start counter total Q => br_f (by decide) (br_f (by decide) (br_t (by decide) (Q)))))))))
      · exact br_f (by decide) (br_f (by decide) (br_f (by decide) (br_f (by decide) (br_f (by decide) (br_t (by decide) (hY _ (fun nit ncl a1 a2 post dcell cell seen val der start counter total Q => br_f (by decide) (br_f (by decide) (br_f (by decide) (br_t (by decide) (Q)))))))))))
      · exact br_f (by decide) (br_f (by decide) (br_f (by decide) (br_f (by decide) (br_f (by decide) (br_f (by decide) (br_t (by decide) (hY _ (fun nit ncl a1 a2 post dcell cell seen val der start counter total Q => br_f (by decide) (br_f (by decide) (br_f (by decide) (br_f (by decide) (br_t (by decide) (Q)))))))))))))
      · exact br_f (by decide) (br_f (by decide) (br_f (by decide) (br_f (by decide) (br_f (by decide) (br_f (by decide) (br_f (by decide) (br_t (by decide) (hY _ (fun nit ncl a1 a2 post dcell cell seen val der start counter total Q => br_f (by decide) (br_f (by decide) (br_f (by decide) (br_f (by decide) (br_f (by decide) (br_t (by decide) (Q)))))))))))))))
      · exact br_f (by decide) (br_f (by decide) (br_f (by decide) (br_f (by decide) (br_f (by decide) (br_f (by decide) (br_f (by decide) (br_f (by decide) (br_t (by decide) (hY _ (fun nit ncl a1 a2 post dcell cell seen val der start counter total Q => br_f (by decide) (br_f (by decide) (br_f (by decide) (br_f (by decide) (br_f (by decide) (br_f (by decide) (br_t (by decide) (Q)))))))))))))))))
      · exact br_f (by decide) (br_f (by decide) (br_f (by decide) (br_f (by decide) (br_f (by decide) (br_f (by decide) (br_f (by decide) (br_f (by decide) (br_f (by decide) (br_t (by decide) (hY _ (fun nit ncl a1 a2 post dcell cell seen val der start counter total Q => br_f (by decide) (br_f (by decide) (br_f (by decide) (br_f (by decide) (br_f (by decide) (br_f (by decide) (br_f (by decide) (br_t (by decide) (Q)))))))))))))))))))
      · exact br_f (by decide) (br_f (by decide) (br_f (by decide) (br_f (by decide) (br_f (by decide) (br_f (by decide) (br_f (by decide) (br_f (by decide) (br_f (by decide) (br_f (by decide) (br_t (by decide) (hY _ (fun nit ncl a1 a2 post dcell cell seen val der start counter total Q => br_f (by decide) (br_f (by decide) (br_f (by decide) (br_f (by decide) (br_f (by decide) (br_f (by decide) (br_f (by decide) (br_f (by decide) (br_t (by decide) (Q)))))))))))))))))))))
      · exact br_f (by decide) (br_f (by decide) (br_f (by decide) (br_f (by decide) (br_f (by decide) (br_f (by decide) (br_f (by decide) (br_f (by decide) (br_f (by decide) (br_f (by decide) (br_f (by decide) (br_t (by decide) (hY _ (fun nit ncl a1 a2 post dcell cell seen val der start counter total Q => br_f (by decide) (br_f (by decide) (br_f (by decide) (br_f (by decide) (br_f (by decide) (br_f (by decide) (br_f (by decide) (br_f (by decide) (br_f (by decide) (br_t (by decide) (Q)))))))))))))))))))))))
      · exact br_f (by decide) (br_t (by decide) (br_f (by decide) (br_t (by decide) (br_f (by decide) (br_t (by decide) (br_f (by decide) (br_t (by decide) (br_t (by decide) (hY _ (fun nit ncl a1 a2 post dcell cell seen val der start counter total Q => br_f (by decide) (br_f (by decide) (br_f (by decide) (br_f (by decide) (br_f (by decide) (br_f (by decide) (br_f (by decide) (br_f (by decide) (br_f (by decide) (br_f (by decide) (br_t (by decide) (br_t (by decide) (Q))))))))))))))))))))))
      · exact br_f (by decide) (br_t (by decide) (br_f (by decide) (br_t (by decide) (br_f (by decide) (br_f (by decide) (br_t (by decide) (br_f (by decide) (br_t (by decide) (hY _ (fun nit ncl a1 a2 post dcell cell seen val der start counter total Q => br_f (by decide) (br_f (by decide) (br_f (by decide) (br_f (by decide) (br_f (by decide) (br_f (by decide) (br_f (by decide) (br_f (by decide) (br_f (by decide) (br_f (by decide) (br_f (by decide) (br_t (by decide) (br_t (by decide) (Q)))))))))))))))))))))))
      · by_cases hc : cur < ns
        · have hlt : nI cur < nI ns := nI_lt hc (by omega)
          refine br_f (by decide) (br_t (by decide) (br_f (by decide) (br_t (by decide) (br_f (by decide) (br_f (by decide) (br_t (by decide) (br_f (by decide) (br_f (by decide) (br_t hlt (br_t (by decide) (br_t (by decide) (⟨vp_in_nI (by omega) (by decide), hY _ (fun nit ncl a1 a2 post dcell cell seen val der start counter total Q => br_f (by decide) (br_f (by decide) (br_f (by decide) (br_f (by decide) (br_f (by decide) (br_f (by decide) (br_f (by decide) (br_f (by decide) (br_f (by decide) (br_f (by decide) (br_f (by decide) (br_f (by decide) (br_t (by decide) (br_t (by decide) (?_)))))))))))))))⟩))))))))))))
          rw [nI_clamp (by omega)] at Q
          have e := (a1 hc).1
          subst e; exact Q
        · have hlt : ¬ nI cur < nI ns := nI_nlt (by omega) (by omega)
          refine br_f (by decide) (br_t (by decide) (br_f (by decide) (br_t (by decide) (br_f (by decide) (br_f (by decide) (br_t (by decide) (br_f (by decide) (br_f (by decide) (br_f hlt (br_t (by decide) (br_f (by decide) (hY _ (fun nit ncl a1 a2 post dcell cell seen val der start counter total Q => br_f (by decide) (br_f (by decide) (br_f (by decide) (br_f (by decide) (br_f (by decide) (br_f (by decide) (br_f (by decide) (br_f (by decide) (br_f (by decide) (br_f (by decide) (br_f (by decide) (br_f (by decide) (br_t (by decide) (br_t (by decide) (?_)))))))))))))))))))))))))))
          have e := (a2 (by omega)).1
          subst e; exact Q
      · by_cases hc : cur < ns
        · have hlt : nI cur < nI ns := nI_lt hc (by omega)
          refine br_f (by decide) (br_t (by decide) (br_f (by decide) (br_t (by decide) (br_f (by decide) (br_f (by decide) (br_t (by decide) (br_f (by decide) (br_f (by decide) (br_t hlt (br_f (by decide) (br_t (by decide) (⟨vp_in_nI (by omega) (by decide), hY _ (fun nit ncl a1 a2 post dcell cell seen val der start counter total Q => br_f (by decide) (br_f (by decide) (br_f (by decide) (br_f (by decide) (br_f (by decide) (br_f (by decide) (br_f (by decide) (br_f (by decide) (br_f (by decide) (br_f (by decide) (br_f (by decide) (br_f (by decide) (br_f (by decide) (br_t (by decide) (br_t (by decide) (?_))))))))))))))))⟩))))))))))))
          rw [nI_clamp (by omega)] at Q
          have e := (a1 hc).2
          subst e; exact Q
        · have hlt : ¬ nI cur < nI ns := nI_nlt (by omega) (by omega)
          refine br_f (by decide) (br_t (by decide) (br_f (by decide) (br_t (by decide) (br_f (by decide) (br_f (by decide) (br_t (by decide) (br_f (by decide) (br_f (by decide) (br_f hlt (br_f (by decide) (br_f (by decide) (hY _ (fun nit ncl a1 a2 post dcell cell seen val der start counter total Q => br_f (by decide) (br_f (by decide) (br_f (by decide) (br_f (by decide) (br_f (by decide) (br_f (by decide) (br_f (by decide) (br_f (by decide) (br_f (by decide) (br_f (by decide) (br_f (by decide) (br_f (by decide) (br_f (by decide) (br_t (by decide) (br_t (by decide) (?_))))))))))))))))))))))))))))
          have e := (a2 (by omega)).2
          subst e; exact Q
      · exact br_f (by decide) (br_t (by decide) (br_f (by decide) (br_t (by decide) (br_t (by decide) (br_f (by decide) (hY _ (fun nit ncl a1 a2 post dcell cell seen val der start counter total Q => br_f (by decide) (br_f (by decide) (br_f (by decide) (br_f (by decide) (br_f (by decide) (br_f (by decide) (br_f (by decide) (br_f (by decide) (br_f (by decide) (br_f (by decide) (br_f (by decide) (br_f (by decide) (br_f (by decide) (br_f (by decide) (br_t (by decide) (br_f (by decide) (Q)))))))))))))))))))))))
  · subst z
    subst es; subst ef
    rcases cases with h | h | ⟨j, hj, rfl⟩
    · refine outX (Or.inl h) _ (br_f (by decide) ?_)
      have hn' := hne (Or.inl h)
      exact br_f (hn' 0 (by decide)) (br_f (hn' 1 (by decide)) (br_f (hn' 2 (by decide)) (br_f (hn' 3 (by decide)) (br_f (hn' 4 (by decide)) (br_f (hn' 5 (by decide)) (br_f (hn' 6 (by decide)) (br_f (hn' 7 (by decide)) (br_f (hn' 8 (by decide)) (br_f (hn' 9 (by decide)) (br_f (hn' 10 (by decide)) (br_f (hn' 11 (by decide)) (br_f (hn' 12 (by decide)) (br_f (hn' 13 (by decide)) (br_f (hn' 14 (by decide)) (⟨rfl, J⟩)))))))))))))))
    · refine outX (Or.inr h) _ (br_f (by decide) ?_)
      have hn' := hne (Or.inr h)
      exact br_f (hn' 0 (by decide)) (br_f (hn' 1 (by decide)) (br_f (hn' 2 (by decide)) (br_f (hn' 3 (by decide)) (br_f (hn' 4 (by decide)) (br_f (hn' 5 (by decide)) (br_f (hn' 6 (by decide)) (br_f (hn' 7 (by decide)) (br_f (hn' 8 (by decide)) (br_f (hn' 9 (by decide)) (br_f (hn' 10 (by decide)) (br_f (hn' 11 (by decide)) (br_f (hn' 12 (by decide)) (br_f (hn' 13 (by decide)) (br_f (hn' 14 (by decide)) (⟨rfl, J⟩)))))))))))))))
    · rcases (show j = 0 ∨ j = 1 ∨ j = 2 ∨ j = 3 ∨ j = 4 ∨ j = 5 ∨ j = 6 ∨ j = 7 ∨ j = 8 ∨ j = 9 ∨ j = 10 ∨ j = 11 ∨ j = 12 ∨ j = 13 ∨ j = 14 by omega) with rfl | rfl | rfl | rfl | rfl | rfl | rfl | rfl | rfl | rfl | rfl | rfl | rfl | rfl | rfl
      · exact br_f (by decide) (br_f (by decide) (br_t (by decide) (br_f (by decide) (br_t (by decide) (⟨rfl, J⟩)))))
      · exact br_f (by decide) (br_f (by decide) (br_f (by decide) (br_t (by decide) (br_f (by decide) (br_f (by decide) (br_t (by decide) (⟨rfl, J⟩)))))))
      · exact br_f (by decide) (br_f (by decide) (br_f (by decide) (br_f (by decide) (br_t (by decide) (br_f (by decide) (br_f (by decide) (br_f (by decide) (br_t (by decide) (⟨rfl, J⟩)))))))))
      · exact br_f (by decide) (br_f (by decide) (br_f (by decide) (br_f (by decide) (br_f (by decide) (br_t (by decide) (br_f (by decide) (br_f (by decide) (br_f (by decide) (br_f (by decide) (br_t (by decide) (⟨rfl, J⟩)))))))))))
      · exact br_f (by decide) (br_f (by decide) (br_f (by decide) (br_f (by decide) (br_f (by decide) (br_f (by decide) (br_t (by decide) (br_f (by decide) (br_f (by decide) (br_f (by decide) (br_f (by decide) (br_f (by decide) (br_t (by decide) (⟨rfl, J⟩)))))))))))))
      · exact br_f (by decide) (br_f (by decide) (br_f (by decide) (br_f (by decide) (br_f (by decide) (br_f (by decide) (br_f (by decide) (br_t (by decide) (br_f (by decide) (br_f (by decide) (br_f (by decide) (br_f (by decide) (br_f (by decide) (br_f (by decide) (br_t (by decide) (⟨rfl, J⟩)))))))))))))))
      · exact br_f (by decide) (br_f (by decide) (br_f (by decide) (br_f (by decide) (br_f (by decide) (br_f (by decide) (br_f (by decide) (br_f (by decide) (br_t (by decide) (br_f (by decide) (br_f (by decide) (br_f (by decide) (br_f (by decide) (br_f (by decide) (br_f (by decide) (br_f (by decide) (br_t (by decide) (⟨rfl, J⟩)))))))))))))))))
      · exact br_f (by decide) (br_f (by decide) (br_f (by decide) (br_f (by decide) (br_f (by decide) (br_f (by decide) (br_f (by decide) (br_f (by decide) (br_f (by decide) (br_t (by decide) (br_f (by decide) (br_f (by decide) (br_f (by decide) (br_f (by decide) (br_f (by decide) (br_f (by decide) (br_f (by decide) (br_f (by decide) (br_t (by decide) (⟨rfl, J⟩)))))))))))))))))))
      · exact br_f (by decide) (br_f (by decide) (br_f (by decide) (br_f (by decide) (br_f (by decide) (br_f (by decide) (br_f (by decide) (br_f (by decide) (br_f (by decide) (br_f (by decide) (br_t (by decide) (br_f (by decide) (br_f (by decide) (br_f (by decide) (br_f (by decide) (br_f (by decide) (br_f (by decide) (br_f (by decide) (br_f (by decide) (br_f (by decide) (br_t (by decide) (⟨rfl, J⟩)))))))))))))))))))))
      · exact br_f (by decide) (br_f (by decide) (br_f (by decide) (br_f (by decide) (br_f (by decide) (br_f (by decide) (br_f (by decide) (br_f (by decide) (br_f (by decide) (br_f (by decide) (br_f (by decide) (br_t (by decide) (br_f (by decide) (br_f (by decide) (br_f (by decide) (br_f (by decide) (br_f (by decide) (br_f (by decide) (br_f (by decide) (br_f (by decide) (br_f (by decide) (br_f (by decide) (br_t (by decide) (⟨rfl, J⟩)))))))))))))))))))))))
      · exact br_f (by decide) (br_t (by decide) (br_f (by decide) (br_t (by decide) (br_f (by decide) (br_t (by decide) (br_t (by decide) (br_f (by decide) (br_f (by decide) (br_f (by decide) (br_f (by decide) (br_f (by decide) (br_f (by decide) (br_f (by decide) (br_f (by decide) (br_f (by decide) (br_f (by decide) (br_f (by decide) (br_t (by decide) (br_f (by decide) (br_t (by decide) (⟨rfl, J⟩)))))))))))))))))))))
      · exact br_f (by decide) (br_t (by decide) (br_f (by decide) (br_t (by decide) (br_f (by decide) (br_f (by decide) (br_f (by decide) (br_f (by decide) (br_f (by decide) (br_f (by decide) (br_f (by decide) (br_f (by decide) (br_f (by decide) (br_f (by decide) (br_f (by decide) (br_f (by decide) (br_f (by decide) (br_f (by decide) (br_f (by decide) (br_t (by decide) (br_f (by decide) (⟨rfl, J⟩)))))))))))))))))))))
      · exact br_f (by decide) (br_t (by decide) (br_f (by decide) (br_t (by decide) (br_f (by decide) (br_f (by decide) (br_f (by decide) (br_f (by decide) (br_f (by decide) (br_f (by decide) (br_f (by decide) (br_f (by decide) (br_f (by decide) (br_f (by decide) (br_f (by decide) (br_f (by decide) (br_f (by decide) (br_f (by decide) (br_f (by decide) (br_f (by decide) (br_t (by decide) (br_f (by decide) (⟨rfl, J⟩))))))))))))))))))))))
      · exact br_f (by decide) (br_t (by decide) (br_f (by decide) (br_t (by decide) (br_f (by decide) (br_f (by decide) (br_f (by decide) (br_f (by decide) (br_f (by decide) (br_f (by decide) (br_f (by decide) (br_f (by decide) (br_f (by decide) (br_f (by decide) (br_f (by decide) (br_f (by decide) (br_f (by decide) (br_f (by decide) (br_f (by decide) (br_f (by decide) (br_f (by decide) (br_t (by decide) (br_f (by decide) (⟨rfl, J⟩)))))))))))))))))))))))
      · exact br_f (by decide) (br_t (by decide) (br_f (by decide) (br_t (by decide) (br_t (by decide) (br_t (by decide) (br_f (by decide) (br_f (by decide) (br_f (by decide) (br_f (by decide) (br_f (by decide) (br_f (by decide) (br_f (by decide) (br_f (by decide) (br_f (by decide) (br_f (by decide) (br_f (by decide) (br_f (by decide) (br_f (by decide) (br_f (by decide) (br_f (by decide) (br_t (by decide) (br_t (by decide) (⟨rfl, J⟩)))))))))))))))))))))))
end
section
/-! run -/
section
variable {f_STORE_CELL f_STORE_AT f_OPERATOR f_LOOP f_LOOP_BY f_IF f_ELSE f_END f_ACT_ZERO f_ACT_READ f_ACT_WRITE f_ACT_DROP f_ACT_COMBINE f_ACT_NEGATE f_ACT_COPY f_ACT_EXCHANGE f_prime f_cellCount f_room f_phase f_itemCount f_size f_pending f_factor f_work f_openCount f_openLoops f_depth f_loopDepth f_faultItem f_actCount f_stepCount f_cursor f_hasTangent f_flowDepth : Int32} {a_inputs a_weights a_itemKind a_itemArg a_itemJump a_openItem a_openElse a_openFactor a_cells a_stack a_loopCounter a_loopLimit a_actCode a_actLeft a_actRight a_stepItem a_stepCell a_stepOld a_stepNew a_stepEnd a_adjoints a_tangents a_flow : Nat → Int32}
theorem rx_run_lp {post : Int32 → SX → Prop} (K : ∀ cl, (∀ i, i < 8 → cl i = a_inputs i) → wpX_execute (fun r u => match u with | (f_STORE_CELL, f_STORE_AT, f_OPERATOR, f_LOOP, f_LOOP_BY, f_IF, f_ELSE, f_END, f_ACT_ZERO, f_ACT_READ, f_ACT_WRITE, f_ACT_DROP, f_ACT_COMBINE, f_ACT_NEGATE, f_ACT_COPY, f_ACT_EXCHANGE, f_prime, f_cellCount, f_room, f_phase, f_itemCount, f_size, f_pending, f_factor, f_work, f_openCount, f_openLoops, f_depth, f_loopDepth, f_faultItem, f_actCount, f_stepCount, f_cursor, f_hasTangent, f_flowDepth, a_inputs, a_weights, a_itemKind, a_itemArg, a_itemJump, a_openItem, a_openElse, a_openFactor, a_cells, a_stack, a_loopCounter, a_loopLimit, a_actCode, a_actLeft, a_actRight, a_stepItem, a_stepCell, a_stepOld, a_stepNew, a_stepEnd, a_adjoints, a_tangents, a_flow) => ((r = 0 → (post (-7) (f_STORE_CELL, f_STORE_AT, f_OPERATOR, f_LOOP, f_LOOP_BY, f_IF, f_ELSE, f_END, f_ACT_ZERO, f_ACT_READ, f_ACT_WRITE, f_ACT_DROP, f_ACT_COMBINE, f_ACT_NEGATE, f_ACT_COPY, f_ACT_EXCHANGE, f_prime, f_cellCount, f_room, 3, f_itemCount, f_size, f_pending, f_factor, f_work, f_openCount, f_openLoops, f_depth, f_loopDepth, f_faultItem, f_actCount, f_stepCount, f_cursor, f_hasTangent, f_flowDepth, a_inputs, a_weights, a_itemKind, a_itemArg, a_itemJump, a_openItem, a_openElse, a_openFactor, a_cells, a_stack, a_loopCounter, a_loopLimit, a_actCode, a_actLeft, a_actRight, a_stepItem, a_stepCell, a_stepOld, a_stepNew, a_stepEnd, a_adjoints, a_tangents, a_flow))) ∧ (¬ r = 0 → (wpX_seedAdjoints (fun u => match u with | (f_STORE_CELL, f_STORE_AT, f_OPERATOR, f_LOOP, f_LOOP_BY, f_IF, f_ELSE, f_END, f_ACT_ZERO, f_ACT_READ, f_ACT_WRITE, f_ACT_DROP, f_ACT_COMBINE, f_ACT_NEGATE, f_ACT_COPY, f_ACT_EXCHANGE, f_prime, f_cellCount, f_room, f_phase, f_itemCount, f_size, f_pending, f_factor, f_work, f_openCount, f_openLoops, f_depth, f_loopDepth, f_faultItem, f_actCount, f_stepCount, f_cursor, f_hasTangent, f_flowDepth, a_inputs, a_weights, a_itemKind, a_itemArg, a_itemJump, a_openItem, a_openElse, a_openFactor, a_cells, a_stack, a_loopCounter, a_loopLimit, a_actCode, a_actLeft, a_actRight, a_stepItem, a_stepCell, a_stepOld, a_stepNew, a_stepEnd, a_adjoints, a_tangents, a_flow) => (post f_stepCount (f_STORE_CELL, f_STORE_AT, f_OPERATOR, f_LOOP, f_LOOP_BY, f_IF, f_ELSE, f_END, f_ACT_ZERO, f_ACT_READ, f_ACT_WRITE, f_ACT_DROP, f_ACT_COMBINE, f_ACT_NEGATE, f_ACT_COPY, f_ACT_EXCHANGE, f_prime, f_cellCount, f_room, f_phase, f_itemCount, f_size, f_pending, f_factor, f_work, f_openCount, f_openLoops, f_depth, f_loopDepth, f_faultItem, f_actCount, f_stepCount, f_cursor, f_hasTangent, f_flowDepth, a_inputs, a_weights, a_itemKind, a_itemArg, a_itemJump, a_openItem, a_openElse, a_openFactor, a_cells, a_stack, a_loopCounter, a_loopLimit, a_actCode, a_actLeft, a_actRight, a_stepItem, a_stepCell, a_stepOld, a_stepNew, a_stepEnd, a_adjoints, a_tangents, a_flow))) (f_STORE_CELL, f_STORE_AT, f_OPERATOR, f_LOOP, f_LOOP_BY, f_IF, f_ELSE, f_END, f_ACT_ZERO, f_ACT_READ, f_ACT_WRITE, f_ACT_DROP, f_ACT_COMBINE, f_ACT_NEGATE, f_ACT_COPY, f_ACT_EXCHANGE, f_prime, f_cellCount, f_room, 2, f_itemCount, f_size, f_pending, f_factor, f_work, f_openCount, f_openLoops, f_depth, f_loopDepth, f_faultItem, f_actCount, f_stepCount, f_stepCount, f_hasTangent, f_flowDepth, a_inputs, a_weights, a_itemKind, a_itemArg, a_itemJump, a_openItem, a_openElse, a_openFactor, a_cells, a_stack, a_loopCounter, a_loopLimit, a_actCode, a_actLeft, a_actRight, a_stepItem, a_stepCell, a_stepOld, a_stepNew, a_stepEnd, a_adjoints, a_tangents, a_flow))))) (f_STORE_CELL, f_STORE_AT, f_OPERATOR, f_LOOP, f_LOOP_BY, f_IF, f_ELSE, f_END, f_ACT_ZERO, f_ACT_READ, f_ACT_WRITE, f_ACT_DROP, f_ACT_COMBINE, f_ACT_NEGATE, f_ACT_COPY, f_ACT_EXCHANGE, f_prime, f_cellCount, f_room, f_phase, f_itemCount, f_size, f_pending, f_factor, f_work, f_openCount, f_openLoops, f_depth, f_loopDepth, f_faultItem, f_actCount, f_stepCount, f_cursor, f_hasTangent, f_flowDepth, a_inputs, a_weights, a_itemKind, a_itemArg, a_itemJump, a_openItem, a_openElse, a_openFactor, cl, a_stack, a_loopCounter, a_loopLimit, a_actCode, a_actLeft, a_actRight, a_stepItem, a_stepCell, a_stepOld, a_stepNew, a_stepEnd, a_adjoints, a_tangents, a_flow)) :
    ∀ (d i : Nat) (cl : Nat → Int32), i + d = 8 → (∀ t, t < i → cl t = a_inputs t) → wX_run_15 post f_STORE_CELL f_STORE_AT f_OPERATOR f_LOOP f_LOOP_BY f_IF f_ELSE f_END f_ACT_ZERO f_ACT_READ f_ACT_WRITE f_ACT_DROP f_ACT_COMBINE f_ACT_NEGATE f_ACT_COPY f_ACT_EXCHANGE f_prime f_cellCount f_room f_phase f_itemCount f_size f_pending f_factor f_work f_openCount f_openLoops f_depth f_loopDepth f_faultItem f_actCount f_stepCount f_cursor f_hasTangent f_flowDepth (d + 1) (nI i) a_inputs a_weights a_itemKind a_itemArg a_itemJump a_openItem a_openElse a_openFactor cl a_stack a_loopCounter a_loopLimit a_actCode a_actLeft a_actRight a_stepItem a_stepCell a_stepOld a_stepNew a_stepEnd a_adjoints a_tangents a_flow
  | 0, i, cl, h, h1 => br_t (nI_le (a := 8) (b := i) (by omega) (by omega)) (K cl (fun t ht => h1 t (by omega)))
  | d + 1, i, cl, h, h1 => by
    refine br_f (nI_ge (a := i) (b := 8) (by omega) (by omega)) ⟨vp_in_nI (by omega) (by decide), vp_in_nI (by omega) (by decide), nm_r (e' := upd cl i (a_inputs i)) (by rw [nI_clamp (by omega)]) (nm_r (nI_1 i) (rx_run_lp K d (i + 1) _ (by omega) ?_))⟩
    intro t ht
    by_cases z : t = i
    · rw [z, pk_us]
    · rw [pk_un z]; exact h1 t (by omega)
end
theorem i_vc_run {k : Nat} {u : SX} {v : SY} (I : i_Rel k u v) (hk : k + 3 ≤ 1539) : wpX_run (fun r u' => wpY_run (fun r' v' => r' = r ∧ i_Rel (k + 3) u' v') v) u := by
  refine rr_el (P := fun u v => wpX_run (fun r u' => wpY_run (fun r' v' => r' = r ∧ i_Rel (k + 3) u' v') v) u) ?_ I
  intro q n rm N f_STORE_CELL f_STORE_AT f_OPERATOR f_LOOP f_LOOP_BY f_IF f_ELSE f_END f_ACT_ZERO f_ACT_READ f_ACT_WRITE f_ACT_DROP f_ACT_COMBINE f_ACT_NEGATE f_ACT_COPY f_ACT_EXCHANGE f_phase f_depth f_loopDepth f_faultItem f_actCount f_stepCount f_cursor f_hasTangent f_flowDepth f_steps f_nextItem f_nextCell f_top g_cursor g_faultItem a_inputs a_weights a_itemKind a_itemArg a_itemJump a_openItem a_openElse a_openFactor a_cells a_stack a_loopCounter a_loopLimit a_actCode a_actLeft a_actRight a_stepItem a_stepCell a_stepOld a_stepNew a_stepEnd a_adjoints a_tangents a_flow a_marks a_cell a_dcell a_seen a_val a_der a_start a_counter a_total g_tangents F
  have J : i_Rel (k + 3) (f_STORE_CELL, f_STORE_AT, f_OPERATOR, f_LOOP, f_LOOP_BY, f_IF, f_ELSE, f_END, f_ACT_ZERO, f_ACT_READ, f_ACT_WRITE, f_ACT_DROP, f_ACT_COMBINE, f_ACT_NEGATE, f_ACT_COPY, f_ACT_EXCHANGE, nI (q + 1), nI n, nI rm, f_phase, nI N, nI (rs_sz a_itemKind N), nI (rs_pd a_itemKind a_itemArg N), rs_fac a_itemKind a_itemArg (rs_sk a_itemKind N), rs_wk a_itemKind a_itemArg N, nI (rs_sk a_itemKind N).length, nI (rs_lp a_itemKind (rs_sk a_itemKind N)).length, f_depth, f_loopDepth, f_faultItem, f_actCount, f_stepCount, f_cursor, f_hasTangent, f_flowDepth, a_inputs, a_weights, a_itemKind, a_itemArg, a_itemJump, a_openItem, a_openElse, a_openFactor, a_cells, a_stack, a_loopCounter, a_loopLimit, a_actCode, a_actLeft, a_actRight, a_stepItem, a_stepCell, a_stepOld, a_stepNew, a_stepEnd, a_adjoints, a_tangents, a_flow) (nI (q + 1), nI n, nI rm, f_phase, nI N, g_cursor, f_hasTangent, nI (rs_sz a_itemKind N), nI (rs_pd a_itemKind a_itemArg N), rs_fac a_itemKind a_itemArg (rs_sk a_itemKind N), rs_wk a_itemKind a_itemArg N, nI (rs_sk a_itemKind N).length, nI (rs_lp a_itemKind (rs_sk a_itemKind N)).length, f_steps, g_faultItem, f_nextItem, f_nextCell, f_top, a_itemKind, a_itemArg, a_inputs, a_weights, g_tangents, a_marks, a_cell, a_dcell, a_seen, a_val, a_der, a_start, a_counter, a_total) := rr_in F
  obtain ⟨⟨hp, hn2, hn, hr1, hr2⟩, P, cI, cW, H⟩ := F
  have hq := (ra_pr_lt hp).1
  have hN : N ≤ 128 := by have := P.2.2.1; have := P.2.2.2.1; omega
  by_cases h0 : f_phase = 0
  · exact br_t h0 (br_t h0 ⟨rfl, J⟩)
  · have hs : rs_sk a_itemKind N = [] := by
      rcases H with ⟨z, _⟩ | ⟨_, _, z⟩ | ⟨_, z, _⟩ | ⟨_, _, z, _⟩
      · exact absurd z h0
      · exact z
      · exact z
      · exact z
    refine br_f h0 ?_
    unfold wpX_discardRun
    refine ⟨9, rx_run_lp (fun cl hcl => ?_) 8 0 a_cells (by omega) (fun t ht => absurd ht (Nat.not_lt_zero t))⟩
    have G0 : rc_G q n N a_itemKind a_itemArg a_inputs (0, cl, [], [], a_actCode, a_actLeft, a_actRight, 0, a_stepItem, a_stepCell, a_stepOld, a_stepNew, a_stepEnd, 0) := ⟨Nat.zero_le _, fun i hi => by rw [hcl i (by omega)]; exact cI i hi, fun x hx => absurd hx (List.not_mem_nil), rfl, rfl, fun x hx => absurd hx (List.not_mem_nil), rc_TI0 hcl⟩
    have I0 : rc_I a_inputs (0, cl, [], [], a_actCode, a_actLeft, a_actRight, 0, a_stepItem, a_stepCell, a_stepOld, a_stepNew, a_stepEnd, 0) := ⟨rfl, hcl, rfl, rfl, rfl, rfl⟩
    rcases rk_ex (inp := a_inputs) hp (by omega) hn hN P.1 hs P.2.1 1024 (0, cl, [], [], a_actCode, a_actLeft, a_actRight, 0, a_stepItem, a_stepCell, a_stepOld, a_stepNew, a_stepEnd, 0) 0 rfl G0 (Nat.le_refl _) with ⟨M, c', m1, m2, R, G', w⟩ | ⟨M, c', m1, m2, R, yd, w⟩
    · obtain ⟨pc, cells, st, lp, AC, AL, AR, na, SI, SC, SO, SN, SE, ns⟩ := c'
      have TI := G'.2.2.2.2.2.2
      refine ⟨1025, w f_STORE_CELL f_STORE_AT f_OPERATOR f_LOOP f_LOOP_BY f_IF f_ELSE f_END f_ACT_ZERO f_ACT_READ f_ACT_WRITE f_ACT_DROP f_ACT_COMBINE f_ACT_NEGATE f_ACT_COPY f_ACT_EXCHANGE (nI (q + 1)) (nI n) (nI rm) f_phase (nI N) (nI (rs_sz a_itemKind N)) (nI (rs_pd a_itemKind a_itemArg N)) (rs_fac a_itemKind a_itemArg (rs_sk a_itemKind N)) (rs_wk a_itemKind a_itemArg N) (nI (rs_sk a_itemKind N).length) (nI (rs_lp a_itemKind (rs_sk a_itemKind N)).length) 0 0 (-1) 0 0 0 0 0 a_inputs a_weights a_itemKind a_itemArg a_itemJump a_openItem a_openElse a_openFactor cl a_stack a_loopCounter a_loopLimit a_actCode a_actLeft a_actRight a_stepItem a_stepCell a_stepOld a_stepNew a_stepEnd a_adjoints a_tangents a_flow _ ?_ a_stack a_loopCounter a_loopLimit True.intro True.intro True.intro⟩
      intro S C L hS hC hL
      refine br_f (by decide) (rx_seed (fun ad had => br_f h0 ?_))
      refine ry_sim (j := 0) hN hn (by decide) I0 (by omega) (by omega) G'.1 R (fun nit ncl cell dcell seen val der start counter total g1 g2 g3 g4 g5 hD => br_f (by decide) (br_t rfl ⟨rfl, ?_⟩))
      exact rr_in ⟨⟨hp, hn2, hn, hr1, hr2⟩, P, cI, cW, Or.inr (Or.inr (Or.inl ⟨rfl, hs, Or.inl rfl, ⟨na, ns, ns, M, pc, cells, st, lp, (0, cl, [], [], a_actCode, a_actLeft, a_actRight, 0, a_stepItem, a_stepCell, a_stepOld, a_stepNew, a_stepEnd, 0), ⟨rfl, rfl, rfl, rfl, rfl⟩, Nat.le_refl _, I0, by omega, by omega, R, G', TI.2.2.2.2.2.2.2.2.2, fun i hi => by rw [Nat.sub_self]; exact had i (by omega)⟩⟩))⟩
    · obtain ⟨pc, cells, st, lp, AC, AL, AR, na, SI, SC, SO, SN, SE, ns⟩ := c'
      refine ⟨1025, w f_STORE_CELL f_STORE_AT f_OPERATOR f_LOOP f_LOOP_BY f_IF f_ELSE f_END f_ACT_ZERO f_ACT_READ f_ACT_WRITE f_ACT_DROP f_ACT_COMBINE f_ACT_NEGATE f_ACT_COPY f_ACT_EXCHANGE (nI (q + 1)) (nI n) (nI rm) f_phase (nI N) (nI (rs_sz a_itemKind N)) (nI (rs_pd a_itemKind a_itemArg N)) (rs_fac a_itemKind a_itemArg (rs_sk a_itemKind N)) (rs_wk a_itemKind a_itemArg N) (nI (rs_sk a_itemKind N).length) (nI (rs_lp a_itemKind (rs_sk a_itemKind N)).length) 0 0 (-1) 0 0 0 0 0 a_inputs a_weights a_itemKind a_itemArg a_itemJump a_openItem a_openElse a_openFactor cl a_stack a_loopCounter a_loopLimit a_actCode a_actLeft a_actRight a_stepItem a_stepCell a_stepOld a_stepNew a_stepEnd a_adjoints a_tangents a_flow _ ?_ a_stack a_loopCounter a_loopLimit True.intro True.intro True.intro⟩
      intro dep S C L
      refine br_t rfl (br_f h0 ?_)
      refine ry_simF (j := 0) hn (by decide) I0 (by omega) R yd (fun nit ncl cell dcell seen val der start counter total g1 g2 g3 g4 g5 hD => br_t (nI_pos' (by have : pc < N := m2; show pc < 2 ^ 31; omega)) (br_f (by decide) ⟨rfl, ?_⟩))
      exact rr_in ⟨⟨hp, hn2, hn, hr1, hr2⟩, P, cI, cW, Or.inr (Or.inr (Or.inr ⟨rfl, rfl, hs, rfl, rfl⟩))⟩
end
section
/-! building: plain items -/
theorem rr_in2 {k q n rm N : Nat} {f_STORE_CELL f_STORE_AT f_OPERATOR f_LOOP f_LOOP_BY f_IF f_ELSE f_END f_ACT_ZERO f_ACT_READ f_ACT_WRITE f_ACT_DROP f_ACT_COMBINE f_ACT_NEGATE f_ACT_COPY f_ACT_EXCHANGE f_phase f_depth f_loopDepth f_faultItem f_actCount f_stepCount f_cursor f_hasTangent f_flowDepth f_steps f_nextItem f_nextCell f_top g_cursor g_faultItem : Int32} {a_inputs a_weights a_itemKind a_itemArg a_itemJump a_openItem a_openElse a_openFactor a_cells a_stack a_loopCounter a_loopLimit a_actCode a_actLeft a_actRight a_stepItem a_stepCell a_stepOld a_stepNew a_stepEnd a_adjoints a_tangents a_flow a_marks a_cell a_dcell a_seen a_val a_der a_start a_counter a_total g_tangents : Nat → Int32} {xs xp xf xw xo xl : Int32} (e1 : xs = nI (rs_sz a_itemKind N)) (e2 : xp = nI (rs_pd a_itemKind a_itemArg N)) (e3 : xf = rs_fac a_itemKind a_itemArg (rs_sk a_itemKind N)) (e4 : xw = rs_wk a_itemKind a_itemArg N) (e5 : xo = nI (rs_sk a_itemKind N).length) (e6 : xl = nI (rs_lp a_itemKind (rs_sk a_itemKind N)).length)
    (F : rr_F q n rm N a_itemKind a_itemArg a_itemJump a_openItem a_openElse a_openFactor a_marks a_inputs a_weights f_phase f_hasTangent f_faultItem f_actCount f_stepCount f_cursor a_cells a_actCode a_actLeft a_actRight a_stepItem a_stepCell a_stepOld a_stepNew a_stepEnd a_adjoints a_tangents f_steps g_cursor g_faultItem g_tangents) : i_Rel k (f_STORE_CELL, f_STORE_AT, f_OPERATOR, f_LOOP, f_LOOP_BY, f_IF, f_ELSE, f_END, f_ACT_ZERO, f_ACT_READ, f_ACT_WRITE, f_ACT_DROP, f_ACT_COMBINE, f_ACT_NEGATE, f_ACT_COPY, f_ACT_EXCHANGE, nI (q + 1), nI n, nI rm, f_phase, nI N, xs, xp, xf, xw, xo, xl, f_depth, f_loopDepth, f_faultItem, f_actCount, f_stepCount, f_cursor, f_hasTangent, f_flowDepth, a_inputs, a_weights, a_itemKind, a_itemArg, a_itemJump, a_openItem, a_openElse, a_openFactor, a_cells, a_stack, a_loopCounter, a_loopLimit, a_actCode, a_actLeft, a_actRight, a_stepItem, a_stepCell, a_stepOld, a_stepNew, a_stepEnd, a_adjoints, a_tangents, a_flow) (nI (q + 1), nI n, nI rm, f_phase, nI N, g_cursor, f_hasTangent, nI (rs_sz a_itemKind N), nI (rs_pd a_itemKind a_itemArg N), rs_fac a_itemKind a_itemArg (rs_sk a_itemKind N), rs_wk a_itemKind a_itemArg N, nI (rs_sk a_itemKind N).length, nI (rs_lp a_itemKind (rs_sk a_itemKind N)).length, f_steps, g_faultItem, f_nextItem, f_nextCell, f_top, a_itemKind, a_itemArg, a_inputs, a_weights, g_tangents, a_marks, a_cell, a_dcell, a_seen, a_val, a_der, a_start, a_counter, a_total) := by
  subst e1; subst e2; subst e3; subst e4; subst e5; subst e6
  exact rr_in F
theorem rr_plain {k q n rm N : Nat} {f_STORE_CELL f_STORE_AT f_OPERATOR f_LOOP f_LOOP_BY f_IF f_ELSE f_END f_ACT_ZERO f_ACT_READ f_ACT_WRITE f_ACT_DROP f_ACT_COMBINE f_ACT_NEGATE f_ACT_COPY f_ACT_EXCHANGE f_phase f_depth f_loopDepth f_faultItem f_actCount f_stepCount f_cursor f_hasTangent f_flowDepth f_steps f_nextItem f_nextCell f_top g_cursor g_faultItem : Int32} {a_inputs a_weights a_itemKind a_itemArg a_itemJump a_openItem a_openElse a_openFactor a_cells a_stack a_loopCounter a_loopLimit a_actCode a_actLeft a_actRight a_stepItem a_stepCell a_stepOld a_stepNew a_stepEnd a_adjoints a_tangents a_flow a_marks a_cell a_dcell a_seen a_val a_der a_start a_counter a_total g_tangents : Nat → Int32} {kk a px : Int32} {ma : Nat → Int32} (F : rr_F q n rm N a_itemKind a_itemArg a_itemJump a_openItem a_openElse a_openFactor a_marks a_inputs a_weights f_phase f_hasTangent f_faultItem f_actCount f_stepCount f_cursor a_cells a_actCode a_actLeft a_actRight a_stepItem a_stepCell a_stepOld a_stepNew a_stepEnd a_adjoints a_tangents f_steps g_cursor g_faultItem g_tangents) (h0 : f_phase = 0) (zt : f_hasTangent = 0) (ok : rs_ok q n (upd a_itemKind N kk) (upd a_itemArg N a) N)
    (h7 : kk ≠ 7) (h8 : kk ≠ 8) (h9 : kk ≠ 9) (h10 : kk ≠ 10) (h11 : kk ≠ 11) (hs1 : rs_s1 kk = 1) (hw : rs_w1 kk a (rs_fac a_itemKind a_itemArg (rs_sk a_itemKind N)) = rs_fac a_itemKind a_itemArg (rs_sk a_itemKind N)) (hsz : rs_sz a_itemKind N + 1 ≤ rm) (c2 : rs_wk a_itemKind a_itemArg N + rs_fac a_itemKind a_itemArg (rs_sk a_itemKind N) ≤ 1024) (epx : px = nI (rs_p1 kk a (rs_pd a_itemKind a_itemArg N)))
    (hm : rl_A (fun x => nI x.2) ma (rs_sk (upd a_itemKind N kk) (N + 1))) : i_Rel k (f_STORE_CELL, f_STORE_AT, f_OPERATOR, f_LOOP, f_LOOP_BY, f_IF, f_ELSE, f_END, f_ACT_ZERO, f_ACT_READ, f_ACT_WRITE, f_ACT_DROP, f_ACT_COMBINE, f_ACT_NEGATE, f_ACT_COPY, f_ACT_EXCHANGE, nI (q + 1), nI n, nI rm, f_phase, nI (N + 1), nI (rs_sz a_itemKind N) + 1, px, rs_fac a_itemKind a_itemArg (rs_sk a_itemKind N), rs_wk a_itemKind a_itemArg N + rs_fac a_itemKind a_itemArg (rs_sk a_itemKind N), nI (rs_sk a_itemKind N).length, nI (rs_lp a_itemKind (rs_sk a_itemKind N)).length, f_depth, f_loopDepth, f_faultItem, f_actCount, f_stepCount, f_cursor, f_hasTangent, f_flowDepth, a_inputs, a_weights, upd a_itemKind N kk, upd a_itemArg N a, upd a_itemJump N (nI N), a_openItem, a_openElse, a_openFactor, a_cells, a_stack, a_loopCounter, a_loopLimit, a_actCode, a_actLeft, a_actRight, a_stepItem, a_stepCell, a_stepOld, a_stepNew, a_stepEnd, a_adjoints, a_tangents, a_flow) (nI (q + 1), nI n, nI rm, f_phase, nI (N + 1), g_cursor, f_hasTangent, nI (rs_sz (upd a_itemKind N kk) (N + 1)), nI (rs_pd (upd a_itemKind N kk) (upd a_itemArg N a) (N + 1)), rs_fac (upd a_itemKind N kk) (upd a_itemArg N a) (rs_sk (upd a_itemKind N kk) (N + 1)), rs_wk (upd a_itemKind N kk) (upd a_itemArg N a) (N + 1), nI (rs_sk (upd a_itemKind N kk) (N + 1)).length, nI (rs_lp (upd a_itemKind N kk) (rs_sk (upd a_itemKind N kk) (N + 1))).length, f_steps, g_faultItem, f_nextItem, f_nextCell, f_top, upd a_itemKind N kk, upd a_itemArg N a, a_inputs, a_weights, g_tangents, ma, a_cell, a_dcell, a_seen, a_val, a_der, a_start, a_counter, a_total) := by
  obtain ⟨c, P, cI, cW, H⟩ := F
  have es := rb_skN (kd := a_itemKind) (N := N) h7 h8 h9 h10 h11
  refine rr_in2 (N := N + 1) ?_ ?_ ?_ ?_ ?_ ?_ ⟨c, rb_P1 P ok h7 h8 h9 h10 h11 hs1 hsz (by rw [rb_wk P.1, hw]; exact c2) hm, cI, cW, Or.inl ⟨h0, zt⟩⟩
  · rw [rb_sz, hs1]; exact nI_1 _
  · rw [rb_pd]; exact epx
  · rw [es, rb_fac P.1]
  · rw [rb_wk P.1, hw]
  · rw [es]
  · rw [es, rb_lp P.1]
def rr_good (n L : Nat) (kk a : Int32) : Prop := kk = 0 ∨ ((kk = 1 ∨ kk = 2) ∧ ∃ c, c < n ∧ a = nI c) ∨ (kk = 3 ∧ ∃ c, c < L ∧ a = nI c)
section
variable {f_STORE_CELL f_STORE_AT f_OPERATOR f_LOOP f_LOOP_BY f_IF f_ELSE f_END f_ACT_ZERO f_ACT_READ f_ACT_WRITE f_ACT_DROP f_ACT_COMBINE f_ACT_NEGATE f_ACT_COPY f_ACT_EXCHANGE f_prime f_cellCount f_room f_phase f_itemCount f_size f_pending f_factor f_work f_openCount f_openLoops f_depth f_loopDepth f_faultItem f_actCount f_stepCount f_cursor f_hasTangent f_flowDepth : Int32} {a_inputs a_weights a_itemKind a_itemArg a_itemJump a_openItem a_openElse a_openFactor a_cells a_stack a_loopCounter a_loopLimit a_actCode a_actLeft a_actRight a_stepItem a_stepCell a_stepOld a_stepNew a_stepEnd a_adjoints a_tangents a_flow : Nat → Int32}
theorem rx_good {post : Int32 → Prop} {n L : Nat} {kk a : Int32} (hn : n ≤ 8) (hL : L ≤ 6) (g : rr_good n L kk a) (K : post 1) : wpX_isGoodOperand post (f_STORE_CELL, f_STORE_AT, f_OPERATOR, f_LOOP, f_LOOP_BY, f_IF, f_ELSE, f_END, f_ACT_ZERO, f_ACT_READ, f_ACT_WRITE, f_ACT_DROP, f_ACT_COMBINE, f_ACT_NEGATE, f_ACT_COPY, f_ACT_EXCHANGE, f_prime, nI n, f_room, f_phase, f_itemCount, f_size, f_pending, f_factor, f_work, f_openCount, nI L, f_depth, f_loopDepth, f_faultItem, f_actCount, f_stepCount, f_cursor, f_hasTangent, f_flowDepth, a_inputs, a_weights, a_itemKind, a_itemArg, a_itemJump, a_openItem, a_openElse, a_openFactor, a_cells, a_stack, a_loopCounter, a_loopLimit, a_actCode, a_actLeft, a_actRight, a_stepItem, a_stepCell, a_stepOld, a_stepNew, a_stepEnd, a_adjoints, a_tangents, a_flow) kk a := by
  rcases g with rfl | ⟨rfl | rfl, c, hc, rfl⟩ | ⟨rfl, c, hc, rfl⟩
  · exact br_t rfl K
  · refine br_f (by decide) (br_t rfl ?_)
    unfold wX_isGoodOperand_16
    exact rx_isCell_t hc hn ⟨rfl, K⟩
  · refine br_f (by decide) (br_f (by decide) (br_t rfl ?_))
    unfold wX_isGoodOperand_16
    exact rx_isCell_t hc hn ⟨rfl, K⟩
  · exact br_f (by decide) (br_f (by decide) (br_f (by decide) (br_t rfl (br_f (nI_pos (by omega)) (br_f (nI_ge hc (by omega)) K)))))
theorem rr_ix {a : Int32} {n : Nat} (hn : n < 2 ^ 31) (h : ¬ ∃ c, c < n ∧ a = nI c) : a < 0 ∨ nI n ≤ a := by
  rcases pk_ix a hn with z | z | z
  · exact Or.inl z
  · exact Or.inr z
  · exact absurd z h
theorem rx_bad {post : Int32 → Prop} {n L : Nat} {kk a : Int32} (hn : n ≤ 8) (hL : L ≤ 6) (g : ¬ rr_good n L kk a) (K : post 0) : wpX_isGoodOperand post (f_STORE_CELL, f_STORE_AT, f_OPERATOR, f_LOOP, f_LOOP_BY, f_IF, f_ELSE, f_END, f_ACT_ZERO, f_ACT_READ, f_ACT_WRITE, f_ACT_DROP, f_ACT_COMBINE, f_ACT_NEGATE, f_ACT_COPY, f_ACT_EXCHANGE, f_prime, nI n, f_room, f_phase, f_itemCount, f_size, f_pending, f_factor, f_work, f_openCount, nI L, f_depth, f_loopDepth, f_faultItem, f_actCount, f_stepCount, f_cursor, f_hasTangent, f_flowDepth, a_inputs, a_weights, a_itemKind, a_itemArg, a_itemJump, a_openItem, a_openElse, a_openFactor, a_cells, a_stack, a_loopCounter, a_loopLimit, a_actCode, a_actLeft, a_actRight, a_stepItem, a_stepCell, a_stepOld, a_stepNew, a_stepEnd, a_adjoints, a_tangents, a_flow) kk a := by
  refine br_f (fun e => g (Or.inl e)) (br_c (fun e => ?_) (fun e1 => br_c (fun e => ?_) (fun e2 => br_c (fun e => ?_) (fun e3 => K))))
  · unfold wX_isGoodOperand_16
    exact rx_isCell_f (rr_ix (by omega) (fun z => g (Or.inr (Or.inl ⟨Or.inl e, z⟩)))) ⟨rfl, K⟩
  · unfold wX_isGoodOperand_16
    exact rx_isCell_f (rr_ix (by omega) (fun z => g (Or.inr (Or.inl ⟨Or.inr e, z⟩)))) ⟨rfl, K⟩
  · refine br_c (fun _ => K) (fun y => br_t ?_ K)
    rcases rr_ix (n := L) (by omega) (fun z => g (Or.inr (Or.inr ⟨e, z⟩))) with z | z
    · exact absurd z y
    · exact z
theorem rx_push63 {post : Int32 → SX → Prop} {N : Nat} {kk a : Int32} (hN : N < 128) (K : post (nI N) (f_STORE_CELL, f_STORE_AT, f_OPERATOR, f_LOOP, f_LOOP_BY, f_IF, f_ELSE, f_END, f_ACT_ZERO, f_ACT_READ, f_ACT_WRITE, f_ACT_DROP, f_ACT_COMBINE, f_ACT_NEGATE, f_ACT_COPY, f_ACT_EXCHANGE, f_prime, f_cellCount, f_room, f_phase, nI (N + 1), f_size + 1, f_pending + 1, f_factor, f_work + f_factor, f_openCount, f_openLoops, f_depth, f_loopDepth, f_faultItem, f_actCount, f_stepCount, f_cursor, f_hasTangent, f_flowDepth, a_inputs, a_weights, upd a_itemKind N kk, upd a_itemArg N a, upd a_itemJump N (nI N), a_openItem, a_openElse, a_openFactor, a_cells, a_stack, a_loopCounter, a_loopLimit, a_actCode, a_actLeft, a_actRight, a_stepItem, a_stepCell, a_stepOld, a_stepNew, a_stepEnd, a_adjoints, a_tangents, a_flow)) : wX_push_63 post kk a f_STORE_CELL f_STORE_AT f_OPERATOR f_LOOP f_LOOP_BY f_IF f_ELSE f_END f_ACT_ZERO f_ACT_READ f_ACT_WRITE f_ACT_DROP f_ACT_COMBINE f_ACT_NEGATE f_ACT_COPY f_ACT_EXCHANGE f_prime f_cellCount f_room f_phase (nI N) f_size f_pending f_factor f_work f_openCount f_openLoops f_depth f_loopDepth f_faultItem f_actCount f_stepCount f_cursor f_hasTangent f_flowDepth a_inputs a_weights a_itemKind a_itemArg a_itemJump a_openItem a_openElse a_openFactor a_cells a_stack a_loopCounter a_loopLimit a_actCode a_actLeft a_actRight a_stepItem a_stepCell a_stepOld a_stepNew a_stepEnd a_adjoints a_tangents a_flow :=
  nm_e (rx_append hN rfl rfl K)
end
section
variable {f_p f_n f_room f_phase f_items f_cursor f_hasTangent f_size f_pending f_factor f_work f_open f_loops f_steps f_faultItem f_nextItem f_nextCell f_top : Int32} {a_kinds a_args a_inputs a_weights a_tangents a_marks a_cell a_dcell a_seen a_val a_der a_start a_counter a_total : Nat → Int32}
theorem ry_good {post : Int32 → SY → Prop} {n L : Nat} {kk a : Int32} (hn : n ≤ 8) (hL : L ≤ 6) (h0 : f_phase = 0) (g : rr_good n L kk a) (K : wY_push_59 post kk a f_p (nI n) f_room f_phase f_items f_cursor f_hasTangent f_size f_pending f_factor f_work f_open (nI L) f_steps f_faultItem f_nextItem f_nextCell f_top a_kinds a_args a_inputs a_weights a_tangents a_marks a_cell a_dcell a_seen a_val a_der a_start a_counter a_total) : wpY_push post (f_p, nI n, f_room, f_phase, f_items, f_cursor, f_hasTangent, f_size, f_pending, f_factor, f_work, f_open, nI L, f_steps, f_faultItem, f_nextItem, f_nextCell, f_top, a_kinds, a_args, a_inputs, a_weights, a_tangents, a_marks, a_cell, a_dcell, a_seen, a_val, a_der, a_start, a_counter, a_total) kk a := by
  rcases g with rfl | ⟨rfl | rfl, c, hc, rfl⟩ | ⟨rfl, c, hc, rfl⟩
  · exact br_t h0 (br_f (by decide) (br_f (by decide) (br_f (by decide) (br_f (by decide) (br_f (by decide) K)))))
  · refine br_t h0 (br_f (by decide) (br_f (by decide) (br_t rfl ?_)))
    unfold wY_push_28
    exact ry_noCell_t hc hn (br_t rfl (br_f (by decide) K))
  · refine br_t h0 (br_f (by decide) (br_f (by decide) (br_f (by decide) (br_t rfl ?_))))
    unfold wY_push_28
    exact ry_noCell_t hc hn (br_t rfl (br_f (by decide) K))
  · exact br_t h0 (br_f (by decide) (br_f (by decide) (br_f (by decide) (br_f (by decide) (br_t rfl (br_f (nI_pos (by omega)) (br_t (nI_lt hc (by omega)) K)))))))
theorem ry_bad {post : Int32 → SY → Prop} {n L : Nat} {kk a : Int32} (hn : n ≤ 8) (hL : L ≤ 6) (h0 : f_phase = 0) (g : ¬ rr_good n L kk a) (K : post (-2) (f_p, nI n, f_room, f_phase, f_items, f_cursor, f_hasTangent, f_size, f_pending, f_factor, f_work, f_open, nI L, f_steps, f_faultItem, f_nextItem, f_nextCell, f_top, a_kinds, a_args, a_inputs, a_weights, a_tangents, a_marks, a_cell, a_dcell, a_seen, a_val, a_der, a_start, a_counter, a_total)) : wpY_push post (f_p, nI n, f_room, f_phase, f_items, f_cursor, f_hasTangent, f_size, f_pending, f_factor, f_work, f_open, nI L, f_steps, f_faultItem, f_nextItem, f_nextCell, f_top, a_kinds, a_args, a_inputs, a_weights, a_tangents, a_marks, a_cell, a_dcell, a_seen, a_val, a_der, a_start, a_counter, a_total) kk a := by
  refine br_t h0 (br_c (fun _ => K) (fun n0 => br_c (fun _ => K) (fun n3 => br_c (fun e => ?_) (fun e1 => br_c (fun e => ?_) (fun e2 => ?_)))))
  · unfold wY_push_28
    exact ry_noCell_f (rr_ix (by omega) (fun z => g (Or.inr (Or.inl ⟨Or.inl e, z⟩)))) (br_f (by decide) K)
  · unfold wY_push_28
    exact ry_noCell_f (rr_ix (by omega) (fun z => g (Or.inr (Or.inl ⟨Or.inr e, z⟩)))) (br_f (by decide) K)
  · have e3 : kk = 3 := by
      have h1 : kk ≤ nI 3 := Int32.not_lt.mp n3
      obtain ⟨j, hj, rfl⟩ := nI_of n0
      rw [nI_leI hj (by decide)] at h1
      rcases (show j = 0 ∨ j = 1 ∨ j = 2 ∨ j = 3 by omega) with rfl | rfl | rfl | rfl
      · exact absurd (Or.inl rfl) g
      · exact absurd rfl e1
      · exact absurd rfl e2
      · rfl
    refine br_t e3 (br_c (fun _ => K) (fun y => br_f (fun x => ?_) K))
    rcases rr_ix (n := L) (by omega) (fun z => g (Or.inr (Or.inr ⟨e3, z⟩))) with z | z
    · exact y z
    · exact absurd x (Int32.not_lt.mpr z)
theorem ry_push59 {post : Int32 → SY → Prop} {q : Nat} {x1 x2 : Int32} (hq : q < 32749) (hp8 : ¬ f_pending = 8) (K : ∀ a, ((x1 = 0 ∧ a = ra_yr (nI (q + 1)) x2) ∨ (¬ x1 = 0 ∧ a = x2)) → wY_push_84 post x1 a (nI (q + 1)) f_n f_room f_phase f_items f_cursor f_hasTangent f_size f_pending f_factor f_work f_open f_loops f_steps f_faultItem f_nextItem f_nextCell f_top a_kinds a_args a_inputs a_weights a_tangents a_marks a_cell a_dcell a_seen a_val a_der a_start a_counter a_total) : wY_push_59 post x1 x2 (nI (q + 1)) f_n f_room f_phase f_items f_cursor f_hasTangent f_size f_pending f_factor f_work f_open f_loops f_steps f_faultItem f_nextItem f_nextCell f_top a_kinds a_args a_inputs a_weights a_tangents a_marks a_cell a_dcell a_seen a_val a_der a_start a_counter a_total :=
  br_f hp8 (br_c (fun h => ry_residue hq (K _ (Or.inl ⟨h, rfl⟩))) (fun h => K _ (Or.inr ⟨h, rfl⟩)))
end
theorem i_vc_push {k : Nat} {u : SX} {v : SY} (I : i_Rel k u v) (hk : k + 3 ≤ 1539) (v1 : Int32) (v2 : Int32) : wpX_push (fun r u' => wpY_push (fun r' v' => r' = r ∧ i_Rel (k + 3) u' v') v v1 v2) u v1 v2 := by
  refine rr_el (P := fun u v => wpX_push (fun r u' => wpY_push (fun r' v' => r' = r ∧ i_Rel (k + 3) u' v') v v1 v2) u v1 v2) ?_ I
  intro q n rm N f_STORE_CELL f_STORE_AT f_OPERATOR f_LOOP f_LOOP_BY f_IF f_ELSE f_END f_ACT_ZERO f_ACT_READ f_ACT_WRITE f_ACT_DROP f_ACT_COMBINE f_ACT_NEGATE f_ACT_COPY f_ACT_EXCHANGE f_phase f_depth f_loopDepth f_faultItem f_actCount f_stepCount f_cursor f_hasTangent f_flowDepth f_steps f_nextItem f_nextCell f_top g_cursor g_faultItem a_inputs a_weights a_itemKind a_itemArg a_itemJump a_openItem a_openElse a_openFactor a_cells a_stack a_loopCounter a_loopLimit a_actCode a_actLeft a_actRight a_stepItem a_stepCell a_stepOld a_stepNew a_stepEnd a_adjoints a_tangents a_flow a_marks a_cell a_dcell a_seen a_val a_der a_start a_counter a_total g_tangents F
  have J : i_Rel (k + 3) (f_STORE_CELL, f_STORE_AT, f_OPERATOR, f_LOOP, f_LOOP_BY, f_IF, f_ELSE, f_END, f_ACT_ZERO, f_ACT_READ, f_ACT_WRITE, f_ACT_DROP, f_ACT_COMBINE, f_ACT_NEGATE, f_ACT_COPY, f_ACT_EXCHANGE, nI (q + 1), nI n, nI rm, f_phase, nI N, nI (rs_sz a_itemKind N), nI (rs_pd a_itemKind a_itemArg N), rs_fac a_itemKind a_itemArg (rs_sk a_itemKind N), rs_wk a_itemKind a_itemArg N, nI (rs_sk a_itemKind N).length, nI (rs_lp a_itemKind (rs_sk a_itemKind N)).length, f_depth, f_loopDepth, f_faultItem, f_actCount, f_stepCount, f_cursor, f_hasTangent, f_flowDepth, a_inputs, a_weights, a_itemKind, a_itemArg, a_itemJump, a_openItem, a_openElse, a_openFactor, a_cells, a_stack, a_loopCounter, a_loopLimit, a_actCode, a_actLeft, a_actRight, a_stepItem, a_stepCell, a_stepOld, a_stepNew, a_stepEnd, a_adjoints, a_tangents, a_flow) (nI (q + 1), nI n, nI rm, f_phase, nI N, g_cursor, f_hasTangent, nI (rs_sz a_itemKind N), nI (rs_pd a_itemKind a_itemArg N), rs_fac a_itemKind a_itemArg (rs_sk a_itemKind N), rs_wk a_itemKind a_itemArg N, nI (rs_sk a_itemKind N).length, nI (rs_lp a_itemKind (rs_sk a_itemKind N)).length, f_steps, g_faultItem, f_nextItem, f_nextCell, f_top, a_itemKind, a_itemArg, a_inputs, a_weights, g_tangents, a_marks, a_cell, a_dcell, a_seen, a_val, a_der, a_start, a_counter, a_total) := rr_in F
  obtain ⟨⟨hp, hn2, hn, hr1, hr2⟩, P, cI, cW, H⟩ := F
  have hq := (ra_pr_lt hp).1
  have hN : N + rs_re (rs_sk a_itemKind N) ≤ rs_sz a_itemKind N := P.2.2.1
  have hsr : rs_sz a_itemKind N ≤ rm := P.2.2.2.1
  have p8 : rs_pd a_itemKind a_itemArg N ≤ 8 := rs_pd8 N P.1
  have l6 := rs_len N P.1
  have lp6 : (rs_lp a_itemKind (rs_sk a_itemKind N)).length ≤ 6 := Nat.le_trans (rs_lpl _) l6
  by_cases h0 : f_phase = 0
  rotate_left
  · exact br_f h0 (br_f h0 ⟨rfl, J⟩)
  have zt : f_hasTangent = 0 := by
    rcases H with ⟨_, z⟩ | ⟨z, _⟩ | ⟨z, _⟩ | ⟨z, _⟩
    · exact z
    · rw [z] at h0; exact absurd h0 (by decide)
    · rw [z] at h0; exact absurd h0 (by decide)
    · rw [z] at h0; exact absurd h0 (by decide)
  by_cases g : rr_good n (rs_lp a_itemKind (rs_sk a_itemKind N)).length v1 v2
  rotate_left
  · exact br_t h0 (rx_bad hn lp6 g (br_t rfl (ry_bad hn lp6 h0 g ⟨rfl, J⟩)))
  refine br_t h0 (rx_good hn lp6 g (br_f (by decide) ?_))
  by_cases h8 : rs_pd a_itemKind a_itemArg N < 8
  rotate_left
  · have e8 : rs_pd a_itemKind a_itemArg N = 8 := by omega
    refine br_f (by rw [e8]; decide) (ry_good hn lp6 h0 g (br_t (by rw [e8]; rfl) ⟨rfl, J⟩))
  have n8 : ¬ nI (rs_pd a_itemKind a_itemArg N) = 8 := fun z => by
    have := (nI_eq (a := rs_pd a_itemKind a_itemArg N) (b := 8) (by omega) (by decide)).mp z
    omega
  refine br_t (nI_lt (b := 8) h8 (by decide)) ?_
  by_cases c1 : nI (rs_sz a_itemKind N) + 1 ≤ nI rm
  rotate_left
  · refine rx_cost5 c1 (br_f (by decide) (ry_good hn lp6 h0 g (ry_push59 hq n8 (fun a _ => ?_))))
    unfold wY_push_84
    exact ry_add5 c1 ⟨rfl, J⟩
  by_cases c2 : rs_wk a_itemKind a_itemArg N + rs_fac a_itemKind a_itemArg (rs_sk a_itemKind N) ≤ 1024
  rotate_left
  · refine rx_cost6 c1 c2 (br_f (by decide) (ry_good hn lp6 h0 g (ry_push59 hq n8 (fun a _ => ?_))))
    unfold wY_push_84
    exact ry_add6 c1 c2 ⟨rfl, J⟩
  have hsz : rs_sz a_itemKind N + 1 ≤ rm := by
    rw [nI_1, nI_leI (by omega) (by omega)] at c1; exact c1
  have fin : ∀ a, ((v1 = 0 ∧ a = ra_yr (nI (q + 1)) v2) ∨ (¬ v1 = 0 ∧ a = v2)) → wX_push_63 (fun r u' => wpY_push (fun r' v' => r' = r ∧ i_Rel (k + 3) u' v') (nI (q + 1), nI n, nI rm, f_phase, nI N, g_cursor, f_hasTangent, nI (rs_sz a_itemKind N), nI (rs_pd a_itemKind a_itemArg N), rs_fac a_itemKind a_itemArg (rs_sk a_itemKind N), rs_wk a_itemKind a_itemArg N, nI (rs_sk a_itemKind N).length, nI (rs_lp a_itemKind (rs_sk a_itemKind N)).length, f_steps, g_faultItem, f_nextItem, f_nextCell, f_top, a_itemKind, a_itemArg, a_inputs, a_weights, g_tangents, a_marks, a_cell, a_dcell, a_seen, a_val, a_der, a_start, a_counter, a_total) v1 v2) v1 a f_STORE_CELL f_STORE_AT f_OPERATOR f_LOOP f_LOOP_BY f_IF f_ELSE f_END f_ACT_ZERO f_ACT_READ f_ACT_WRITE f_ACT_DROP f_ACT_COMBINE f_ACT_NEGATE f_ACT_COPY f_ACT_EXCHANGE (nI (q + 1)) (nI n) (nI rm) f_phase (nI N) (nI (rs_sz a_itemKind N)) (nI (rs_pd a_itemKind a_itemArg N)) (rs_fac a_itemKind a_itemArg (rs_sk a_itemKind N)) (rs_wk a_itemKind a_itemArg N) (nI (rs_sk a_itemKind N).length) (nI (rs_lp a_itemKind (rs_sk a_itemKind N)).length) f_depth f_loopDepth f_faultItem f_actCount f_stepCount f_cursor f_hasTangent f_flowDepth a_inputs a_weights a_itemKind a_itemArg a_itemJump a_openItem a_openElse a_openFactor a_cells a_stack a_loopCounter a_loopLimit a_actCode a_actLeft a_actRight a_stepItem a_stepCell a_stepOld a_stepNew a_stepEnd a_adjoints a_tangents a_flow := by
    intro a ha
    have ok : rs_ok q n (upd a_itemKind N v1) (upd a_itemArg N a) N := by
      refine rb_ok P.1 ?_
      rcases ha with ⟨rfl, rfl⟩ | ⟨h, rfl⟩
      · exact Or.inl ⟨rfl, h8, (ra_yr_ok hq v2).1⟩
      · rcases g with z | ⟨z, z2⟩ | ⟨z, z2⟩
        · exact absurd z h
        · exact Or.inr (Or.inl ⟨z, h8, z2⟩)
        · exact Or.inr (Or.inr (Or.inl ⟨z, h8, z2⟩))
    have k0 : v1 = 0 ∨ v1 = 1 ∨ v1 = 2 ∨ v1 = 3 := by
      rcases g with z | ⟨z | z, _⟩ | ⟨z, _⟩
      · exact Or.inl z
      · exact Or.inr (Or.inl z)
      · exact Or.inr (Or.inr (Or.inl z))
      · exact Or.inr (Or.inr (Or.inr z))
    refine rx_push63 (by omega) (ry_good hn lp6 h0 g (ry_push59 hq n8 (fun a' ha' => ?_)))
    have ea : a' = a := by
      rcases ha with ⟨z, rfl⟩ | ⟨z, rfl⟩
      · rcases ha' with ⟨_, y⟩ | ⟨y, _⟩
        · exact y
        · exact absurd z y
      · rcases ha' with ⟨y, _⟩ | ⟨_, y⟩
        · exact absurd y z
        · exact y
    rw [ea]
    unfold wY_push_84
    refine ry_add0 c1 c2 (by omega) (rb_PV P.1 ok) (fun ma hm => ⟨rfl, ?_⟩)
    refine rr_plain ⟨⟨hp, hn2, hn, hr1, hr2⟩, P, cI, cW, H⟩ h0 zt ok ?_ ?_ ?_ ?_ ?_ ?_ ?_ hsz c2 ?_ hm
    · rcases k0 with z | z | z | z <;> rw [z] <;> decide
    · rcases k0 with z | z | z | z <;> rw [z] <;> decide
    · rcases k0 with z | z | z | z <;> rw [z] <;> decide
    · rcases k0 with z | z | z | z <;> rw [z] <;> decide
    · rcases k0 with z | z | z | z <;> rw [z] <;> decide
    · rcases k0 with z | z | z | z <;> rw [z] <;> rfl
    · rcases k0 with z | z | z | z <;> rw [z] <;> rfl
    · rw [nI_1]; rcases k0 with z | z | z | z <;> rw [z] <;> rfl
  refine rx_cost0 c1 c2 (br_t rfl (br_c (fun e => ?_) (fun e => ?_)))
  · exact rx_residue hq (fin _ (Or.inl ⟨e, rfl⟩))
  · exact fin _ (Or.inr ⟨e, rfl⟩)
theorem i_vc_store {k : Nat} {u : SX} {v : SY} (I : i_Rel k u v) (hk : k + 3 ≤ 1539) (v1 : Int32) (v2 : Int32) : wpX_store (fun r u' => wpY_store (fun r' v' => r' = r ∧ i_Rel (k + 3) u' v') v v1 v2) u v1 v2 := by
  refine rr_el (P := fun u v => wpX_store (fun r u' => wpY_store (fun r' v' => r' = r ∧ i_Rel (k + 3) u' v') v v1 v2) u v1 v2) ?_ I
  intro q n rm N f_STORE_CELL f_STORE_AT f_OPERATOR f_LOOP f_LOOP_BY f_IF f_ELSE f_END f_ACT_ZERO f_ACT_READ f_ACT_WRITE f_ACT_DROP f_ACT_COMBINE f_ACT_NEGATE f_ACT_COPY f_ACT_EXCHANGE f_phase f_depth f_loopDepth f_faultItem f_actCount f_stepCount f_cursor f_hasTangent f_flowDepth f_steps f_nextItem f_nextCell f_top g_cursor g_faultItem a_inputs a_weights a_itemKind a_itemArg a_itemJump a_openItem a_openElse a_openFactor a_cells a_stack a_loopCounter a_loopLimit a_actCode a_actLeft a_actRight a_stepItem a_stepCell a_stepOld a_stepNew a_stepEnd a_adjoints a_tangents a_flow a_marks a_cell a_dcell a_seen a_val a_der a_start a_counter a_total g_tangents F
  have J : i_Rel (k + 3) (f_STORE_CELL, f_STORE_AT, f_OPERATOR, f_LOOP, f_LOOP_BY, f_IF, f_ELSE, f_END, f_ACT_ZERO, f_ACT_READ, f_ACT_WRITE, f_ACT_DROP, f_ACT_COMBINE, f_ACT_NEGATE, f_ACT_COPY, f_ACT_EXCHANGE, nI (q + 1), nI n, nI rm, f_phase, nI N, nI (rs_sz a_itemKind N), nI (rs_pd a_itemKind a_itemArg N), rs_fac a_itemKind a_itemArg (rs_sk a_itemKind N), rs_wk a_itemKind a_itemArg N, nI (rs_sk a_itemKind N).length, nI (rs_lp a_itemKind (rs_sk a_itemKind N)).length, f_depth, f_loopDepth, f_faultItem, f_actCount, f_stepCount, f_cursor, f_hasTangent, f_flowDepth, a_inputs, a_weights, a_itemKind, a_itemArg, a_itemJump, a_openItem, a_openElse, a_openFactor, a_cells, a_stack, a_loopCounter, a_loopLimit, a_actCode, a_actLeft, a_actRight, a_stepItem, a_stepCell, a_stepOld, a_stepNew, a_stepEnd, a_adjoints, a_tangents, a_flow) (nI (q + 1), nI n, nI rm, f_phase, nI N, g_cursor, f_hasTangent, nI (rs_sz a_itemKind N), nI (rs_pd a_itemKind a_itemArg N), rs_fac a_itemKind a_itemArg (rs_sk a_itemKind N), rs_wk a_itemKind a_itemArg N, nI (rs_sk a_itemKind N).length, nI (rs_lp a_itemKind (rs_sk a_itemKind N)).length, f_steps, g_faultItem, f_nextItem, f_nextCell, f_top, a_itemKind, a_itemArg, a_inputs, a_weights, g_tangents, a_marks, a_cell, a_dcell, a_seen, a_val, a_der, a_start, a_counter, a_total) := rr_in F
  obtain ⟨⟨hp, hn2, hn, hr1, hr2⟩, P, cI, cW, H⟩ := F
  have hq := (ra_pr_lt hp).1
  have hN : N + rs_re (rs_sk a_itemKind N) ≤ rs_sz a_itemKind N := P.2.2.1
  have hsr : rs_sz a_itemKind N ≤ rm := P.2.2.2.1
  have p8 : rs_pd a_itemKind a_itemArg N ≤ 8 := rs_pd8 N P.1
  have l6 := rs_len N P.1
  have lp6 : (rs_lp a_itemKind (rs_sk a_itemKind N)).length ≤ 6 := Nat.le_trans (rs_lpl _) l6
  by_cases h0 : f_phase = 0
  rotate_left
  · exact br_f h0 (br_f h0 ⟨rfl, J⟩)
  have zt : f_hasTangent = 0 := by
    rcases H with ⟨_, z⟩ | ⟨z, _⟩ | ⟨z, _⟩ | ⟨z, _⟩
    · exact z
    · rw [z] at h0; exact absurd h0 (by decide)
    · rw [z] at h0; exact absurd h0 (by decide)
    · rw [z] at h0; exact absurd h0 (by decide)
  by_cases k1 : v1 = 1
  rotate_left
  by_cases k2 : v1 = 2
  rotate_left
  · exact br_t h0 (br_f k1 (br_f k2 (br_t h0 (br_f k1 (br_f k2 ⟨rfl, J⟩)))))
  subst k1
  · refine br_t h0 (br_t rfl ?_)
    unfold wX_store_22
    rcases pk_ix v2 (n := n) (by omega) with h | h | ⟨c, hc, rfl⟩
    · refine rx_isCell_f (Or.inl h) (br_t rfl (br_t h0 (br_t rfl ?_)))
      unfold wY_store_19
      exact ry_noCell_f (Or.inl h) (br_f (by decide) ⟨rfl, J⟩)
    · refine rx_isCell_f (Or.inr h) (br_t rfl (br_t h0 (br_t rfl ?_)))
      unfold wY_store_19
      exact ry_noCell_f (Or.inr h) (br_f (by decide) ⟨rfl, J⟩)
    refine rx_isCell_t hc hn (br_f (by decide) ?_)
    have goY : ∀ post : Int32 → SY → Prop, ((nI (rs_pd a_itemKind a_itemArg N) = 1 → wpY_add (fun r u => match u with | (f_p, f_n, f_room, f_phase, f_items, f_cursor, f_hasTangent, f_size, f_pending, f_factor, f_work, f_open, f_loops, f_steps, f_faultItem, f_nextItem, f_nextCell, f_top, a_kinds, a_args, a_inputs, a_weights, a_tangents, a_marks, a_cell, a_dcell, a_seen, a_val, a_der, a_start, a_counter, a_total) => post r (f_p, f_n, f_room, f_phase, f_items, f_cursor, f_hasTangent, f_size, f_pending, f_factor, f_work, f_open, f_loops, f_steps, f_faultItem, f_nextItem, f_nextCell, f_top, a_kinds, a_args, a_inputs, a_weights, a_tangents, a_marks, a_cell, a_dcell, a_seen, a_val, a_der, a_start, a_counter, a_total)) (nI (q + 1), nI n, nI rm, f_phase, nI N, g_cursor, f_hasTangent, nI (rs_sz a_itemKind N), nI (rs_pd a_itemKind a_itemArg N), rs_fac a_itemKind a_itemArg (rs_sk a_itemKind N), rs_wk a_itemKind a_itemArg N, nI (rs_sk a_itemKind N).length, nI (rs_lp a_itemKind (rs_sk a_itemKind N)).length, f_steps, g_faultItem, f_nextItem, f_nextCell, f_top, a_itemKind, a_itemArg, a_inputs, a_weights, g_tangents, a_marks, a_cell, a_dcell, a_seen, a_val, a_der, a_start, a_counter, a_total) (1 + 3) (nI c) 1 (rs_fac a_itemKind a_itemArg (rs_sk a_itemKind N))) ∧ (¬ nI (rs_pd a_itemKind a_itemArg N) = 1 → post (-3) (nI (q + 1), nI n, nI rm, f_phase, nI N, g_cursor, f_hasTangent, nI (rs_sz a_itemKind N), nI (rs_pd a_itemKind a_itemArg N), rs_fac a_itemKind a_itemArg (rs_sk a_itemKind N), rs_wk a_itemKind a_itemArg N, nI (rs_sk a_itemKind N).length, nI (rs_lp a_itemKind (rs_sk a_itemKind N)).length, f_steps, g_faultItem, f_nextItem, f_nextCell, f_top, a_itemKind, a_itemArg, a_inputs, a_weights, g_tangents, a_marks, a_cell, a_dcell, a_seen, a_val, a_der, a_start, a_counter, a_total))) → wpY_store post (nI (q + 1), nI n, nI rm, f_phase, nI N, g_cursor, f_hasTangent, nI (rs_sz a_itemKind N), nI (rs_pd a_itemKind a_itemArg N), rs_fac a_itemKind a_itemArg (rs_sk a_itemKind N), rs_wk a_itemKind a_itemArg N, nI (rs_sk a_itemKind N).length, nI (rs_lp a_itemKind (rs_sk a_itemKind N)).length, f_steps, g_faultItem, f_nextItem, f_nextCell, f_top, a_itemKind, a_itemArg, a_inputs, a_weights, g_tangents, a_marks, a_cell, a_dcell, a_seen, a_val, a_der, a_start, a_counter, a_total) 1 (nI c) := by
      intro post K
      refine br_t h0 (br_t rfl ?_)
      unfold wY_store_19
      exact ry_noCell_t hc hn (br_t rfl K)
    by_cases e1 : rs_pd a_itemKind a_itemArg N = 1
    rotate_left
    · have e1' : ¬ nI (rs_pd a_itemKind a_itemArg N) = 1 := fun z => e1 ((nI_eq (a := rs_pd a_itemKind a_itemArg N) (b := 1) (by omega) (by decide)).mp z)
      exact br_f e1' (goY _ (br_f e1' ⟨rfl, J⟩))
    have e1' : nI (rs_pd a_itemKind a_itemArg N) = 1 := by rw [e1]; rfl
    refine br_t e1' ?_
    by_cases c1 : nI (rs_sz a_itemKind N) + 1 ≤ nI rm
    rotate_left
    · exact rx_cost5 c1 (br_f (by decide) (goY _ (br_t e1' (ry_add5 c1 ⟨rfl, J⟩))))
    by_cases c2 : rs_wk a_itemKind a_itemArg N + rs_fac a_itemKind a_itemArg (rs_sk a_itemKind N) ≤ 1024
    rotate_left
    · exact rx_cost6 c1 c2 (br_f (by decide) (goY _ (br_t e1' (ry_add6 c1 c2 ⟨rfl, J⟩))))
    have hsz : rs_sz a_itemKind N + 1 ≤ rm := by
      rw [nI_1, nI_leI (by omega) (by omega)] at c1; exact c1
    have ok : rs_ok q n (upd a_itemKind N 4) (upd a_itemArg N (nI c)) N := rb_ok P.1 (Or.inr (Or.inr (Or.inr (Or.inl ⟨Or.inl rfl, e1, c, hc, rfl⟩))))
    refine rx_cost0 c1 c2 (br_t rfl (br_f (by decide) ?_))
    unfold wX_store_76
    refine rx_append (by omega) rfl rfl (goY _ (br_t e1' ?_))
    refine ry_add0 (k := 4) c1 c2 (by omega) (rb_PV P.1 ok) (fun ma hm => ⟨rfl, ?_⟩)
    exact rr_plain ⟨⟨hp, hn2, hn, hr1, hr2⟩, P, cI, cW, H⟩ h0 zt ok (by decide) (by decide) (by decide) (by decide) (by decide) rfl rfl hsz c2 (by rw [e1]; rfl) hm
  subst k2
  · refine br_t h0 (br_f (by decide) (br_t rfl ?_))
    unfold wX_store_22
    rcases pk_ix v2 (n := n) (by omega) with h | h | ⟨c, hc, rfl⟩
    · refine rx_isCell_f (Or.inl h) (br_t rfl (br_t h0 (br_f (by decide) (br_t rfl ?_))))
      unfold wY_store_19
      exact ry_noCell_f (Or.inl h) (br_f (by decide) ⟨rfl, J⟩)
    · refine rx_isCell_f (Or.inr h) (br_t rfl (br_t h0 (br_f (by decide) (br_t rfl ?_))))
      unfold wY_store_19
      exact ry_noCell_f (Or.inr h) (br_f (by decide) ⟨rfl, J⟩)
    refine rx_isCell_t hc hn (br_f (by decide) ?_)
    have goY : ∀ post : Int32 → SY → Prop, ((nI (rs_pd a_itemKind a_itemArg N) = 1 → wpY_add (fun r u => match u with | (f_p, f_n, f_room, f_phase, f_items, f_cursor, f_hasTangent, f_size, f_pending, f_factor, f_work, f_open, f_loops, f_steps, f_faultItem, f_nextItem, f_nextCell, f_top, a_kinds, a_args, a_inputs, a_weights, a_tangents, a_marks, a_cell, a_dcell, a_seen, a_val, a_der, a_start, a_counter, a_total) => post r (f_p, f_n, f_room, f_phase, f_items, f_cursor, f_hasTangent, f_size, f_pending, f_factor, f_work, f_open, f_loops, f_steps, f_faultItem, f_nextItem, f_nextCell, f_top, a_kinds, a_args, a_inputs, a_weights, a_tangents, a_marks, a_cell, a_dcell, a_seen, a_val, a_der, a_start, a_counter, a_total)) (nI (q + 1), nI n, nI rm, f_phase, nI N, g_cursor, f_hasTangent, nI (rs_sz a_itemKind N), nI (rs_pd a_itemKind a_itemArg N), rs_fac a_itemKind a_itemArg (rs_sk a_itemKind N), rs_wk a_itemKind a_itemArg N, nI (rs_sk a_itemKind N).length, nI (rs_lp a_itemKind (rs_sk a_itemKind N)).length, f_steps, g_faultItem, f_nextItem, f_nextCell, f_top, a_itemKind, a_itemArg, a_inputs, a_weights, g_tangents, a_marks, a_cell, a_dcell, a_seen, a_val, a_der, a_start, a_counter, a_total) (2 + 3) (nI c) 1 (rs_fac a_itemKind a_itemArg (rs_sk a_itemKind N))) ∧ (¬ nI (rs_pd a_itemKind a_itemArg N) = 1 → post (-3) (nI (q + 1), nI n, nI rm, f_phase, nI N, g_cursor, f_hasTangent, nI (rs_sz a_itemKind N), nI (rs_pd a_itemKind a_itemArg N), rs_fac a_itemKind a_itemArg (rs_sk a_itemKind N), rs_wk a_itemKind a_itemArg N, nI (rs_sk a_itemKind N).length, nI (rs_lp a_itemKind (rs_sk a_itemKind N)).length, f_steps, g_faultItem, f_nextItem, f_nextCell, f_top, a_itemKind, a_itemArg, a_inputs, a_weights, g_tangents, a_marks, a_cell, a_dcell, a_seen, a_val, a_der, a_start, a_counter, a_total))) → wpY_store post (nI (q + 1), nI n, nI rm, f_phase, nI N, g_cursor, f_hasTangent, nI (rs_sz a_itemKind N), nI (rs_pd a_itemKind a_itemArg N), rs_fac a_itemKind a_itemArg (rs_sk a_itemKind N), rs_wk a_itemKind a_itemArg N, nI (rs_sk a_itemKind N).length, nI (rs_lp a_itemKind (rs_sk a_itemKind N)).length, f_steps, g_faultItem, f_nextItem, f_nextCell, f_top, a_itemKind, a_itemArg, a_inputs, a_weights, g_tangents, a_marks, a_cell, a_dcell, a_seen, a_val, a_der, a_start, a_counter, a_total) 2 (nI c) := by
      intro post K
      refine br_t h0 (br_f (by decide) (br_t rfl ?_))
      unfold wY_store_19
      exact ry_noCell_t hc hn (br_t rfl K)
    by_cases e1 : rs_pd a_itemKind a_itemArg N = 1
    rotate_left
    · have e1' : ¬ nI (rs_pd a_itemKind a_itemArg N) = 1 := fun z => e1 ((nI_eq (a := rs_pd a_itemKind a_itemArg N) (b := 1) (by omega) (by decide)).mp z)
      exact br_f e1' (goY _ (br_f e1' ⟨rfl, J⟩))
    have e1' : nI (rs_pd a_itemKind a_itemArg N) = 1 := by rw [e1]; rfl
    refine br_t e1' ?_
    by_cases c1 : nI (rs_sz a_itemKind N) + 1 ≤ nI rm
    rotate_left
    · exact rx_cost5 c1 (br_f (by decide) (goY _ (br_t e1' (ry_add5 c1 ⟨rfl, J⟩))))
    by_cases c2 : rs_wk a_itemKind a_itemArg N + rs_fac a_itemKind a_itemArg (rs_sk a_itemKind N) ≤ 1024
    rotate_left
    · exact rx_cost6 c1 c2 (br_f (by decide) (goY _ (br_t e1' (ry_add6 c1 c2 ⟨rfl, J⟩))))
    have hsz : rs_sz a_itemKind N + 1 ≤ rm := by
      rw [nI_1, nI_leI (by omega) (by omega)] at c1; exact c1
    have ok : rs_ok q n (upd a_itemKind N 5) (upd a_itemArg N (nI c)) N := rb_ok P.1 (Or.inr (Or.inr (Or.inr (Or.inl ⟨Or.inr rfl, e1, c, hc, rfl⟩))))
    refine rx_cost0 c1 c2 (br_t rfl (br_t rfl ?_))
    unfold wX_store_76
    refine rx_append (by omega) rfl rfl (goY _ (br_t e1' ?_))
    refine ry_add0 (k := 5) c1 c2 (by omega) (rb_PV P.1 ok) (fun ma hm => ⟨rfl, ?_⟩)
    exact rr_plain ⟨⟨hp, hn2, hn, hr1, hr2⟩, P, cI, cW, H⟩ h0 zt ok (by decide) (by decide) (by decide) (by decide) (by decide) rfl rfl hsz c2 (by rw [e1]; rfl) hm
end
section
/-! building: operators -/
theorem i_vc_operate {k : Nat} {u : SX} {v : SY} (I : i_Rel k u v) (hk : k + 3 ≤ 1539) (v1 : Int32) : wpX_operate (fun r u' => wpY_operate (fun r' v' => r' = r ∧ i_Rel (k + 3) u' v') v v1) u v1 := by
  refine rr_el (P := fun u v => wpX_operate (fun r u' => wpY_operate (fun r' v' => r' = r ∧ i_Rel (k + 3) u' v') v v1) u v1) ?_ I
  intro q n rm N f_STORE_CELL f_STORE_AT f_OPERATOR f_LOOP f_LOOP_BY f_IF f_ELSE f_END f_ACT_ZERO f_ACT_READ f_ACT_WRITE f_ACT_DROP f_ACT_COMBINE f_ACT_NEGATE f_ACT_COPY f_ACT_EXCHANGE f_phase f_depth f_loopDepth f_faultItem f_actCount f_stepCount f_cursor f_hasTangent f_flowDepth f_steps f_nextItem f_nextCell f_top g_cursor g_faultItem a_inputs a_weights a_itemKind a_itemArg a_itemJump a_openItem a_openElse a_openFactor a_cells a_stack a_loopCounter a_loopLimit a_actCode a_actLeft a_actRight a_stepItem a_stepCell a_stepOld a_stepNew a_stepEnd a_adjoints a_tangents a_flow a_marks a_cell a_dcell a_seen a_val a_der a_start a_counter a_total g_tangents F
  have J : i_Rel (k + 3) (f_STORE_CELL, f_STORE_AT, f_OPERATOR, f_LOOP, f_LOOP_BY, f_IF, f_ELSE, f_END, f_ACT_ZERO, f_ACT_READ, f_ACT_WRITE, f_ACT_DROP, f_ACT_COMBINE, f_ACT_NEGATE, f_ACT_COPY, f_ACT_EXCHANGE, nI (q + 1), nI n, nI rm, f_phase, nI N, nI (rs_sz a_itemKind N), nI (rs_pd a_itemKind a_itemArg N), rs_fac a_itemKind a_itemArg (rs_sk a_itemKind N), rs_wk a_itemKind a_itemArg N, nI (rs_sk a_itemKind N).length, nI (rs_lp a_itemKind (rs_sk a_itemKind N)).length, f_depth, f_loopDepth, f_faultItem, f_actCount, f_stepCount, f_cursor, f_hasTangent, f_flowDepth, a_inputs, a_weights, a_itemKind, a_itemArg, a_itemJump, a_openItem, a_openElse, a_openFactor, a_cells, a_stack, a_loopCounter, a_loopLimit, a_actCode, a_actLeft, a_actRight, a_stepItem, a_stepCell, a_stepOld, a_stepNew, a_stepEnd, a_adjoints, a_tangents, a_flow) (nI (q + 1), nI n, nI rm, f_phase, nI N, g_cursor, f_hasTangent, nI (rs_sz a_itemKind N), nI (rs_pd a_itemKind a_itemArg N), rs_fac a_itemKind a_itemArg (rs_sk a_itemKind N), rs_wk a_itemKind a_itemArg N, nI (rs_sk a_itemKind N).length, nI (rs_lp a_itemKind (rs_sk a_itemKind N)).length, f_steps, g_faultItem, f_nextItem, f_nextCell, f_top, a_itemKind, a_itemArg, a_inputs, a_weights, g_tangents, a_marks, a_cell, a_dcell, a_seen, a_val, a_der, a_start, a_counter, a_total) := rr_in F
  obtain ⟨⟨hp, hn2, hn, hr1, hr2⟩, P, cI, cW, H⟩ := F
  have hq := (ra_pr_lt hp).1
  have hN : N + rs_re (rs_sk a_itemKind N) ≤ rs_sz a_itemKind N := P.2.2.1
  have hsr : rs_sz a_itemKind N ≤ rm := P.2.2.2.1
  have p8 : rs_pd a_itemKind a_itemArg N ≤ 8 := rs_pd8 N P.1
  have l6 := rs_len N P.1
  have lp6 : (rs_lp a_itemKind (rs_sk a_itemKind N)).length ≤ 6 := Nat.le_trans (rs_lpl _) l6
  by_cases h0 : f_phase = 0
  rotate_left
  · exact br_f h0 (br_f h0 ⟨rfl, J⟩)
  have zt : f_hasTangent = 0 := by
    rcases H with ⟨_, z⟩ | ⟨z, _⟩ | ⟨z, _⟩ | ⟨z, _⟩
    · exact z
    · rw [z] at h0; exact absurd h0 (by decide)
    · rw [z] at h0; exact absurd h0 (by decide)
    · rw [z] at h0; exact absurd h0 (by decide)
  have outs : v1 < 0 ∨ nI 7 ≤ v1 ∨ ∃ j, j < 7 ∧ v1 = nI j := pk_ix v1 (by decide)
  rcases outs with h | h | ⟨j, hj, rfl⟩
  · exact br_t h0 (br_t h (br_t h0 (br_t h ⟨rfl, J⟩)))
  · have h7 : (7 : Int32) ≤ v1 := h
    have hn0 : ¬ v1 < 0 := fun z => absurd (Int32.lt_of_le_of_lt h7 z) (by decide)
    have hn6 : ¬ v1 ≤ 6 := fun z => absurd (Int32.le_trans h7 z) (by decide)
    exact br_t h0 (br_f hn0 (br_f hn6 (br_t h0 (br_f hn0 (br_f hn6 ⟨rfl, J⟩)))))
  by_cases c1 : nI (rs_sz a_itemKind N) + 1 ≤ nI rm
  rotate_left
  · rcases (show j = 0 ∨ j = 1 ∨ j = 2 ∨ j = 3 ∨ j = 4 ∨ j = 5 ∨ j = 6 by omega) with rfl | rfl | rfl | rfl | rfl | rfl | rfl
    · by_cases hne : 2 ≤ rs_pd a_itemKind a_itemArg N
      rotate_left
      · exact br_t h0 (br_f (by decide) (br_t (by decide) (br_f (by decide) (br_f (by decide) (br_f (nI_ge (b := 2) (by omega) (by decide)) (br_t h0 (br_f (by decide) (br_t (by decide) (br_f (by decide) (br_f (by decide) (br_f (nI_ge (b := 2) (by omega) (by decide)) (⟨rfl, J⟩))))))))))))
      refine br_t h0 (br_f (by decide) (br_t (by decide) (br_f (by decide) (br_f (by decide) (br_t (nI_le (a := 2) hne (by omega)) (br_f (by decide) (?_)))))))
      unfold wX_operate_64
      refine rx_cost5 c1 (br_f (by decide) (br_t h0 (br_f (by decide) (br_t (by decide) (br_f (by decide) (br_f (by decide) (br_t (nI_le (a := 2) hne (by omega)) (br_f (by decide) (?_)))))))))
      unfold wY_operate_66
      exact ry_add5 c1 ⟨rfl, J⟩
    · by_cases hne : 2 ≤ rs_pd a_itemKind a_itemArg N
      rotate_left
      · exact br_t h0 (br_f (by decide) (br_t (by decide) (br_f (by decide) (br_f (by decide) (br_f (nI_ge (b := 2) (by omega) (by decide)) (br_t h0 (br_f (by decide) (br_t (by decide) (br_f (by decide) (br_f (by decide) (br_f (nI_ge (b := 2) (by omega) (by decide)) (⟨rfl, J⟩))))))))))))
      refine br_t h0 (br_f (by decide) (br_t (by decide) (br_f (by decide) (br_f (by decide) (br_t (nI_le (a := 2) hne (by omega)) (br_f (by decide) (?_)))))))
      unfold wX_operate_64
      refine rx_cost5 c1 (br_f (by decide) (br_t h0 (br_f (by decide) (br_t (by decide) (br_f (by decide) (br_f (by decide) (br_t (nI_le (a := 2) hne (by omega)) (br_f (by decide) (?_)))))))))
      unfold wY_operate_66
      exact ry_add5 c1 ⟨rfl, J⟩
    · by_cases hne : 2 ≤ rs_pd a_itemKind a_itemArg N
      rotate_left
      · exact br_t h0 (br_f (by decide) (br_t (by decide) (br_f (by decide) (br_f (by decide) (br_f (nI_ge (b := 2) (by omega) (by decide)) (br_t h0 (br_f (by decide) (br_t (by decide) (br_f (by decide) (br_f (by decide) (br_f (nI_ge (b := 2) (by omega) (by decide)) (⟨rfl, J⟩))))))))))))
      refine br_t h0 (br_f (by decide) (br_t (by decide) (br_f (by decide) (br_f (by decide) (br_t (nI_le (a := 2) hne (by omega)) (br_f (by decide) (?_)))))))
      unfold wX_operate_64
      refine rx_cost5 c1 (br_f (by decide) (br_t h0 (br_f (by decide) (br_t (by decide) (br_f (by decide) (br_f (by decide) (br_t (nI_le (a := 2) hne (by omega)) (br_f (by decide) (?_)))))))))
      unfold wY_operate_66
      exact ry_add5 c1 ⟨rfl, J⟩
    · by_cases hne : 2 ≤ rs_pd a_itemKind a_itemArg N
      rotate_left
      · exact br_t h0 (br_f (by decide) (br_t (by decide) (br_f (by decide) (br_f (by decide) (br_f (nI_ge (b := 2) (by omega) (by decide)) (br_t h0 (br_f (by decide) (br_t (by decide) (br_f (by decide) (br_f (by decide) (br_f (nI_ge (b := 2) (by omega) (by decide)) (⟨rfl, J⟩))))))))))))
      refine br_t h0 (br_f (by decide) (br_t (by decide) (br_f (by decide) (br_f (by decide) (br_t (nI_le (a := 2) hne (by omega)) (br_f (by decide) (?_)))))))
      unfold wX_operate_64
      refine rx_cost5 c1 (br_f (by decide) (br_t h0 (br_f (by decide) (br_t (by decide) (br_f (by decide) (br_f (by decide) (br_t (nI_le (a := 2) hne (by omega)) (br_f (by decide) (?_)))))))))
      unfold wY_operate_66
      exact ry_add5 c1 ⟨rfl, J⟩
    · by_cases hne : 1 ≤ rs_pd a_itemKind a_itemArg N
      rotate_left
      · exact br_t h0 (br_f (by decide) (br_t (by decide) (br_t (by decide) (br_f (nI_ge (b := 1) (by omega) (by decide)) (br_t h0 (br_f (by decide) (br_t (by decide) (br_t (by decide) (br_f (nI_ge (b := 1) (by omega) (by decide)) (⟨rfl, J⟩))))))))))
      refine br_t h0 (br_f (by decide) (br_t (by decide) (br_t (by decide) (br_t (nI_le (a := 1) hne (by omega)) (br_f (by decide) (?_))))))
      unfold wX_operate_64
      refine rx_cost5 c1 (br_f (by decide) (br_t h0 (br_f (by decide) (br_t (by decide) (br_t (by decide) (br_t (nI_le (a := 1) hne (by omega)) (br_f (by decide) (?_))))))))
      unfold wY_operate_66
      exact ry_add5 c1 ⟨rfl, J⟩
    · by_cases hne : 1 ≤ rs_pd a_itemKind a_itemArg N
      rotate_left
      · exact br_t h0 (br_f (by decide) (br_t (by decide) (br_f (by decide) (br_t (by decide) (br_f (nI_ge (b := 1) (by omega) (by decide)) (br_t h0 (br_f (by decide) (br_t (by decide) (br_f (by decide) (br_t (by decide) (br_f (nI_ge (b := 1) (by omega) (by decide)) (⟨rfl, J⟩))))))))))))
      by_cases h8 : rs_pd a_itemKind a_itemArg N < 8
      rotate_left
      · have e8 : rs_pd a_itemKind a_itemArg N = 8 := by omega
        exact br_t h0 (br_f (by decide) (br_t (by decide) (br_f (by decide) (br_t (by decide) (br_t (nI_le (a := 1) hne (by omega)) (br_t (by decide) (br_f (by rw [e8]; decide) (br_t h0 (br_f (by decide) (br_t (by decide) (br_f (by decide) (br_t (by decide) (br_t (nI_le (a := 1) hne (by omega)) (br_t (by decide) (br_t (by rw [e8]; rfl) (⟨rfl, J⟩))))))))))))))))
      have n8 : ¬ nI (rs_pd a_itemKind a_itemArg N) = 8 := fun z => by
        have := (nI_eq (a := rs_pd a_itemKind a_itemArg N) (b := 8) (by omega) (by decide)).mp z
        omega
      refine br_t h0 (br_f (by decide) (br_t (by decide) (br_f (by decide) (br_t (by decide) (br_t (nI_le (a := 1) hne (by omega)) (br_t (by decide) (br_t (nI_lt (b := 8) h8 (by decide)) (?_))))))))
      unfold wX_operate_64
      refine rx_cost5 c1 (br_f (by decide) (br_t h0 (br_f (by decide) (br_t (by decide) (br_f (by decide) (br_t (by decide) (br_t (nI_le (a := 1) hne (by omega)) (br_t (by decide) (br_f n8 (?_))))))))))
      unfold wY_operate_66
      exact ry_add5 c1 ⟨rfl, J⟩
    · by_cases hne : 2 ≤ rs_pd a_itemKind a_itemArg N
      rotate_left
      · exact br_t h0 (br_f (by decide) (br_t (by decide) (br_f (by decide) (br_f (by decide) (br_f (nI_ge (b := 2) (by omega) (by decide)) (br_t h0 (br_f (by decide) (br_t (by decide) (br_f (by decide) (br_f (by decide) (br_f (nI_ge (b := 2) (by omega) (by decide)) (⟨rfl, J⟩))))))))))))
      refine br_t h0 (br_f (by decide) (br_t (by decide) (br_f (by decide) (br_f (by decide) (br_t (nI_le (a := 2) hne (by omega)) (br_f (by decide) (?_)))))))
      unfold wX_operate_64
      refine rx_cost5 c1 (br_f (by decide) (br_t h0 (br_f (by decide) (br_t (by decide) (br_f (by decide) (br_f (by decide) (br_t (nI_le (a := 2) hne (by omega)) (br_f (by decide) (?_)))))))))
      unfold wY_operate_66
      exact ry_add5 c1 ⟨rfl, J⟩
  by_cases c2 : rs_wk a_itemKind a_itemArg N + rs_fac a_itemKind a_itemArg (rs_sk a_itemKind N) ≤ 1024
  rotate_left
  · rcases (show j = 0 ∨ j = 1 ∨ j = 2 ∨ j = 3 ∨ j = 4 ∨ j = 5 ∨ j = 6 by omega) with rfl | rfl | rfl | rfl | rfl | rfl | rfl
    · by_cases hne : 2 ≤ rs_pd a_itemKind a_itemArg N
      rotate_left
      · exact br_t h0 (br_f (by decide) (br_t (by decide) (br_f (by decide) (br_f (by decide) (br_f (nI_ge (b := 2) (by omega) (by decide)) (br_t h0 (br_f (by decide) (br_t (by decide) (br_f (by decide) (br_f (by decide) (br_f (nI_ge (b := 2) (by omega) (by decide)) (⟨rfl, J⟩))))))))))))
      refine br_t h0 (br_f (by decide) (br_t (by decide) (br_f (by decide) (br_f (by decide) (br_t (nI_le (a := 2) hne (by omega)) (br_f (by decide) (?_)))))))
      unfold wX_operate_64
      refine rx_cost6 c1 c2 (br_f (by decide) (br_t h0 (br_f (by decide) (br_t (by decide) (br_f (by decide) (br_f (by decide) (br_t (nI_le (a := 2) hne (by omega)) (br_f (by decide) (?_)))))))))
      unfold wY_operate_66
      exact ry_add6 c1 c2 ⟨rfl, J⟩
    · by_cases hne : 2 ≤ rs_pd a_itemKind a_itemArg N
      rotate_left
      · exact br_t h0 (br_f (by decide) (br_t (by decide) (br_f (by decide) (br_f (by decide) (br_f (nI_ge (b := 2) (by omega) (by decide)) (br_t h0 (br_f (by decide) (br_t (by decide) (br_f (by decide) (br_f (by decide) (br_f (nI_ge (b := 2) (by omega) (by decide)) (⟨rfl, J⟩))))))))))))
      refine br_t h0 (br_f (by decide) (br_t (by decide) (br_f (by decide) (br_f (by decide) (br_t (nI_le (a := 2) hne (by omega)) (br_f (by decide) (?_)))))))
      unfold wX_operate_64
      refine rx_cost6 c1 c2 (br_f (by decide) (br_t h0 (br_f (by decide) (br_t (by decide) (br_f (by decide) (br_f (by decide) (br_t (nI_le (a := 2) hne (by omega)) (br_f (by decide) (?_)))))))))
      unfold wY_operate_66
      exact ry_add6 c1 c2 ⟨rfl, J⟩
    · by_cases hne : 2 ≤ rs_pd a_itemKind a_itemArg N
      rotate_left
      · exact br_t h0 (br_f (by decide) (br_t (by decide) (br_f (by decide) (br_f (by decide) (br_f (nI_ge (b := 2) (by omega) (by decide)) (br_t h0 (br_f (by decide) (br_t (by decide) (br_f (by decide) (br_f (by decide) (br_f (nI_ge (b := 2) (by omega) (by decide)) (⟨rfl, J⟩))))))))))))
      refine br_t h0 (br_f (by decide) (br_t (by decide) (br_f (by decide) (br_f (by decide) (br_t (nI_le (a := 2) hne (by omega)) (br_f (by decide) (?_)))))))
      unfold wX_operate_64
      refine rx_cost6 c1 c2 (br_f (by decide) (br_t h0 (br_f (by decide) (br_t (by decide) (br_f (by decide) (br_f (by decide) (br_t (nI_le (a := 2) hne (by omega)) (br_f (by decide) (?_)))))))))
      unfold wY_operate_66
      exact ry_add6 c1 c2 ⟨rfl, J⟩
    · by_cases hne : 2 ≤ rs_pd a_itemKind a_itemArg N
      rotate_left
      · exact br_t h0 (br_f (by decide) (br_t (by decide) (br_f (by decide) (br_f (by decide) (br_f (nI_ge (b := 2) (by omega) (by decide)) (br_t h0 (br_f (by decide) (br_t (by decide) (br_f (by decide) (br_f (by decide) (br_f (nI_ge (b := 2) (by omega) (by decide)) (⟨rfl, J⟩))))))))))))
      refine br_t h0 (br_f (by decide) (br_t (by decide) (br_f (by decide) (br_f (by decide) (br_t (nI_le (a := 2) hne (by omega)) (br_f (by decide) (?_)))))))
      unfold wX_operate_64
      refine rx_cost6 c1 c2 (br_f (by decide) (br_t h0 (br_f (by decide) (br_t (by decide) (br_f (by decide) (br_f (by decide) (br_t (nI_le (a := 2) hne (by omega)) (br_f (by decide) (?_)))))))))
      unfold wY_operate_66
      exact ry_add6 c1 c2 ⟨rfl, J⟩
    · by_cases hne : 1 ≤ rs_pd a_itemKind a_itemArg N
      rotate_left
      · exact br_t h0 (br_f (by decide) (br_t (by decide) (br_t (by decide) (br_f (nI_ge (b := 1) (by omega) (by decide)) (br_t h0 (br_f (by decide) (br_t (by decide) (br_t (by decide) (br_f (nI_ge (b := 1) (by omega) (by decide)) (⟨rfl, J⟩))))))))))
      refine br_t h0 (br_f (by decide) (br_t (by decide) (br_t (by decide) (br_t (nI_le (a := 1) hne (by omega)) (br_f (by decide) (?_))))))
      unfold wX_operate_64
      refine rx_cost6 c1 c2 (br_f (by decide) (br_t h0 (br_f (by decide) (br_t (by decide) (br_t (by decide) (br_t (nI_le (a := 1) hne (by omega)) (br_f (by decide) (?_))))))))
      unfold wY_operate_66
      exact ry_add6 c1 c2 ⟨rfl, J⟩
    · by_cases hne : 1 ≤ rs_pd a_itemKind a_itemArg N
      rotate_left
      · exact br_t h0 (br_f (by decide) (br_t (by decide) (br_f (by decide) (br_t (by decide) (br_f (nI_ge (b := 1) (by omega) (by decide)) (br_t h0 (br_f (by decide) (br_t (by decide) (br_f (by decide) (br_t (by decide) (br_f (nI_ge (b := 1) (by omega) (by decide)) (⟨rfl, J⟩))))))))))))
      by_cases h8 : rs_pd a_itemKind a_itemArg N < 8
      rotate_left
      · have e8 : rs_pd a_itemKind a_itemArg N = 8 := by omega
        exact br_t h0 (br_f (by decide) (br_t (by decide) (br_f (by decide) (br_t (by decide) (br_t (nI_le (a := 1) hne (by omega)) (br_t (by decide) (br_f (by rw [e8]; decide) (br_t h0 (br_f (by decide) (br_t (by decide) (br_f (by decide) (br_t (by decide) (br_t (nI_le (a := 1) hne (by omega)) (br_t (by decide) (br_t (by rw [e8]; rfl) (⟨rfl, J⟩))))))))))))))))
      have n8 : ¬ nI (rs_pd a_itemKind a_itemArg N) = 8 := fun z => by
        have := (nI_eq (a := rs_pd a_itemKind a_itemArg N) (b := 8) (by omega) (by decide)).mp z
        omega
      refine br_t h0 (br_f (by decide) (br_t (by decide) (br_f (by decide) (br_t (by decide) (br_t (nI_le (a := 1) hne (by omega)) (br_t (by decide) (br_t (nI_lt (b := 8) h8 (by decide)) (?_))))))))
      unfold wX_operate_64
      refine rx_cost6 c1 c2 (br_f (by decide) (br_t h0 (br_f (by decide) (br_t (by decide) (br_f (by decide) (br_t (by decide) (br_t (nI_le (a := 1) hne (by omega)) (br_t (by decide) (br_f n8 (?_))))))))))
      unfold wY_operate_66
      exact ry_add6 c1 c2 ⟨rfl, J⟩
    · by_cases hne : 2 ≤ rs_pd a_itemKind a_itemArg N
      rotate_left
      · exact br_t h0 (br_f (by decide) (br_t (by decide) (br_f (by decide) (br_f (by decide) (br_f (nI_ge (b := 2) (by omega) (by decide)) (br_t h0 (br_f (by decide) (br_t (by decide) (br_f (by decide) (br_f (by decide) (br_f (nI_ge (b := 2) (by omega) (by decide)) (⟨rfl, J⟩))))))))))))
      refine br_t h0 (br_f (by decide) (br_t (by decide) (br_f (by decide) (br_f (by decide) (br_t (nI_le (a := 2) hne (by omega)) (br_f (by decide) (?_)))))))
      unfold wX_operate_64
      refine rx_cost6 c1 c2 (br_f (by decide) (br_t h0 (br_f (by decide) (br_t (by decide) (br_f (by decide) (br_f (by decide) (br_t (nI_le (a := 2) hne (by omega)) (br_f (by decide) (?_)))))))))
      unfold wY_operate_66
      exact ry_add6 c1 c2 ⟨rfl, J⟩
  have hsz : rs_sz a_itemKind N + 1 ≤ rm := by
    rw [nI_1, nI_leI (by omega) (by omega)] at c1; exact c1
  rcases (show j = 0 ∨ j = 1 ∨ j = 2 ∨ j = 3 ∨ j = 4 ∨ j = 5 ∨ j = 6 by omega) with rfl | rfl | rfl | rfl | rfl | rfl | rfl
  · by_cases hne : 2 ≤ rs_pd a_itemKind a_itemArg N
    rotate_left
    · exact br_t h0 (br_f (by decide) (br_t (by decide) (br_f (by decide) (br_f (by decide) (br_f (nI_ge (b := 2) (by omega) (by decide)) (br_t h0 (br_f (by decide) (br_t (by decide) (br_f (by decide) (br_f (by decide) (br_f (nI_ge (b := 2) (by omega) (by decide)) (⟨rfl, J⟩))))))))))))
    have ok : rs_ok q n (upd a_itemKind N 6) (upd a_itemArg N (nI 0)) N := rb_ok P.1 (Or.inr (Or.inr (Or.inr (Or.inr (Or.inl ⟨rfl, Or.inl rfl, hne⟩)))))
    refine br_t h0 (br_f (by decide) (br_t (by decide) (br_f (by decide) (br_f (by decide) (br_t (nI_le (a := 2) hne (by omega)) (br_f (by decide) (?_)))))))
    unfold wX_operate_64
    refine rx_cost0 c1 c2 (br_t rfl (br_f (by decide) (nm_e ?_)))
    unfold wX_operate_113
    refine rx_append (by omega) rfl rfl (br_t h0 (br_f (by decide) (br_t (by decide) (br_f (by decide) (br_f (by decide) (br_t (nI_le (a := 2) hne (by omega)) (br_f (by decide) (?_))))))))
    unfold wY_operate_66
    refine ry_add0 c1 c2 (by omega) (rb_PV P.1 ok) (fun ma hm => ⟨rfl, ?_⟩)
    exact rr_plain ⟨⟨hp, hn2, hn, hr1, hr2⟩, P, cI, cW, H⟩ h0 zt ok (by decide) (by decide) (by decide) (by decide) (by decide) rfl rfl hsz c2 (pk_sub (a := rs_pd a_itemKind a_itemArg N) (b := 1) (by omega)) hm
  · by_cases hne : 2 ≤ rs_pd a_itemKind a_itemArg N
    rotate_left
    · exact br_t h0 (br_f (by decide) (br_t (by decide) (br_f (by decide) (br_f (by decide) (br_f (nI_ge (b := 2) (by omega) (by decide)) (br_t h0 (br_f (by decide) (br_t (by decide) (br_f (by decide) (br_f (by decide) (br_f (nI_ge (b := 2) (by omega) (by decide)) (⟨rfl, J⟩))))))))))))
    have ok : rs_ok q n (upd a_itemKind N 6) (upd a_itemArg N (nI 1)) N := rb_ok P.1 (Or.inr (Or.inr (Or.inr (Or.inr (Or.inl ⟨rfl, Or.inr (Or.inl rfl), hne⟩)))))
    refine br_t h0 (br_f (by decide) (br_t (by decide) (br_f (by decide) (br_f (by decide) (br_t (nI_le (a := 2) hne (by omega)) (br_f (by decide) (?_)))))))
    unfold wX_operate_64
    refine rx_cost0 c1 c2 (br_t rfl (br_f (by decide) (nm_e ?_)))
    unfold wX_operate_113
    refine rx_append (by omega) rfl rfl (br_t h0 (br_f (by decide) (br_t (by decide) (br_f (by decide) (br_f (by decide) (br_t (nI_le (a := 2) hne (by omega)) (br_f (by decide) (?_))))))))
    unfold wY_operate_66
    refine ry_add0 c1 c2 (by omega) (rb_PV P.1 ok) (fun ma hm => ⟨rfl, ?_⟩)
    exact rr_plain ⟨⟨hp, hn2, hn, hr1, hr2⟩, P, cI, cW, H⟩ h0 zt ok (by decide) (by decide) (by decide) (by decide) (by decide) rfl rfl hsz c2 (pk_sub (a := rs_pd a_itemKind a_itemArg N) (b := 1) (by omega)) hm
  · by_cases hne : 2 ≤ rs_pd a_itemKind a_itemArg N
    rotate_left
    · exact br_t h0 (br_f (by decide) (br_t (by decide) (br_f (by decide) (br_f (by decide) (br_f (nI_ge (b := 2) (by omega) (by decide)) (br_t h0 (br_f (by decide) (br_t (by decide) (br_f (by decide) (br_f (by decide) (br_f (nI_ge (b := 2) (by omega) (by decide)) (⟨rfl, J⟩))))))))))))
    have ok : rs_ok q n (upd a_itemKind N 6) (upd a_itemArg N (nI 2)) N := rb_ok P.1 (Or.inr (Or.inr (Or.inr (Or.inr (Or.inl ⟨rfl, Or.inr (Or.inr (Or.inl rfl)), hne⟩)))))
    refine br_t h0 (br_f (by decide) (br_t (by decide) (br_f (by decide) (br_f (by decide) (br_t (nI_le (a := 2) hne (by omega)) (br_f (by decide) (?_)))))))
    unfold wX_operate_64
    refine rx_cost0 c1 c2 (br_t rfl (br_f (by decide) (nm_e ?_)))
    unfold wX_operate_113
    refine rx_append (by omega) rfl rfl (br_t h0 (br_f (by decide) (br_t (by decide) (br_f (by decide) (br_f (by decide) (br_t (nI_le (a := 2) hne (by omega)) (br_f (by decide) (?_))))))))
    unfold wY_operate_66
    refine ry_add0 c1 c2 (by omega) (rb_PV P.1 ok) (fun ma hm => ⟨rfl, ?_⟩)
    exact rr_plain ⟨⟨hp, hn2, hn, hr1, hr2⟩, P, cI, cW, H⟩ h0 zt ok (by decide) (by decide) (by decide) (by decide) (by decide) rfl rfl hsz c2 (pk_sub (a := rs_pd a_itemKind a_itemArg N) (b := 1) (by omega)) hm
  · by_cases hne : 2 ≤ rs_pd a_itemKind a_itemArg N
    rotate_left
    · exact br_t h0 (br_f (by decide) (br_t (by decide) (br_f (by decide) (br_f (by decide) (br_f (nI_ge (b := 2) (by omega) (by decide)) (br_t h0 (br_f (by decide) (br_t (by decide) (br_f (by decide) (br_f (by decide) (br_f (nI_ge (b := 2) (by omega) (by decide)) (⟨rfl, J⟩))))))))))))
    have ok : rs_ok q n (upd a_itemKind N 6) (upd a_itemArg N (nI 3)) N := rb_ok P.1 (Or.inr (Or.inr (Or.inr (Or.inr (Or.inl ⟨rfl, Or.inr (Or.inr (Or.inr (Or.inl rfl))), hne⟩)))))
    refine br_t h0 (br_f (by decide) (br_t (by decide) (br_f (by decide) (br_f (by decide) (br_t (nI_le (a := 2) hne (by omega)) (br_f (by decide) (?_)))))))
    unfold wX_operate_64
    refine rx_cost0 c1 c2 (br_t rfl (br_f (by decide) (nm_e ?_)))
    unfold wX_operate_113
    refine rx_append (by omega) rfl rfl (br_t h0 (br_f (by decide) (br_t (by decide) (br_f (by decide) (br_f (by decide) (br_t (nI_le (a := 2) hne (by omega)) (br_f (by decide) (?_))))))))
    unfold wY_operate_66
    refine ry_add0 c1 c2 (by omega) (rb_PV P.1 ok) (fun ma hm => ⟨rfl, ?_⟩)
    exact rr_plain ⟨⟨hp, hn2, hn, hr1, hr2⟩, P, cI, cW, H⟩ h0 zt ok (by decide) (by decide) (by decide) (by decide) (by decide) rfl rfl hsz c2 (pk_sub (a := rs_pd a_itemKind a_itemArg N) (b := 1) (by omega)) hm
  · by_cases hne : 1 ≤ rs_pd a_itemKind a_itemArg N
    rotate_left
    · exact br_t h0 (br_f (by decide) (br_t (by decide) (br_t (by decide) (br_f (nI_ge (b := 1) (by omega) (by decide)) (br_t h0 (br_f (by decide) (br_t (by decide) (br_t (by decide) (br_f (nI_ge (b := 1) (by omega) (by decide)) (⟨rfl, J⟩))))))))))
    have ok : rs_ok q n (upd a_itemKind N 6) (upd a_itemArg N (nI 4)) N := rb_ok P.1 (Or.inr (Or.inr (Or.inr (Or.inr (Or.inr (Or.inl ⟨rfl, rfl, hne⟩))))))
    refine br_t h0 (br_f (by decide) (br_t (by decide) (br_t (by decide) (br_t (nI_le (a := 1) hne (by omega)) (br_f (by decide) (?_))))))
    unfold wX_operate_64
    refine rx_cost0 c1 c2 (br_t rfl (br_t (by decide) (br_f (by decide) ?_)))
    unfold wX_operate_113
    refine rx_append (by omega) rfl rfl (br_t h0 (br_f (by decide) (br_t (by decide) (br_t (by decide) (br_t (nI_le (a := 1) hne (by omega)) (br_f (by decide) (?_)))))))
    unfold wY_operate_66
    refine ry_add0 c1 c2 (by omega) (rb_PV P.1 ok) (fun ma hm => ⟨rfl, ?_⟩)
    exact rr_plain ⟨⟨hp, hn2, hn, hr1, hr2⟩, P, cI, cW, H⟩ h0 zt ok (by decide) (by decide) (by decide) (by decide) (by decide) rfl rfl hsz c2 rfl hm
  · by_cases hne : 1 ≤ rs_pd a_itemKind a_itemArg N
    rotate_left
    · exact br_t h0 (br_f (by decide) (br_t (by decide) (br_f (by decide) (br_t (by decide) (br_f (nI_ge (b := 1) (by omega) (by decide)) (br_t h0 (br_f (by decide) (br_t (by decide) (br_f (by decide) (br_t (by decide) (br_f (nI_ge (b := 1) (by omega) (by decide)) (⟨rfl, J⟩))))))))))))
    by_cases h8 : rs_pd a_itemKind a_itemArg N < 8
    rotate_left
    · have e8 : rs_pd a_itemKind a_itemArg N = 8 := by omega
      exact br_t h0 (br_f (by decide) (br_t (by decide) (br_f (by decide) (br_t (by decide) (br_t (nI_le (a := 1) hne (by omega)) (br_t (by decide) (br_f (by rw [e8]; decide) (br_t h0 (br_f (by decide) (br_t (by decide) (br_f (by decide) (br_t (by decide) (br_t (nI_le (a := 1) hne (by omega)) (br_t (by decide) (br_t (by rw [e8]; rfl) (⟨rfl, J⟩))))))))))))))))
    have n8 : ¬ nI (rs_pd a_itemKind a_itemArg N) = 8 := fun z => by
      have := (nI_eq (a := rs_pd a_itemKind a_itemArg N) (b := 8) (by omega) (by decide)).mp z
      omega
    have ok : rs_ok q n (upd a_itemKind N 6) (upd a_itemArg N (nI 5)) N := rb_ok P.1 (Or.inr (Or.inr (Or.inr (Or.inr (Or.inr (Or.inr (Or.inl ⟨rfl, rfl, hne, h8⟩)))))))
    refine br_t h0 (br_f (by decide) (br_t (by decide) (br_f (by decide) (br_t (by decide) (br_t (nI_le (a := 1) hne (by omega)) (br_t (by decide) (br_t (nI_lt (b := 8) h8 (by decide)) (?_))))))))
    unfold wX_operate_64
    refine rx_cost0 c1 c2 (br_t rfl (br_t (by decide) (br_t (by decide) (nm_e ?_))))
    unfold wX_operate_113
    refine rx_append (by omega) rfl rfl (br_t h0 (br_f (by decide) (br_t (by decide) (br_f (by decide) (br_t (by decide) (br_t (nI_le (a := 1) hne (by omega)) (br_t (by decide) (br_f n8 (?_)))))))))
    unfold wY_operate_66
    refine ry_add0 c1 c2 (by omega) (rb_PV P.1 ok) (fun ma hm => ⟨rfl, ?_⟩)
    exact rr_plain ⟨⟨hp, hn2, hn, hr1, hr2⟩, P, cI, cW, H⟩ h0 zt ok (by decide) (by decide) (by decide) (by decide) (by decide) rfl rfl hsz c2 (nI_1 _) hm
  · by_cases hne : 2 ≤ rs_pd a_itemKind a_itemArg N
    rotate_left
    · exact br_t h0 (br_f (by decide) (br_t (by decide) (br_f (by decide) (br_f (by decide) (br_f (nI_ge (b := 2) (by omega) (by decide)) (br_t h0 (br_f (by decide) (br_t (by decide) (br_f (by decide) (br_f (by decide) (br_f (nI_ge (b := 2) (by omega) (by decide)) (⟨rfl, J⟩))))))))))))
    have ok : rs_ok q n (upd a_itemKind N 6) (upd a_itemArg N (nI 6)) N := rb_ok P.1 (Or.inr (Or.inr (Or.inr (Or.inr (Or.inl ⟨rfl, Or.inr (Or.inr (Or.inr (Or.inr rfl))), hne⟩)))))
    refine br_t h0 (br_f (by decide) (br_t (by decide) (br_f (by decide) (br_f (by decide) (br_t (nI_le (a := 2) hne (by omega)) (br_f (by decide) (?_)))))))
    unfold wX_operate_64
    refine rx_cost0 c1 c2 (br_t rfl (br_t (by decide) (br_f (by decide) ?_)))
    unfold wX_operate_113
    refine rx_append (by omega) rfl rfl (br_t h0 (br_f (by decide) (br_t (by decide) (br_f (by decide) (br_f (by decide) (br_t (nI_le (a := 2) hne (by omega)) (br_f (by decide) (?_))))))))
    unfold wY_operate_66
    refine ry_add0 c1 c2 (by omega) (rb_PV P.1 ok) (fun ma hm => ⟨rfl, ?_⟩)
    exact rr_plain ⟨⟨hp, hn2, hn, hr1, hr2⟩, P, cI, cW, H⟩ h0 zt ok (by decide) (by decide) (by decide) (by decide) (by decide) rfl rfl hsz c2 rfl hm
end
section
/-! building: openers -/
theorem rr_openL {k q n rm N : Nat} {f_STORE_CELL f_STORE_AT f_OPERATOR f_LOOP f_LOOP_BY f_IF f_ELSE f_END f_ACT_ZERO f_ACT_READ f_ACT_WRITE f_ACT_DROP f_ACT_COMBINE f_ACT_NEGATE f_ACT_COPY f_ACT_EXCHANGE f_phase f_depth f_loopDepth f_faultItem f_actCount f_stepCount f_cursor f_hasTangent f_flowDepth f_steps f_nextItem f_nextCell f_top g_cursor g_faultItem : Int32} {a_inputs a_weights a_itemKind a_itemArg a_itemJump a_openItem a_openElse a_openFactor a_cells a_stack a_loopCounter a_loopLimit a_actCode a_actLeft a_actRight a_stepItem a_stepCell a_stepOld a_stepNew a_stepEnd a_adjoints a_tangents a_flow a_marks a_cell a_dcell a_seen a_val a_der a_start a_counter a_total g_tangents : Nat → Int32} {kk a : Int32} {ma : Nat → Int32} (F : rr_F q n rm N a_itemKind a_itemArg a_itemJump a_openItem a_openElse a_openFactor a_marks a_inputs a_weights f_phase f_hasTangent f_faultItem f_actCount f_stepCount f_cursor a_cells a_actCode a_actLeft a_actRight a_stepItem a_stepCell a_stepOld a_stepNew a_stepEnd a_adjoints a_tangents f_steps g_cursor g_faultItem g_tangents) (h0 : f_phase = 0) (zt : f_hasTangent = 0) (ok : rs_ok q n (upd a_itemKind N kk) (upd a_itemArg N a) N)
    (h : kk = 7 ∨ kk = 8) (hpd : rs_p1 kk a (rs_pd a_itemKind a_itemArg N) = 0) (hsz : rs_sz a_itemKind N + 3 ≤ rm) (c2 : rs_wk a_itemKind a_itemArg N + rs_fac a_itemKind a_itemArg (rs_sk a_itemKind N) * (a + 1) ≤ 1024)
    (hm : rl_A (fun x => nI x.2) ma (rs_sk (upd a_itemKind N kk) (N + 1))) : i_Rel k (f_STORE_CELL, f_STORE_AT, f_OPERATOR, f_LOOP, f_LOOP_BY, f_IF, f_ELSE, f_END, f_ACT_ZERO, f_ACT_READ, f_ACT_WRITE, f_ACT_DROP, f_ACT_COMBINE, f_ACT_NEGATE, f_ACT_COPY, f_ACT_EXCHANGE, nI (q + 1), nI n, nI rm, f_phase, nI (N + 1), nI (rs_sz a_itemKind N) + 3, 0, rs_fac a_itemKind a_itemArg (rs_sk a_itemKind N) * a, rs_wk a_itemKind a_itemArg N + rs_fac a_itemKind a_itemArg (rs_sk a_itemKind N) * (a + 1), nI (rs_sk a_itemKind N).length + 1, nI (rs_lp a_itemKind (rs_sk a_itemKind N)).length + 1, f_depth, f_loopDepth, f_faultItem, f_actCount, f_stepCount, f_cursor, f_hasTangent, f_flowDepth, a_inputs, a_weights, upd a_itemKind N kk, upd a_itemArg N a, upd a_itemJump N (nI N), upd a_openItem (rs_sk a_itemKind N).length (nI N), upd a_openElse (rs_sk a_itemKind N).length (-1), upd a_openFactor (rs_sk a_itemKind N).length (rs_fac a_itemKind a_itemArg (rs_sk a_itemKind N)), a_cells, a_stack, a_loopCounter, a_loopLimit, a_actCode, a_actLeft, a_actRight, a_stepItem, a_stepCell, a_stepOld, a_stepNew, a_stepEnd, a_adjoints, a_tangents, a_flow) (nI (q + 1), nI n, nI rm, f_phase, nI (N + 1), g_cursor, f_hasTangent, nI (rs_sz (upd a_itemKind N kk) (N + 1)), nI (rs_pd (upd a_itemKind N kk) (upd a_itemArg N a) (N + 1)), rs_fac (upd a_itemKind N kk) (upd a_itemArg N a) (rs_sk (upd a_itemKind N kk) (N + 1)), rs_wk (upd a_itemKind N kk) (upd a_itemArg N a) (N + 1), nI (rs_sk (upd a_itemKind N kk) (N + 1)).length, nI (rs_lp (upd a_itemKind N kk) (rs_sk (upd a_itemKind N kk) (N + 1))).length, f_steps, g_faultItem, f_nextItem, f_nextCell, f_top, upd a_itemKind N kk, upd a_itemArg N a, a_inputs, a_weights, g_tangents, ma, a_cell, a_dcell, a_seen, a_val, a_der, a_start, a_counter, a_total) := by
  obtain ⟨c, P, cI, cW, H⟩ := F
  have es := rb_skO (kd := a_itemKind) (N := N) (k := kk) (h.elim Or.inl (fun z => Or.inr (Or.inl z)))
  have s1 : rs_s1 kk = 3 := by rcases h with z | z <;> rw [z] <;> rfl
  have w1 : rs_w1 kk a (rs_fac a_itemKind a_itemArg (rs_sk a_itemKind N)) = rs_fac a_itemKind a_itemArg (rs_sk a_itemKind N) * (a + 1) := by rcases h with z | z <;> rw [z] <;> rfl
  refine rr_in2 (N := N + 1) ?_ ?_ ?_ ?_ ?_ ?_ ⟨c, rb_PO P ok (h.elim Or.inl (fun z => Or.inr (Or.inl z))) hsz (by rw [rb_wk P.1, w1]; exact c2) hm, cI, cW, Or.inl ⟨h0, zt⟩⟩
  · rw [rb_sz, s1]; exact nI_add _ 3
  · rw [rb_pd, hpd]; rfl
  · rw [es]
    show _ = if upd a_itemKind N kk N = 7 ∨ upd a_itemKind N kk N = 8 then rs_fac (upd a_itemKind N kk) (upd a_itemArg N a) (rs_sk a_itemKind N) * upd a_itemArg N a N else _
    rw [pk_us, pk_us, if_pos h, rb_fac P.1]
  · rw [rb_wk P.1, w1]
  · rw [es]; exact nI_1 _
  · rw [es]
    show _ = nI (if upd a_itemKind N kk N = 7 ∨ upd a_itemKind N kk N = 8 then N :: rs_lp (upd a_itemKind N kk) (rs_sk a_itemKind N) else _).length
    rw [pk_us, if_pos h, rb_lp P.1]; exact nI_1 _
theorem rr_openI {k q n rm N : Nat} {f_STORE_CELL f_STORE_AT f_OPERATOR f_LOOP f_LOOP_BY f_IF f_ELSE f_END f_ACT_ZERO f_ACT_READ f_ACT_WRITE f_ACT_DROP f_ACT_COMBINE f_ACT_NEGATE f_ACT_COPY f_ACT_EXCHANGE f_phase f_depth f_loopDepth f_faultItem f_actCount f_stepCount f_cursor f_hasTangent f_flowDepth f_steps f_nextItem f_nextCell f_top g_cursor g_faultItem : Int32} {a_inputs a_weights a_itemKind a_itemArg a_itemJump a_openItem a_openElse a_openFactor a_cells a_stack a_loopCounter a_loopLimit a_actCode a_actLeft a_actRight a_stepItem a_stepCell a_stepOld a_stepNew a_stepEnd a_adjoints a_tangents a_flow a_marks a_cell a_dcell a_seen a_val a_der a_start a_counter a_total g_tangents : Nat → Int32} {a : Int32} {ma : Nat → Int32} (F : rr_F q n rm N a_itemKind a_itemArg a_itemJump a_openItem a_openElse a_openFactor a_marks a_inputs a_weights f_phase f_hasTangent f_faultItem f_actCount f_stepCount f_cursor a_cells a_actCode a_actLeft a_actRight a_stepItem a_stepCell a_stepOld a_stepNew a_stepEnd a_adjoints a_tangents f_steps g_cursor g_faultItem g_tangents) (h0 : f_phase = 0) (zt : f_hasTangent = 0) (ok : rs_ok q n (upd a_itemKind N 9) (upd a_itemArg N a) N)
    (hpd : rs_p1 9 a (rs_pd a_itemKind a_itemArg N) = 0) (hsz : rs_sz a_itemKind N + 3 ≤ rm) (c2 : rs_wk a_itemKind a_itemArg N + 3 * rs_fac a_itemKind a_itemArg (rs_sk a_itemKind N) ≤ 1024)
    (hm : rl_A (fun x => nI x.2) ma (rs_sk (upd a_itemKind N 9) (N + 1))) : i_Rel k (f_STORE_CELL, f_STORE_AT, f_OPERATOR, f_LOOP, f_LOOP_BY, f_IF, f_ELSE, f_END, f_ACT_ZERO, f_ACT_READ, f_ACT_WRITE, f_ACT_DROP, f_ACT_COMBINE, f_ACT_NEGATE, f_ACT_COPY, f_ACT_EXCHANGE, nI (q + 1), nI n, nI rm, f_phase, nI (N + 1), nI (rs_sz a_itemKind N) + 3, 0, rs_fac a_itemKind a_itemArg (rs_sk a_itemKind N), rs_wk a_itemKind a_itemArg N + 3 * rs_fac a_itemKind a_itemArg (rs_sk a_itemKind N), nI (rs_sk a_itemKind N).length + 1, nI (rs_lp a_itemKind (rs_sk a_itemKind N)).length, f_depth, f_loopDepth, f_faultItem, f_actCount, f_stepCount, f_cursor, f_hasTangent, f_flowDepth, a_inputs, a_weights, upd a_itemKind N 9, upd a_itemArg N a, upd a_itemJump N (nI N), upd a_openItem (rs_sk a_itemKind N).length (nI N), upd a_openElse (rs_sk a_itemKind N).length (-1), upd a_openFactor (rs_sk a_itemKind N).length (rs_fac a_itemKind a_itemArg (rs_sk a_itemKind N)), a_cells, a_stack, a_loopCounter, a_loopLimit, a_actCode, a_actLeft, a_actRight, a_stepItem, a_stepCell, a_stepOld, a_stepNew, a_stepEnd, a_adjoints, a_tangents, a_flow) (nI (q + 1), nI n, nI rm, f_phase, nI (N + 1), g_cursor, f_hasTangent, nI (rs_sz (upd a_itemKind N 9) (N + 1)), nI (rs_pd (upd a_itemKind N 9) (upd a_itemArg N a) (N + 1)), rs_fac (upd a_itemKind N 9) (upd a_itemArg N a) (rs_sk (upd a_itemKind N 9) (N + 1)), rs_wk (upd a_itemKind N 9) (upd a_itemArg N a) (N + 1), nI (rs_sk (upd a_itemKind N 9) (N + 1)).length, nI (rs_lp (upd a_itemKind N 9) (rs_sk (upd a_itemKind N 9) (N + 1))).length, f_steps, g_faultItem, f_nextItem, f_nextCell, f_top, upd a_itemKind N 9, upd a_itemArg N a, a_inputs, a_weights, g_tangents, ma, a_cell, a_dcell, a_seen, a_val, a_der, a_start, a_counter, a_total) := by
  obtain ⟨c, P, cI, cW, H⟩ := F
  have es := rb_skO (kd := a_itemKind) (N := N) (k := 9) (Or.inr (Or.inr rfl))
  have s1 : rs_s1 9 = 3 := rfl
  have w1 : rs_w1 9 a (rs_fac a_itemKind a_itemArg (rs_sk a_itemKind N)) = 3 * rs_fac a_itemKind a_itemArg (rs_sk a_itemKind N) := rfl
  refine rr_in2 (N := N + 1) ?_ ?_ ?_ ?_ ?_ ?_ ⟨c, rb_PO P ok (Or.inr (Or.inr rfl)) hsz (by rw [rb_wk P.1, w1]; exact c2) hm, cI, cW, Or.inl ⟨h0, zt⟩⟩
  · rw [rb_sz, s1]; exact nI_add _ 3
  · rw [rb_pd, hpd]; rfl
  · rw [es]
    show _ = if upd a_itemKind N 9 N = 7 ∨ upd a_itemKind N 9 N = 8 then _ else rs_fac (upd a_itemKind N 9) (upd a_itemArg N a) (rs_sk a_itemKind N)
    rw [pk_us, if_neg (by decide), rb_fac P.1]
  · rw [rb_wk P.1, w1]
  · rw [es]; exact nI_1 _
  · rw [es]
    show _ = nI (if upd a_itemKind N 9 N = 7 ∨ upd a_itemKind N 9 N = 8 then _ else rs_lp (upd a_itemKind N 9) (rs_sk a_itemKind N)).length
    rw [pk_us, if_neg (by decide), rb_lp P.1]
section
variable {f_STORE_CELL f_STORE_AT f_OPERATOR f_LOOP f_LOOP_BY f_IF f_ELSE f_END f_ACT_ZERO f_ACT_READ f_ACT_WRITE f_ACT_DROP f_ACT_COMBINE f_ACT_NEGATE f_ACT_COPY f_ACT_EXCHANGE f_prime f_cellCount f_room f_phase f_itemCount f_size f_pending f_factor f_work f_openCount f_openLoops f_depth f_loopDepth f_faultItem f_actCount f_stepCount f_cursor f_hasTangent f_flowDepth : Int32} {a_inputs a_weights a_itemKind a_itemArg a_itemJump a_openItem a_openElse a_openFactor a_cells a_stack a_loopCounter a_loopLimit a_actCode a_actLeft a_actRight a_stepItem a_stepCell a_stepOld a_stepNew a_stepEnd a_adjoints a_tangents a_flow : Nat → Int32}
theorem rx_openL {post : Int32 → SX → Prop} {N len : Nat} {kk a w need : Int32} (hkk : ¬ kk = 9) (hN : N < 128) (hl : len < 6) (hp : f_pending = need) (c1 : f_size + 3 ≤ f_room) (c2 : f_work + w ≤ 1024)
    (K : post (nI N) (f_STORE_CELL, f_STORE_AT, f_OPERATOR, f_LOOP, f_LOOP_BY, f_IF, f_ELSE, f_END, f_ACT_ZERO, f_ACT_READ, f_ACT_WRITE, f_ACT_DROP, f_ACT_COMBINE, f_ACT_NEGATE, f_ACT_COPY, f_ACT_EXCHANGE, f_prime, f_cellCount, f_room, f_phase, nI (N + 1), f_size + 3, 0, f_factor * a, f_work + w, nI len + 1, f_openLoops + 1, f_depth, f_loopDepth, f_faultItem, f_actCount, f_stepCount, f_cursor, f_hasTangent, f_flowDepth, a_inputs, a_weights, upd a_itemKind N kk, upd a_itemArg N a, upd a_itemJump N (nI N), upd a_openItem len (nI N), upd a_openElse len (-1), upd a_openFactor len f_factor, a_cells, a_stack, a_loopCounter, a_loopLimit, a_actCode, a_actLeft, a_actRight, a_stepItem, a_stepCell, a_stepOld, a_stepNew, a_stepEnd, a_adjoints, a_tangents, a_flow)) : wpX_openBlock post (f_STORE_CELL, f_STORE_AT, f_OPERATOR, f_LOOP, f_LOOP_BY, f_IF, f_ELSE, f_END, f_ACT_ZERO, f_ACT_READ, f_ACT_WRITE, f_ACT_DROP, f_ACT_COMBINE, f_ACT_NEGATE, f_ACT_COPY, f_ACT_EXCHANGE, f_prime, f_cellCount, f_room, f_phase, nI N, f_size, f_pending, f_factor, f_work, nI len, f_openLoops, f_depth, f_loopDepth, f_faultItem, f_actCount, f_stepCount, f_cursor, f_hasTangent, f_flowDepth, a_inputs, a_weights, a_itemKind, a_itemArg, a_itemJump, a_openItem, a_openElse, a_openFactor, a_cells, a_stack, a_loopCounter, a_loopLimit, a_actCode, a_actLeft, a_actRight, a_stepItem, a_stepCell, a_stepOld, a_stepNew, a_stepEnd, a_adjoints, a_tangents, a_flow) kk a need w := by
  refine br_t hp (br_t (nI_lt (b := 6) hl (by decide)) (rx_cost0 c1 c2 (br_t rfl (rx_append hN rfl rfl ?_))))
  exact And.intro (vp_in_nI hl (by decide)) (nm_r (e' := upd a_openItem len (nI N)) (by rw [nI_clamp (by omega)]) (And.intro (vp_in_nI hl (by decide)) (nm_r (e' := upd a_openElse len (-1)) (by rw [nI_clamp (by omega)]) (And.intro (vp_in_nI hl (by decide)) (nm_r (e' := upd a_openFactor len f_factor) (by rw [nI_clamp (by omega)]) (nm_e (br_f hkk (nm_e (nm_e K)))))))))
theorem rx_openI {post : Int32 → SX → Prop} {N len : Nat} {a w need : Int32} (hN : N < 128) (hl : len < 6) (hp : f_pending = need) (c1 : f_size + 3 ≤ f_room) (c2 : f_work + w ≤ 1024)
    (K : post (nI N) (f_STORE_CELL, f_STORE_AT, f_OPERATOR, f_LOOP, f_LOOP_BY, f_IF, f_ELSE, f_END, f_ACT_ZERO, f_ACT_READ, f_ACT_WRITE, f_ACT_DROP, f_ACT_COMBINE, f_ACT_NEGATE, f_ACT_COPY, f_ACT_EXCHANGE, f_prime, f_cellCount, f_room, f_phase, nI (N + 1), f_size + 3, 0, f_factor, f_work + w, nI len + 1, f_openLoops, f_depth, f_loopDepth, f_faultItem, f_actCount, f_stepCount, f_cursor, f_hasTangent, f_flowDepth, a_inputs, a_weights, upd a_itemKind N 9, upd a_itemArg N a, upd a_itemJump N (nI N), upd a_openItem len (nI N), upd a_openElse len (-1), upd a_openFactor len f_factor, a_cells, a_stack, a_loopCounter, a_loopLimit, a_actCode, a_actLeft, a_actRight, a_stepItem, a_stepCell, a_stepOld, a_stepNew, a_stepEnd, a_adjoints, a_tangents, a_flow)) : wpX_openBlock post (f_STORE_CELL, f_STORE_AT, f_OPERATOR, f_LOOP, f_LOOP_BY, f_IF, f_ELSE, f_END, f_ACT_ZERO, f_ACT_READ, f_ACT_WRITE, f_ACT_DROP, f_ACT_COMBINE, f_ACT_NEGATE, f_ACT_COPY, f_ACT_EXCHANGE, f_prime, f_cellCount, f_room, f_phase, nI N, f_size, f_pending, f_factor, f_work, nI len, f_openLoops, f_depth, f_loopDepth, f_faultItem, f_actCount, f_stepCount, f_cursor, f_hasTangent, f_flowDepth, a_inputs, a_weights, a_itemKind, a_itemArg, a_itemJump, a_openItem, a_openElse, a_openFactor, a_cells, a_stack, a_loopCounter, a_loopLimit, a_actCode, a_actLeft, a_actRight, a_stepItem, a_stepCell, a_stepOld, a_stepNew, a_stepEnd, a_adjoints, a_tangents, a_flow) 9 a need w := by
  refine br_t hp (br_t (nI_lt (b := 6) hl (by decide)) (rx_cost0 c1 c2 (br_t rfl (rx_append hN rfl rfl ?_))))
  exact And.intro (vp_in_nI hl (by decide)) (nm_r (e' := upd a_openItem len (nI N)) (by rw [nI_clamp (by omega)]) (And.intro (vp_in_nI hl (by decide)) (nm_r (e' := upd a_openElse len (-1)) (by rw [nI_clamp (by omega)]) (And.intro (vp_in_nI hl (by decide)) (nm_r (e' := upd a_openFactor len f_factor) (by rw [nI_clamp (by omega)]) (nm_e (br_t rfl K)))))))
end
theorem i_vc_beginLoop {k : Nat} {u : SX} {v : SY} (I : i_Rel k u v) (hk : k + 3 ≤ 1539) (v1 : Int32) : wpX_beginLoop (fun r u' => wpY_beginLoop (fun r' v' => r' = r ∧ i_Rel (k + 3) u' v') v v1) u v1 := by
  refine rr_el (P := fun u v => wpX_beginLoop (fun r u' => wpY_beginLoop (fun r' v' => r' = r ∧ i_Rel (k + 3) u' v') v v1) u v1) ?_ I
  intro q n rm N f_STORE_CELL f_STORE_AT f_OPERATOR f_LOOP f_LOOP_BY f_IF f_ELSE f_END f_ACT_ZERO f_ACT_READ f_ACT_WRITE f_ACT_DROP f_ACT_COMBINE f_ACT_NEGATE f_ACT_COPY f_ACT_EXCHANGE f_phase f_depth f_loopDepth f_faultItem f_actCount f_stepCount f_cursor f_hasTangent f_flowDepth f_steps f_nextItem f_nextCell f_top g_cursor g_faultItem a_inputs a_weights a_itemKind a_itemArg a_itemJump a_openItem a_openElse a_openFactor a_cells a_stack a_loopCounter a_loopLimit a_actCode a_actLeft a_actRight a_stepItem a_stepCell a_stepOld a_stepNew a_stepEnd a_adjoints a_tangents a_flow a_marks a_cell a_dcell a_seen a_val a_der a_start a_counter a_total g_tangents F
  have J : i_Rel (k + 3) (f_STORE_CELL, f_STORE_AT, f_OPERATOR, f_LOOP, f_LOOP_BY, f_IF, f_ELSE, f_END, f_ACT_ZERO, f_ACT_READ, f_ACT_WRITE, f_ACT_DROP, f_ACT_COMBINE, f_ACT_NEGATE, f_ACT_COPY, f_ACT_EXCHANGE, nI (q + 1), nI n, nI rm, f_phase, nI N, nI (rs_sz a_itemKind N), nI (rs_pd a_itemKind a_itemArg N), rs_fac a_itemKind a_itemArg (rs_sk a_itemKind N), rs_wk a_itemKind a_itemArg N, nI (rs_sk a_itemKind N).length, nI (rs_lp a_itemKind (rs_sk a_itemKind N)).length, f_depth, f_loopDepth, f_faultItem, f_actCount, f_stepCount, f_cursor, f_hasTangent, f_flowDepth, a_inputs, a_weights, a_itemKind, a_itemArg, a_itemJump, a_openItem, a_openElse, a_openFactor, a_cells, a_stack, a_loopCounter, a_loopLimit, a_actCode, a_actLeft, a_actRight, a_stepItem, a_stepCell, a_stepOld, a_stepNew, a_stepEnd, a_adjoints, a_tangents, a_flow) (nI (q + 1), nI n, nI rm, f_phase, nI N, g_cursor, f_hasTangent, nI (rs_sz a_itemKind N), nI (rs_pd a_itemKind a_itemArg N), rs_fac a_itemKind a_itemArg (rs_sk a_itemKind N), rs_wk a_itemKind a_itemArg N, nI (rs_sk a_itemKind N).length, nI (rs_lp a_itemKind (rs_sk a_itemKind N)).length, f_steps, g_faultItem, f_nextItem, f_nextCell, f_top, a_itemKind, a_itemArg, a_inputs, a_weights, g_tangents, a_marks, a_cell, a_dcell, a_seen, a_val, a_der, a_start, a_counter, a_total) := rr_in F
  obtain ⟨⟨hp, hn2, hn, hr1, hr2⟩, P, cI, cW, H⟩ := F
  have hq := (ra_pr_lt hp).1
  have hN : N + rs_re (rs_sk a_itemKind N) ≤ rs_sz a_itemKind N := P.2.2.1
  have hsr : rs_sz a_itemKind N ≤ rm := P.2.2.2.1
  have p8 : rs_pd a_itemKind a_itemArg N ≤ 8 := rs_pd8 N P.1
  have l6 := rs_len N P.1
  have lp6 : (rs_lp a_itemKind (rs_sk a_itemKind N)).length ≤ 6 := Nat.le_trans (rs_lpl _) l6
  by_cases h0 : f_phase = 0
  rotate_left
  · refine br_f h0 ?_
    unfold wpY_beginLoop
    exact br_f h0 ⟨rfl, J⟩
  have zt : f_hasTangent = 0 := by
    rcases H with ⟨_, z⟩ | ⟨z, _⟩ | ⟨z, _⟩ | ⟨z, _⟩
    · exact z
    · rw [z] at h0; exact absurd h0 (by decide)
    · rw [z] at h0; exact absurd h0 (by decide)
    · rw [z] at h0; exact absurd h0 (by decide)
  by_cases a1 : v1 < 1
  · refine br_t h0 (br_t a1 ?_)
    unfold wpY_beginLoop
    exact br_t h0 (br_t a1 ⟨rfl, J⟩)
  by_cases a2 : v1 ≤ 16
  rotate_left
  · refine br_t h0 (br_f a1 (br_f a2 ?_))
    unfold wpY_beginLoop
    exact br_t h0 (br_f a1 (br_f a2 ⟨rfl, J⟩))
  obtain ⟨c, hc1, hc2, rfl⟩ : ∃ c : Nat, 1 ≤ c ∧ c ≤ 16 ∧ v1 = nI c := by
    have n0 : ¬ v1 < 0 := fun z => a1 (Int32.lt_trans z (by decide))
    obtain ⟨j, hj, rfl⟩ := nI_of n0
    have b1 : ¬ nI j < nI 1 := a1
    have b2 : nI j ≤ nI 16 := a2
    rw [nI_ltI hj (by decide)] at b1
    rw [nI_leI hj (by decide)] at b2
    exact ⟨j, by omega, b2, rfl⟩
  refine br_t h0 (br_f a1 (br_t a2 ?_))
  have goY : ∀ post : Int32 → SY → Prop, ((nI (rs_pd a_itemKind a_itemArg N) = 0 → ((nI (rs_sk a_itemKind N).length = 6 → post (-4) (nI (q + 1), nI n, nI rm, f_phase, nI N, g_cursor, f_hasTangent, nI (rs_sz a_itemKind N), nI (rs_pd a_itemKind a_itemArg N), rs_fac a_itemKind a_itemArg (rs_sk a_itemKind N), rs_wk a_itemKind a_itemArg N, nI (rs_sk a_itemKind N).length, nI (rs_lp a_itemKind (rs_sk a_itemKind N)).length, f_steps, g_faultItem, f_nextItem, f_nextCell, f_top, a_itemKind, a_itemArg, a_inputs, a_weights, g_tangents, a_marks, a_cell, a_dcell, a_seen, a_val, a_der, a_start, a_counter, a_total)) ∧ (¬ nI (rs_sk a_itemKind N).length = 6 → wpY_add (fun r u => match u with | (f_p, f_n, f_room, f_phase, f_items, f_cursor, f_hasTangent, f_size, f_pending, f_factor, f_work, f_open, f_loops, f_steps, f_faultItem, f_nextItem, f_nextCell, f_top, a_kinds, a_args, a_inputs, a_weights, a_tangents, a_marks, a_cell, a_dcell, a_seen, a_val, a_der, a_start, a_counter, a_total) => post r (f_p, f_n, f_room, f_phase, f_items, f_cursor, f_hasTangent, f_size, f_pending, f_factor, f_work, f_open, f_loops, f_steps, f_faultItem, f_nextItem, f_nextCell, f_top, a_kinds, a_args, a_inputs, a_weights, a_tangents, a_marks, a_cell, a_dcell, a_seen, a_val, a_der, a_start, a_counter, a_total)) (nI (q + 1), nI n, nI rm, f_phase, nI N, g_cursor, f_hasTangent, nI (rs_sz a_itemKind N), nI (rs_pd a_itemKind a_itemArg N), rs_fac a_itemKind a_itemArg (rs_sk a_itemKind N), rs_wk a_itemKind a_itemArg N, nI (rs_sk a_itemKind N).length, nI (rs_lp a_itemKind (rs_sk a_itemKind N)).length, f_steps, g_faultItem, f_nextItem, f_nextCell, f_top, a_itemKind, a_itemArg, a_inputs, a_weights, g_tangents, a_marks, a_cell, a_dcell, a_seen, a_val, a_der, a_start, a_counter, a_total) 7 (nI c) 3 (rs_fac a_itemKind a_itemArg (rs_sk a_itemKind N) * (nI c + 1))))) ∧ (¬ nI (rs_pd a_itemKind a_itemArg N) = 0 → post (-3) (nI (q + 1), nI n, nI rm, f_phase, nI N, g_cursor, f_hasTangent, nI (rs_sz a_itemKind N), nI (rs_pd a_itemKind a_itemArg N), rs_fac a_itemKind a_itemArg (rs_sk a_itemKind N), rs_wk a_itemKind a_itemArg N, nI (rs_sk a_itemKind N).length, nI (rs_lp a_itemKind (rs_sk a_itemKind N)).length, f_steps, g_faultItem, f_nextItem, f_nextCell, f_top, a_itemKind, a_itemArg, a_inputs, a_weights, g_tangents, a_marks, a_cell, a_dcell, a_seen, a_val, a_der, a_start, a_counter, a_total))) → wpY_beginLoop post (nI (q + 1), nI n, nI rm, f_phase, nI N, g_cursor, f_hasTangent, nI (rs_sz a_itemKind N), nI (rs_pd a_itemKind a_itemArg N), rs_fac a_itemKind a_itemArg (rs_sk a_itemKind N), rs_wk a_itemKind a_itemArg N, nI (rs_sk a_itemKind N).length, nI (rs_lp a_itemKind (rs_sk a_itemKind N)).length, f_steps, g_faultItem, f_nextItem, f_nextCell, f_top, a_itemKind, a_itemArg, a_inputs, a_weights, g_tangents, a_marks, a_cell, a_dcell, a_seen, a_val, a_der, a_start, a_counter, a_total) (nI c) := by
    intro post K
    unfold wpY_beginLoop
    exact br_t h0 (br_f a1 (br_t a2 K))
  by_cases e1 : rs_pd a_itemKind a_itemArg N = 0
  rotate_left
  · have e1' : ¬ nI (rs_pd a_itemKind a_itemArg N) = 0 := fun z => e1 ((nI_eq (a := rs_pd a_itemKind a_itemArg N) (b := 0) (by omega) (by decide)).mp z)
    exact br_f e1' (goY _ (br_f e1' ⟨rfl, J⟩))
  have e1' : nI (rs_pd a_itemKind a_itemArg N) = 0 := by rw [e1]; rfl
  by_cases l6 : (rs_sk a_itemKind N).length < 6
  rotate_left
  · have e6 : (rs_sk a_itemKind N).length = 6 := by omega
    exact br_t e1' (br_f (by rw [e6]; decide) (goY _ (br_t e1' (br_t (by rw [e6]; rfl) ⟨rfl, J⟩))))
  have n6 : ¬ nI (rs_sk a_itemKind N).length = 6 := fun z => by
    have := (nI_eq (a := (rs_sk a_itemKind N).length) (b := 6) (by omega) (by decide)).mp z
    omega
  by_cases c1 : nI (rs_sz a_itemKind N) + 3 ≤ nI rm
  rotate_left
  · exact br_t e1' (br_t (nI_lt (b := 6) l6 (by decide)) (rx_cost5 c1 (br_f (by decide) (goY _ (br_t e1' (br_f n6 (ry_add5 c1 ⟨rfl, J⟩)))))))
  by_cases c2 : rs_wk a_itemKind a_itemArg N + rs_fac a_itemKind a_itemArg (rs_sk a_itemKind N) * (nI c + 1) ≤ 1024
  rotate_left
  · have c2y : ¬ rs_wk a_itemKind a_itemArg N + rs_fac a_itemKind a_itemArg (rs_sk a_itemKind N) * (nI c + 1) ≤ 1024 := c2
    exact br_t e1' (br_t (nI_lt (b := 6) l6 (by decide)) (rx_cost6 c1 c2 (br_f (by decide) (goY _ (br_t e1' (br_f n6 (ry_add6 c1 c2y ⟨rfl, J⟩)))))))
  have c2y : rs_wk a_itemKind a_itemArg N + rs_fac a_itemKind a_itemArg (rs_sk a_itemKind N) * (nI c + 1) ≤ 1024 := c2
  have hsz : rs_sz a_itemKind N + 3 ≤ rm := by
    rw [show nI (rs_sz a_itemKind N) + 3 = nI (rs_sz a_itemKind N + 3) from nI_add _ 3, nI_leI (by omega) (by omega)] at c1; exact c1
  have ok : rs_ok q n (upd a_itemKind N 7) (upd a_itemArg N (nI c)) N := rb_ok P.1 (Or.inr (Or.inr (Or.inr (Or.inr (Or.inr (Or.inr (Or.inr (Or.inl ⟨rfl, e1, l6, c, hc1, hc2, rfl⟩))))))))
  refine rx_openL (by decide) (by omega) l6 e1' c1 c2 (goY _ (br_t e1' (br_f n6 ?_)))
  refine ry_add0 c1 c2y (by omega) (rb_PV P.1 ok) (fun ma hm => ⟨rfl, ?_⟩)
  exact rr_openL ⟨⟨hp, hn2, hn, hr1, hr2⟩, P, cI, cW, H⟩ h0 zt ok (Or.inl rfl) (by rw [e1]; rfl) hsz c2 hm
theorem i_vc_beginLoopBy {k : Nat} {u : SX} {v : SY} (I : i_Rel k u v) (hk : k + 3 ≤ 1539) (v1 : Int32) : wpX_beginLoopBy (fun r u' => wpY_beginLoopBy (fun r' v' => r' = r ∧ i_Rel (k + 3) u' v') v v1) u v1 := by
  refine rr_el (P := fun u v => wpX_beginLoopBy (fun r u' => wpY_beginLoopBy (fun r' v' => r' = r ∧ i_Rel (k + 3) u' v') v v1) u v1) ?_ I
  intro q n rm N f_STORE_CELL f_STORE_AT f_OPERATOR f_LOOP f_LOOP_BY f_IF f_ELSE f_END f_ACT_ZERO f_ACT_READ f_ACT_WRITE f_ACT_DROP f_ACT_COMBINE f_ACT_NEGATE f_ACT_COPY f_ACT_EXCHANGE f_phase f_depth f_loopDepth f_faultItem f_actCount f_stepCount f_cursor f_hasTangent f_flowDepth f_steps f_nextItem f_nextCell f_top g_cursor g_faultItem a_inputs a_weights a_itemKind a_itemArg a_itemJump a_openItem a_openElse a_openFactor a_cells a_stack a_loopCounter a_loopLimit a_actCode a_actLeft a_actRight a_stepItem a_stepCell a_stepOld a_stepNew a_stepEnd a_adjoints a_tangents a_flow a_marks a_cell a_dcell a_seen a_val a_der a_start a_counter a_total g_tangents F
  have J : i_Rel (k + 3) (f_STORE_CELL, f_STORE_AT, f_OPERATOR, f_LOOP, f_LOOP_BY, f_IF, f_ELSE, f_END, f_ACT_ZERO, f_ACT_READ, f_ACT_WRITE, f_ACT_DROP, f_ACT_COMBINE, f_ACT_NEGATE, f_ACT_COPY, f_ACT_EXCHANGE, nI (q + 1), nI n, nI rm, f_phase, nI N, nI (rs_sz a_itemKind N), nI (rs_pd a_itemKind a_itemArg N), rs_fac a_itemKind a_itemArg (rs_sk a_itemKind N), rs_wk a_itemKind a_itemArg N, nI (rs_sk a_itemKind N).length, nI (rs_lp a_itemKind (rs_sk a_itemKind N)).length, f_depth, f_loopDepth, f_faultItem, f_actCount, f_stepCount, f_cursor, f_hasTangent, f_flowDepth, a_inputs, a_weights, a_itemKind, a_itemArg, a_itemJump, a_openItem, a_openElse, a_openFactor, a_cells, a_stack, a_loopCounter, a_loopLimit, a_actCode, a_actLeft, a_actRight, a_stepItem, a_stepCell, a_stepOld, a_stepNew, a_stepEnd, a_adjoints, a_tangents, a_flow) (nI (q + 1), nI n, nI rm, f_phase, nI N, g_cursor, f_hasTangent, nI (rs_sz a_itemKind N), nI (rs_pd a_itemKind a_itemArg N), rs_fac a_itemKind a_itemArg (rs_sk a_itemKind N), rs_wk a_itemKind a_itemArg N, nI (rs_sk a_itemKind N).length, nI (rs_lp a_itemKind (rs_sk a_itemKind N)).length, f_steps, g_faultItem, f_nextItem, f_nextCell, f_top, a_itemKind, a_itemArg, a_inputs, a_weights, g_tangents, a_marks, a_cell, a_dcell, a_seen, a_val, a_der, a_start, a_counter, a_total) := rr_in F
  obtain ⟨⟨hp, hn2, hn, hr1, hr2⟩, P, cI, cW, H⟩ := F
  have hq := (ra_pr_lt hp).1
  have hN : N + rs_re (rs_sk a_itemKind N) ≤ rs_sz a_itemKind N := P.2.2.1
  have hsr : rs_sz a_itemKind N ≤ rm := P.2.2.2.1
  have p8 : rs_pd a_itemKind a_itemArg N ≤ 8 := rs_pd8 N P.1
  have l6 := rs_len N P.1
  have lp6 : (rs_lp a_itemKind (rs_sk a_itemKind N)).length ≤ 6 := Nat.le_trans (rs_lpl _) l6
  by_cases h0 : f_phase = 0
  rotate_left
  · refine br_f h0 ?_
    unfold wpY_beginLoopBy
    exact br_f h0 ⟨rfl, J⟩
  have zt : f_hasTangent = 0 := by
    rcases H with ⟨_, z⟩ | ⟨z, _⟩ | ⟨z, _⟩ | ⟨z, _⟩
    · exact z
    · rw [z] at h0; exact absurd h0 (by decide)
    · rw [z] at h0; exact absurd h0 (by decide)
    · rw [z] at h0; exact absurd h0 (by decide)
  by_cases a1 : v1 < 1
  · refine br_t h0 (br_t a1 ?_)
    unfold wpY_beginLoopBy
    exact br_t h0 (br_t a1 ⟨rfl, J⟩)
  by_cases a2 : v1 ≤ 16
  rotate_left
  · refine br_t h0 (br_f a1 (br_f a2 ?_))
    unfold wpY_beginLoopBy
    exact br_t h0 (br_f a1 (br_f a2 ⟨rfl, J⟩))
  obtain ⟨c, hc1, hc2, rfl⟩ : ∃ c : Nat, 1 ≤ c ∧ c ≤ 16 ∧ v1 = nI c := by
    have n0 : ¬ v1 < 0 := fun z => a1 (Int32.lt_trans z (by decide))
    obtain ⟨j, hj, rfl⟩ := nI_of n0
    have b1 : ¬ nI j < nI 1 := a1
    have b2 : nI j ≤ nI 16 := a2
    rw [nI_ltI hj (by decide)] at b1
    rw [nI_leI hj (by decide)] at b2
    exact ⟨j, by omega, b2, rfl⟩
  refine br_t h0 (br_f a1 (br_t a2 ?_))
  have goY : ∀ post : Int32 → SY → Prop, ((nI (rs_pd a_itemKind a_itemArg N) = 1 → ((nI (rs_sk a_itemKind N).length = 6 → post (-4) (nI (q + 1), nI n, nI rm, f_phase, nI N, g_cursor, f_hasTangent, nI (rs_sz a_itemKind N), nI (rs_pd a_itemKind a_itemArg N), rs_fac a_itemKind a_itemArg (rs_sk a_itemKind N), rs_wk a_itemKind a_itemArg N, nI (rs_sk a_itemKind N).length, nI (rs_lp a_itemKind (rs_sk a_itemKind N)).length, f_steps, g_faultItem, f_nextItem, f_nextCell, f_top, a_itemKind, a_itemArg, a_inputs, a_weights, g_tangents, a_marks, a_cell, a_dcell, a_seen, a_val, a_der, a_start, a_counter, a_total)) ∧ (¬ nI (rs_sk a_itemKind N).length = 6 → wpY_add (fun r u => match u with | (f_p, f_n, f_room, f_phase, f_items, f_cursor, f_hasTangent, f_size, f_pending, f_factor, f_work, f_open, f_loops, f_steps, f_faultItem, f_nextItem, f_nextCell, f_top, a_kinds, a_args, a_inputs, a_weights, a_tangents, a_marks, a_cell, a_dcell, a_seen, a_val, a_der, a_start, a_counter, a_total) => post r (f_p, f_n, f_room, f_phase, f_items, f_cursor, f_hasTangent, f_size, f_pending, f_factor, f_work, f_open, f_loops, f_steps, f_faultItem, f_nextItem, f_nextCell, f_top, a_kinds, a_args, a_inputs, a_weights, a_tangents, a_marks, a_cell, a_dcell, a_seen, a_val, a_der, a_start, a_counter, a_total)) (nI (q + 1), nI n, nI rm, f_phase, nI N, g_cursor, f_hasTangent, nI (rs_sz a_itemKind N), nI (rs_pd a_itemKind a_itemArg N), rs_fac a_itemKind a_itemArg (rs_sk a_itemKind N), rs_wk a_itemKind a_itemArg N, nI (rs_sk a_itemKind N).length, nI (rs_lp a_itemKind (rs_sk a_itemKind N)).length, f_steps, g_faultItem, f_nextItem, f_nextCell, f_top, a_itemKind, a_itemArg, a_inputs, a_weights, g_tangents, a_marks, a_cell, a_dcell, a_seen, a_val, a_der, a_start, a_counter, a_total) 8 (nI c) 3 (rs_fac a_itemKind a_itemArg (rs_sk a_itemKind N) * (nI c + 1))))) ∧ (¬ nI (rs_pd a_itemKind a_itemArg N) = 1 → post (-3) (nI (q + 1), nI n, nI rm, f_phase, nI N, g_cursor, f_hasTangent, nI (rs_sz a_itemKind N), nI (rs_pd a_itemKind a_itemArg N), rs_fac a_itemKind a_itemArg (rs_sk a_itemKind N), rs_wk a_itemKind a_itemArg N, nI (rs_sk a_itemKind N).length, nI (rs_lp a_itemKind (rs_sk a_itemKind N)).length, f_steps, g_faultItem, f_nextItem, f_nextCell, f_top, a_itemKind, a_itemArg, a_inputs, a_weights, g_tangents, a_marks, a_cell, a_dcell, a_seen, a_val, a_der, a_start, a_counter, a_total))) → wpY_beginLoopBy post (nI (q + 1), nI n, nI rm, f_phase, nI N, g_cursor, f_hasTangent, nI (rs_sz a_itemKind N), nI (rs_pd a_itemKind a_itemArg N), rs_fac a_itemKind a_itemArg (rs_sk a_itemKind N), rs_wk a_itemKind a_itemArg N, nI (rs_sk a_itemKind N).length, nI (rs_lp a_itemKind (rs_sk a_itemKind N)).length, f_steps, g_faultItem, f_nextItem, f_nextCell, f_top, a_itemKind, a_itemArg, a_inputs, a_weights, g_tangents, a_marks, a_cell, a_dcell, a_seen, a_val, a_der, a_start, a_counter, a_total) (nI c) := by
    intro post K
    unfold wpY_beginLoopBy
    exact br_t h0 (br_f a1 (br_t a2 K))
  by_cases e1 : rs_pd a_itemKind a_itemArg N = 1
  rotate_left
  · have e1' : ¬ nI (rs_pd a_itemKind a_itemArg N) = 1 := fun z => e1 ((nI_eq (a := rs_pd a_itemKind a_itemArg N) (b := 1) (by omega) (by decide)).mp z)
    exact br_f e1' (goY _ (br_f e1' ⟨rfl, J⟩))
  have e1' : nI (rs_pd a_itemKind a_itemArg N) = 1 := by rw [e1]; rfl
  by_cases l6 : (rs_sk a_itemKind N).length < 6
  rotate_left
  · have e6 : (rs_sk a_itemKind N).length = 6 := by omega
    exact br_t e1' (br_f (by rw [e6]; decide) (goY _ (br_t e1' (br_t (by rw [e6]; rfl) ⟨rfl, J⟩))))
  have n6 : ¬ nI (rs_sk a_itemKind N).length = 6 := fun z => by
    have := (nI_eq (a := (rs_sk a_itemKind N).length) (b := 6) (by omega) (by decide)).mp z
    omega
  by_cases c1 : nI (rs_sz a_itemKind N) + 3 ≤ nI rm
  rotate_left
  · exact br_t e1' (br_t (nI_lt (b := 6) l6 (by decide)) (rx_cost5 c1 (br_f (by decide) (goY _ (br_t e1' (br_f n6 (ry_add5 c1 ⟨rfl, J⟩)))))))
  by_cases c2 : rs_wk a_itemKind a_itemArg N + rs_fac a_itemKind a_itemArg (rs_sk a_itemKind N) * (nI c + 1) ≤ 1024
  rotate_left
  · have c2y : ¬ rs_wk a_itemKind a_itemArg N + rs_fac a_itemKind a_itemArg (rs_sk a_itemKind N) * (nI c + 1) ≤ 1024 := c2
    exact br_t e1' (br_t (nI_lt (b := 6) l6 (by decide)) (rx_cost6 c1 c2 (br_f (by decide) (goY _ (br_t e1' (br_f n6 (ry_add6 c1 c2y ⟨rfl, J⟩)))))))
  have c2y : rs_wk a_itemKind a_itemArg N + rs_fac a_itemKind a_itemArg (rs_sk a_itemKind N) * (nI c + 1) ≤ 1024 := c2
  have hsz : rs_sz a_itemKind N + 3 ≤ rm := by
    rw [show nI (rs_sz a_itemKind N) + 3 = nI (rs_sz a_itemKind N + 3) from nI_add _ 3, nI_leI (by omega) (by omega)] at c1; exact c1
  have ok : rs_ok q n (upd a_itemKind N 8) (upd a_itemArg N (nI c)) N := rb_ok P.1 (Or.inr (Or.inr (Or.inr (Or.inr (Or.inr (Or.inr (Or.inr (Or.inr (Or.inl ⟨rfl, e1, l6, c, hc1, hc2, rfl⟩)))))))))
  refine rx_openL (by decide) (by omega) l6 e1' c1 c2 (goY _ (br_t e1' (br_f n6 ?_)))
  refine ry_add0 c1 c2y (by omega) (rb_PV P.1 ok) (fun ma hm => ⟨rfl, ?_⟩)
  exact rr_openL ⟨⟨hp, hn2, hn, hr1, hr2⟩, P, cI, cW, H⟩ h0 zt ok (Or.inr rfl) (by rw [e1]; rfl) hsz c2 hm
theorem i_vc_beginIf {k : Nat} {u : SX} {v : SY} (I : i_Rel k u v) (hk : k + 3 ≤ 1539) (v1 : Int32) : wpX_beginIf (fun r u' => wpY_beginIf (fun r' v' => r' = r ∧ i_Rel (k + 3) u' v') v v1) u v1 := by
  refine rr_el (P := fun u v => wpX_beginIf (fun r u' => wpY_beginIf (fun r' v' => r' = r ∧ i_Rel (k + 3) u' v') v v1) u v1) ?_ I
  intro q n rm N f_STORE_CELL f_STORE_AT f_OPERATOR f_LOOP f_LOOP_BY f_IF f_ELSE f_END f_ACT_ZERO f_ACT_READ f_ACT_WRITE f_ACT_DROP f_ACT_COMBINE f_ACT_NEGATE f_ACT_COPY f_ACT_EXCHANGE f_phase f_depth f_loopDepth f_faultItem f_actCount f_stepCount f_cursor f_hasTangent f_flowDepth f_steps f_nextItem f_nextCell f_top g_cursor g_faultItem a_inputs a_weights a_itemKind a_itemArg a_itemJump a_openItem a_openElse a_openFactor a_cells a_stack a_loopCounter a_loopLimit a_actCode a_actLeft a_actRight a_stepItem a_stepCell a_stepOld a_stepNew a_stepEnd a_adjoints a_tangents a_flow a_marks a_cell a_dcell a_seen a_val a_der a_start a_counter a_total g_tangents F
  have J : i_Rel (k + 3) (f_STORE_CELL, f_STORE_AT, f_OPERATOR, f_LOOP, f_LOOP_BY, f_IF, f_ELSE, f_END, f_ACT_ZERO, f_ACT_READ, f_ACT_WRITE, f_ACT_DROP, f_ACT_COMBINE, f_ACT_NEGATE, f_ACT_COPY, f_ACT_EXCHANGE, nI (q + 1), nI n, nI rm, f_phase, nI N, nI (rs_sz a_itemKind N), nI (rs_pd a_itemKind a_itemArg N), rs_fac a_itemKind a_itemArg (rs_sk a_itemKind N), rs_wk a_itemKind a_itemArg N, nI (rs_sk a_itemKind N).length, nI (rs_lp a_itemKind (rs_sk a_itemKind N)).length, f_depth, f_loopDepth, f_faultItem, f_actCount, f_stepCount, f_cursor, f_hasTangent, f_flowDepth, a_inputs, a_weights, a_itemKind, a_itemArg, a_itemJump, a_openItem, a_openElse, a_openFactor, a_cells, a_stack, a_loopCounter, a_loopLimit, a_actCode, a_actLeft, a_actRight, a_stepItem, a_stepCell, a_stepOld, a_stepNew, a_stepEnd, a_adjoints, a_tangents, a_flow) (nI (q + 1), nI n, nI rm, f_phase, nI N, g_cursor, f_hasTangent, nI (rs_sz a_itemKind N), nI (rs_pd a_itemKind a_itemArg N), rs_fac a_itemKind a_itemArg (rs_sk a_itemKind N), rs_wk a_itemKind a_itemArg N, nI (rs_sk a_itemKind N).length, nI (rs_lp a_itemKind (rs_sk a_itemKind N)).length, f_steps, g_faultItem, f_nextItem, f_nextCell, f_top, a_itemKind, a_itemArg, a_inputs, a_weights, g_tangents, a_marks, a_cell, a_dcell, a_seen, a_val, a_der, a_start, a_counter, a_total) := rr_in F
  obtain ⟨⟨hp, hn2, hn, hr1, hr2⟩, P, cI, cW, H⟩ := F
  have hq := (ra_pr_lt hp).1
  have hN : N + rs_re (rs_sk a_itemKind N) ≤ rs_sz a_itemKind N := P.2.2.1
  have hsr : rs_sz a_itemKind N ≤ rm := P.2.2.2.1
  have p8 : rs_pd a_itemKind a_itemArg N ≤ 8 := rs_pd8 N P.1
  have l6 := rs_len N P.1
  have lp6 : (rs_lp a_itemKind (rs_sk a_itemKind N)).length ≤ 6 := Nat.le_trans (rs_lpl _) l6
  by_cases h0 : f_phase = 0
  rotate_left
  · refine br_f h0 ?_
    unfold wpY_beginIf
    exact br_f h0 ⟨rfl, J⟩
  have zt : f_hasTangent = 0 := by
    rcases H with ⟨_, z⟩ | ⟨z, _⟩ | ⟨z, _⟩ | ⟨z, _⟩
    · exact z
    · rw [z] at h0; exact absurd h0 (by decide)
    · rw [z] at h0; exact absurd h0 (by decide)
    · rw [z] at h0; exact absurd h0 (by decide)
  by_cases a1 : v1 < 0
  · refine br_t h0 (br_t a1 ?_)
    unfold wpY_beginIf
    exact br_t h0 (br_t a1 ⟨rfl, J⟩)
  by_cases a2 : v1 ≤ 3
  rotate_left
  · refine br_t h0 (br_f a1 (br_f a2 ?_))
    unfold wpY_beginIf
    exact br_t h0 (br_f a1 (br_f a2 ⟨rfl, J⟩))
  obtain ⟨c, hc1, hc2, rfl⟩ : ∃ c : Nat, 0 ≤ c ∧ c ≤ 3 ∧ v1 = nI c := by
    have n0 : ¬ v1 < 0 := fun z => a1 (z)
    obtain ⟨j, hj, rfl⟩ := nI_of n0
    have b1 : ¬ nI j < nI 0 := a1
    have b2 : nI j ≤ nI 3 := a2
    rw [nI_ltI hj (by decide)] at b1
    rw [nI_leI hj (by decide)] at b2
    exact ⟨j, by omega, b2, rfl⟩
  refine br_t h0 (br_f a1 (br_t a2 ?_))
  have goY : ∀ post : Int32 → SY → Prop, ((nI (rs_pd a_itemKind a_itemArg N) = 1 → ((nI (rs_sk a_itemKind N).length = 6 → post (-4) (nI (q + 1), nI n, nI rm, f_phase, nI N, g_cursor, f_hasTangent, nI (rs_sz a_itemKind N), nI (rs_pd a_itemKind a_itemArg N), rs_fac a_itemKind a_itemArg (rs_sk a_itemKind N), rs_wk a_itemKind a_itemArg N, nI (rs_sk a_itemKind N).length, nI (rs_lp a_itemKind (rs_sk a_itemKind N)).length, f_steps, g_faultItem, f_nextItem, f_nextCell, f_top, a_itemKind, a_itemArg, a_inputs, a_weights, g_tangents, a_marks, a_cell, a_dcell, a_seen, a_val, a_der, a_start, a_counter, a_total)) ∧ (¬ nI (rs_sk a_itemKind N).length = 6 → wpY_add (fun r u => match u with | (f_p, f_n, f_room, f_phase, f_items, f_cursor, f_hasTangent, f_size, f_pending, f_factor, f_work, f_open, f_loops, f_steps, f_faultItem, f_nextItem, f_nextCell, f_top, a_kinds, a_args, a_inputs, a_weights, a_tangents, a_marks, a_cell, a_dcell, a_seen, a_val, a_der, a_start, a_counter, a_total) => post r (f_p, f_n, f_room, f_phase, f_items, f_cursor, f_hasTangent, f_size, f_pending, f_factor, f_work, f_open, f_loops, f_steps, f_faultItem, f_nextItem, f_nextCell, f_top, a_kinds, a_args, a_inputs, a_weights, a_tangents, a_marks, a_cell, a_dcell, a_seen, a_val, a_der, a_start, a_counter, a_total)) (nI (q + 1), nI n, nI rm, f_phase, nI N, g_cursor, f_hasTangent, nI (rs_sz a_itemKind N), nI (rs_pd a_itemKind a_itemArg N), rs_fac a_itemKind a_itemArg (rs_sk a_itemKind N), rs_wk a_itemKind a_itemArg N, nI (rs_sk a_itemKind N).length, nI (rs_lp a_itemKind (rs_sk a_itemKind N)).length, f_steps, g_faultItem, f_nextItem, f_nextCell, f_top, a_itemKind, a_itemArg, a_inputs, a_weights, g_tangents, a_marks, a_cell, a_dcell, a_seen, a_val, a_der, a_start, a_counter, a_total) 9 (nI c) 3 (rs_fac a_itemKind a_itemArg (rs_sk a_itemKind N) * 3)))) ∧ (¬ nI (rs_pd a_itemKind a_itemArg N) = 1 → post (-3) (nI (q + 1), nI n, nI rm, f_phase, nI N, g_cursor, f_hasTangent, nI (rs_sz a_itemKind N), nI (rs_pd a_itemKind a_itemArg N), rs_fac a_itemKind a_itemArg (rs_sk a_itemKind N), rs_wk a_itemKind a_itemArg N, nI (rs_sk a_itemKind N).length, nI (rs_lp a_itemKind (rs_sk a_itemKind N)).length, f_steps, g_faultItem, f_nextItem, f_nextCell, f_top, a_itemKind, a_itemArg, a_inputs, a_weights, g_tangents, a_marks, a_cell, a_dcell, a_seen, a_val, a_der, a_start, a_counter, a_total))) → wpY_beginIf post (nI (q + 1), nI n, nI rm, f_phase, nI N, g_cursor, f_hasTangent, nI (rs_sz a_itemKind N), nI (rs_pd a_itemKind a_itemArg N), rs_fac a_itemKind a_itemArg (rs_sk a_itemKind N), rs_wk a_itemKind a_itemArg N, nI (rs_sk a_itemKind N).length, nI (rs_lp a_itemKind (rs_sk a_itemKind N)).length, f_steps, g_faultItem, f_nextItem, f_nextCell, f_top, a_itemKind, a_itemArg, a_inputs, a_weights, g_tangents, a_marks, a_cell, a_dcell, a_seen, a_val, a_der, a_start, a_counter, a_total) (nI c) := by
    intro post K
    unfold wpY_beginIf
    exact br_t h0 (br_f a1 (br_t a2 K))
  by_cases e1 : rs_pd a_itemKind a_itemArg N = 1
  rotate_left
  · have e1' : ¬ nI (rs_pd a_itemKind a_itemArg N) = 1 := fun z => e1 ((nI_eq (a := rs_pd a_itemKind a_itemArg N) (b := 1) (by omega) (by decide)).mp z)
    exact br_f e1' (goY _ (br_f e1' ⟨rfl, J⟩))
  have e1' : nI (rs_pd a_itemKind a_itemArg N) = 1 := by rw [e1]; rfl
  by_cases l6 : (rs_sk a_itemKind N).length < 6
  rotate_left
  · have e6 : (rs_sk a_itemKind N).length = 6 := by omega
    exact br_t e1' (br_f (by rw [e6]; decide) (goY _ (br_t e1' (br_t (by rw [e6]; rfl) ⟨rfl, J⟩))))
  have n6 : ¬ nI (rs_sk a_itemKind N).length = 6 := fun z => by
    have := (nI_eq (a := (rs_sk a_itemKind N).length) (b := 6) (by omega) (by decide)).mp z
    omega
  by_cases c1 : nI (rs_sz a_itemKind N) + 3 ≤ nI rm
  rotate_left
  · exact br_t e1' (br_t (nI_lt (b := 6) l6 (by decide)) (rx_cost5 c1 (br_f (by decide) (goY _ (br_t e1' (br_f n6 (ry_add5 c1 ⟨rfl, J⟩)))))))
  by_cases c2 : rs_wk a_itemKind a_itemArg N + 3 * rs_fac a_itemKind a_itemArg (rs_sk a_itemKind N) ≤ 1024
  rotate_left
  · have c2y : ¬ rs_wk a_itemKind a_itemArg N + rs_fac a_itemKind a_itemArg (rs_sk a_itemKind N) * 3 ≤ 1024 := fun z => c2 (by rw [Int32.mul_comm]; exact z)
    exact br_t e1' (br_t (nI_lt (b := 6) l6 (by decide)) (rx_cost6 c1 c2 (br_f (by decide) (goY _ (br_t e1' (br_f n6 (ry_add6 c1 c2y ⟨rfl, J⟩)))))))
  have c2y : rs_wk a_itemKind a_itemArg N + rs_fac a_itemKind a_itemArg (rs_sk a_itemKind N) * 3 ≤ 1024 := by rw [Int32.mul_comm]; exact c2
  have hsz : rs_sz a_itemKind N + 3 ≤ rm := by
    rw [show nI (rs_sz a_itemKind N) + 3 = nI (rs_sz a_itemKind N + 3) from nI_add _ 3, nI_leI (by omega) (by omega)] at c1; exact c1
  have ok : rs_ok q n (upd a_itemKind N 9) (upd a_itemArg N (nI c)) N := rb_ok P.1 (Or.inr (Or.inr (Or.inr (Or.inr (Or.inr (Or.inr (Or.inr (Or.inr (Or.inr (Or.inl ⟨rfl, e1, l6, c, hc2, rfl⟩))))))))))
  refine rx_openI (by omega) l6 e1' c1 c2 (goY _ (br_t e1' (br_f n6 ?_)))
  refine ry_add0 c1 c2y (by omega) (rb_PV P.1 ok) (fun ma hm => ⟨rfl, ?_⟩)
  exact rr_openI ⟨⟨hp, hn2, hn, hr1, hr2⟩, P, cI, cW, H⟩ h0 zt ok (by rw [e1]; rfl) hsz c2 hm
end
section
/-! building: else -/
theorem i_vc_beginElse {k : Nat} {u : SX} {v : SY} (I : i_Rel k u v) (hk : k + 3 ≤ 1539) : wpX_beginElse (fun r u' => wpY_beginElse (fun r' v' => r' = r ∧ i_Rel (k + 3) u' v') v) u := by
  refine rr_el (P := fun u v => wpX_beginElse (fun r u' => wpY_beginElse (fun r' v' => r' = r ∧ i_Rel (k + 3) u' v') v) u) ?_ I
  intro q n rm N f_STORE_CELL f_STORE_AT f_OPERATOR f_LOOP f_LOOP_BY f_IF f_ELSE f_END f_ACT_ZERO f_ACT_READ f_ACT_WRITE f_ACT_DROP f_ACT_COMBINE f_ACT_NEGATE f_ACT_COPY f_ACT_EXCHANGE f_phase f_depth f_loopDepth f_faultItem f_actCount f_stepCount f_cursor f_hasTangent f_flowDepth f_steps f_nextItem f_nextCell f_top g_cursor g_faultItem a_inputs a_weights a_itemKind a_itemArg a_itemJump a_openItem a_openElse a_openFactor a_cells a_stack a_loopCounter a_loopLimit a_actCode a_actLeft a_actRight a_stepItem a_stepCell a_stepOld a_stepNew a_stepEnd a_adjoints a_tangents a_flow a_marks a_cell a_dcell a_seen a_val a_der a_start a_counter a_total g_tangents F
  have J : i_Rel (k + 3) (f_STORE_CELL, f_STORE_AT, f_OPERATOR, f_LOOP, f_LOOP_BY, f_IF, f_ELSE, f_END, f_ACT_ZERO, f_ACT_READ, f_ACT_WRITE, f_ACT_DROP, f_ACT_COMBINE, f_ACT_NEGATE, f_ACT_COPY, f_ACT_EXCHANGE, nI (q + 1), nI n, nI rm, f_phase, nI N, nI (rs_sz a_itemKind N), nI (rs_pd a_itemKind a_itemArg N), rs_fac a_itemKind a_itemArg (rs_sk a_itemKind N), rs_wk a_itemKind a_itemArg N, nI (rs_sk a_itemKind N).length, nI (rs_lp a_itemKind (rs_sk a_itemKind N)).length, f_depth, f_loopDepth, f_faultItem, f_actCount, f_stepCount, f_cursor, f_hasTangent, f_flowDepth, a_inputs, a_weights, a_itemKind, a_itemArg, a_itemJump, a_openItem, a_openElse, a_openFactor, a_cells, a_stack, a_loopCounter, a_loopLimit, a_actCode, a_actLeft, a_actRight, a_stepItem, a_stepCell, a_stepOld, a_stepNew, a_stepEnd, a_adjoints, a_tangents, a_flow) (nI (q + 1), nI n, nI rm, f_phase, nI N, g_cursor, f_hasTangent, nI (rs_sz a_itemKind N), nI (rs_pd a_itemKind a_itemArg N), rs_fac a_itemKind a_itemArg (rs_sk a_itemKind N), rs_wk a_itemKind a_itemArg N, nI (rs_sk a_itemKind N).length, nI (rs_lp a_itemKind (rs_sk a_itemKind N)).length, f_steps, g_faultItem, f_nextItem, f_nextCell, f_top, a_itemKind, a_itemArg, a_inputs, a_weights, g_tangents, a_marks, a_cell, a_dcell, a_seen, a_val, a_der, a_start, a_counter, a_total) := rr_in F
  obtain ⟨⟨hp, hn2, hn, hr1, hr2⟩, P, cI, cW, H⟩ := F
  have hq := (ra_pr_lt hp).1
  have hN : N + rs_re (rs_sk a_itemKind N) ≤ rs_sz a_itemKind N := P.2.2.1
  have hsr : rs_sz a_itemKind N ≤ rm := P.2.2.2.1
  have p8 : rs_pd a_itemKind a_itemArg N ≤ 8 := rs_pd8 N P.1
  have l6 := rs_len N P.1
  have lp6 : (rs_lp a_itemKind (rs_sk a_itemKind N)).length ≤ 6 := Nat.le_trans (rs_lpl _) l6
  by_cases h0 : f_phase = 0
  rotate_left
  · exact br_f h0 (br_f h0 ⟨rfl, J⟩)
  have zt : f_hasTangent = 0 := by
    rcases H with ⟨_, z⟩ | ⟨z, _⟩ | ⟨z, _⟩ | ⟨z, _⟩
    · exact z
    · rw [z] at h0; exact absurd h0 (by decide)
    · rw [z] at h0; exact absurd h0 (by decide)
    · rw [z] at h0; exact absurd h0 (by decide)
  have q0 : ¬ nI (rs_pd a_itemKind a_itemArg N) = 0 → ¬ rs_pd a_itemKind a_itemArg N = 0 := fun h z => h (by rw [z]; rfl)
  obtain ⟨L, hk⟩ : ∃ L, rs_sk a_itemKind N = L := ⟨_, rfl⟩
  by_cases e1 : nI (rs_pd a_itemKind a_itemArg N) = 0
  rotate_left
  · exact br_t h0 (br_f e1 (br_t h0 (br_f e1 ⟨rfl, J⟩)))
  have e0 : rs_pd a_itemKind a_itemArg N = 0 := by
    have := (nI_eq (a := rs_pd a_itemKind a_itemArg N) (b := 0) (by omega) (by decide)).mp e1
    exact this
  match L, hk with
  | [], hk =>
    have el : (rs_sk a_itemKind N).length = 0 := by rw [hk]; rfl
    exact br_t h0 (br_t e1 (br_f (by rw [el]; decide) (br_t h0 (br_t e1 (br_t (by rw [el]; rfl) ⟨rfl, J⟩)))))
  | (o, m) :: l, hk =>
    have el : (rs_sk a_itemKind N).length = l.length + 1 := by rw [hk]; rfl
    have ll : l.length < 6 := by omega
    have lt := rs_lt N P.1 (o, m) (by rw [hk]; exact List.mem_cons_self ..)
    have lo : o < N := lt.1
    have lm : m < N := lt.2
    have si := rs_si N P.1 o m l (by rw [hk]; exact List.suffix_refl _)
    have p5 : rl_A (fun x => nI x.1) a_openItem ((o, m) :: l) := by rw [← hk]; exact P.2.2.2.2.1
    have p6 : rl_A rr_oe a_openElse ((o, m) :: l) := by rw [← hk]; exact P.2.2.2.2.2.1
    have p7 : rr_OF a_itemKind a_itemArg a_openFactor ((o, m) :: l) := by rw [← hk]; exact P.2.2.2.2.2.2.1
    have p8 : rl_A (fun x => nI x.2) a_marks ((o, m) :: l) := by rw [← hk]; exact P.2.2.2.2.2.2.2.1
    have p5a : a_openItem l.length = nI o := p5.1
    have p6a : a_openElse l.length = rr_oe (o, m) := p6.1
    have p7a : a_openFactor l.length = rs_fac a_itemKind a_itemArg l := p7.1
    have p8a : a_marks l.length = nI m := p8.1
    have hN2 : N < 128 := by
      have : N + ((if m = o then 2 else 1) + rs_re l) ≤ rs_sz a_itemKind N := by have := P.2.2.1; rw [hk] at this; exact this
      split at this <;> omega
    have x1 : nI (rs_sk a_itemKind N).length - 1 = nI l.length := by rw [el]; exact nI_pred _
    have pos : 0 < nI (rs_sk a_itemKind N).length := by rw [el]; exact nI_lt (a := 0) (by omega) (by omega)
    have npos : ¬ nI (rs_sk a_itemKind N).length = 0 := by rw [el]; exact nI_ne0 (by omega) (by omega)
    have c1 : nI (rs_sz a_itemKind N) + 0 ≤ nI rm := by rw [Int32.add_zero]; exact nI_le hsr (by omega)
    have c2 : rs_wk a_itemKind a_itemArg N + 0 ≤ 1024 := by rw [Int32.add_zero]; exact P.2.2.2.2.2.2.2.2
    have mem10 : ∀ (kk a : Int32) x, x ∈ l → upd a_itemKind N kk x.2 = a_itemKind x.2 ∧ upd a_itemArg N a x.2 = a_itemArg x.2 := fun kk a x hx => rb_mem (k := kk) (a := a) P.1 x (by rw [hk]; exact List.mem_cons_of_mem _ hx)
    have goY : ∀ post : Int32 → SY → Prop, ((a_itemKind m = 9 → wpY_add (fun r u => match u with | (f_p, f_n, f_room, f_phase, f_items, f_cursor, f_hasTangent, f_size, f_pending, f_factor, f_work, f_open, f_loops, f_steps, f_faultItem, f_nextItem, f_nextCell, f_top, a_kinds, a_args, a_inputs, a_weights, a_tangents, a_marks, a_cell, a_dcell, a_seen, a_val, a_der, a_start, a_counter, a_total) => post r (f_p, f_n, f_room, f_phase, f_items, f_cursor, f_hasTangent, f_size, f_pending, f_factor, f_work, f_open, f_loops, f_steps, f_faultItem, f_nextItem, f_nextCell, f_top, a_kinds, a_args, a_inputs, a_weights, a_tangents, a_marks, a_cell, a_dcell, a_seen, a_val, a_der, a_start, a_counter, a_total)) (nI (q + 1), nI n, nI rm, f_phase, nI N, g_cursor, f_hasTangent, nI (rs_sz a_itemKind N), nI (rs_pd a_itemKind a_itemArg N), rs_fac a_itemKind a_itemArg (rs_sk a_itemKind N), rs_wk a_itemKind a_itemArg N, nI (rs_sk a_itemKind N).length, nI (rs_lp a_itemKind (rs_sk a_itemKind N)).length, f_steps, g_faultItem, f_nextItem, f_nextCell, f_top, a_itemKind, a_itemArg, a_inputs, a_weights, g_tangents, a_marks, a_cell, a_dcell, a_seen, a_val, a_der, a_start, a_counter, a_total) 10 0 0 0) ∧ (¬ a_itemKind m = 9 → post (-3) (nI (q + 1), nI n, nI rm, f_phase, nI N, g_cursor, f_hasTangent, nI (rs_sz a_itemKind N), nI (rs_pd a_itemKind a_itemArg N), rs_fac a_itemKind a_itemArg (rs_sk a_itemKind N), rs_wk a_itemKind a_itemArg N, nI (rs_sk a_itemKind N).length, nI (rs_lp a_itemKind (rs_sk a_itemKind N)).length, f_steps, g_faultItem, f_nextItem, f_nextCell, f_top, a_itemKind, a_itemArg, a_inputs, a_weights, g_tangents, a_marks, a_cell, a_dcell, a_seen, a_val, a_der, a_start, a_counter, a_total))) → wpY_beginElse post (nI (q + 1), nI n, nI rm, f_phase, nI N, g_cursor, f_hasTangent, nI (rs_sz a_itemKind N), nI (rs_pd a_itemKind a_itemArg N), rs_fac a_itemKind a_itemArg (rs_sk a_itemKind N), rs_wk a_itemKind a_itemArg N, nI (rs_sk a_itemKind N).length, nI (rs_lp a_itemKind (rs_sk a_itemKind N)).length, f_steps, g_faultItem, f_nextItem, f_nextCell, f_top, a_itemKind, a_itemArg, a_inputs, a_weights, g_tangents, a_marks, a_cell, a_dcell, a_seen, a_val, a_der, a_start, a_counter, a_total) := by
      intro post K
      refine br_t h0 (br_t e1 (br_f npos ?_))
      rw [x1, nI_clamp (show l.length < 2 ^ 31 by omega), p8a, nI_clamp (show m < 2 ^ 31 by omega)]
      exact And.intro (vp_in_nI ll (by decide)) (And.intro (vp_in_nI (by omega) (by decide)) K)
    refine br_t h0 (br_t e1 (br_t pos (nm_r x1 (And.intro (vp_in_nI ll (by decide)) (nm_r (e' := nI o) (by rw [nI_clamp (by omega)]; exact p5a) (And.intro (vp_in_nI (by omega) (by decide)) ?_))))))
    rw [nI_clamp (show o < 2 ^ 31 by omega)]
    by_cases k9 : a_itemKind o = 9
    rotate_left
    · have m9 : ¬ a_itemKind m = 9 := by
        rcases si.2.2.2.2.1 with z | z
        · rw [z]; exact k9
        · rw [z.1]; decide
      exact br_f k9 (goY _ (br_f m9 ⟨rfl, J⟩))
    refine br_t k9 (And.intro (vp_in_nI ll (by decide)) ?_)
    rw [nI_clamp (show l.length < 2 ^ 31 by omega), p6a]
    by_cases em : m = o
    rotate_left
    · have m9 : ¬ a_itemKind m = 9 := by
        rcases si.2.2.2.2.1 with z | z
        · exact absurd z em
        · rw [z.1]; decide
      have oe : rr_oe (o, m) = nI m := if_neg em
      rw [oe]
      exact br_f (nI_pos (by omega)) (goY _ (br_f m9 ⟨rfl, J⟩))
    subst em
    have oe : rr_oe (m, m) = -1 := if_pos rfl
    rw [oe]
    have ok : rs_ok q n (upd a_itemKind N 10) (upd a_itemArg N 0) N := rb_ok P.1 (Or.inr (Or.inr (Or.inr (Or.inr (Or.inr (Or.inr (Or.inr (Or.inr (Or.inr (Or.inr (Or.inl ⟨rfl, e0, m, l, hk, k9⟩)))))))))))
    refine br_t (by decide) (rx_append hN2 rfl rfl (And.intro (vp_in_nI (by omega) (by decide)) (nm_e (And.intro (vp_in_nI ll (by decide)) (nm_e ?_)))))
    refine goY _ (br_t k9 (ry_add0 c1 c2 hN2 (rb_PV P.1 ok) (fun ma hm => ⟨rfl, ?_⟩)))
    have es := rb_skE (kd := a_itemKind) (N := N) hk
    refine rr_in2 (N := N + 1) ?_ ?_ ?_ ?_ ?_ ?_ ⟨⟨hp, hn2, hn, hr1, hr2⟩, rb_PE P hk ok hm, cI, cW, Or.inl ⟨h0, zt⟩⟩
    · rw [rb_sz]; exact nI_add _ 0
    · rw [rb_pd]; rfl
    · rw [es, hk]
      show (if a_itemKind m = 7 ∨ a_itemKind m = 8 then _ else rs_fac a_itemKind a_itemArg l) = (if upd a_itemKind N 10 N = 7 ∨ upd a_itemKind N 10 N = 8 then _ else rs_fac (upd a_itemKind N 10) (upd a_itemArg N 0) l)
      rw [k9, pk_us, if_neg (by decide), if_neg (by decide), rs_fac_cg l (mem10 10 0)]
    · rw [rb_wk P.1]; rfl
    · rw [es, hk]; rfl
    · rw [es, hk]
      show nI (if a_itemKind m = 7 ∨ a_itemKind m = 8 then _ else rs_lp a_itemKind l).length = nI (if upd a_itemKind N 10 N = 7 ∨ upd a_itemKind N 10 N = 8 then _ else rs_lp (upd a_itemKind N 10) l).length
      rw [k9, pk_us, if_neg (by decide), if_neg (by decide), rs_lp_cg l (fun x hx => (mem10 10 0 x hx).1)]
end
section
/-! building: end -/
theorem i_vc_endBlock {k : Nat} {u : SX} {v : SY} (I : i_Rel k u v) (hk : k + 3 ≤ 1539) : wpX_endBlock (fun r u' => wpY_endBlock (fun r' v' => r' = r ∧ i_Rel (k + 3) u' v') v) u := by
  refine rr_el (P := fun u v => wpX_endBlock (fun r u' => wpY_endBlock (fun r' v' => r' = r ∧ i_Rel (k + 3) u' v') v) u) ?_ I
  intro q n rm N f_STORE_CELL f_STORE_AT f_OPERATOR f_LOOP f_LOOP_BY f_IF f_ELSE f_END f_ACT_ZERO f_ACT_READ f_ACT_WRITE f_ACT_DROP f_ACT_COMBINE f_ACT_NEGATE f_ACT_COPY f_ACT_EXCHANGE f_phase f_depth f_loopDepth f_faultItem f_actCount f_stepCount f_cursor f_hasTangent f_flowDepth f_steps f_nextItem f_nextCell f_top g_cursor g_faultItem a_inputs a_weights a_itemKind a_itemArg a_itemJump a_openItem a_openElse a_openFactor a_cells a_stack a_loopCounter a_loopLimit a_actCode a_actLeft a_actRight a_stepItem a_stepCell a_stepOld a_stepNew a_stepEnd a_adjoints a_tangents a_flow a_marks a_cell a_dcell a_seen a_val a_der a_start a_counter a_total g_tangents F
  have J : i_Rel (k + 3) (f_STORE_CELL, f_STORE_AT, f_OPERATOR, f_LOOP, f_LOOP_BY, f_IF, f_ELSE, f_END, f_ACT_ZERO, f_ACT_READ, f_ACT_WRITE, f_ACT_DROP, f_ACT_COMBINE, f_ACT_NEGATE, f_ACT_COPY, f_ACT_EXCHANGE, nI (q + 1), nI n, nI rm, f_phase, nI N, nI (rs_sz a_itemKind N), nI (rs_pd a_itemKind a_itemArg N), rs_fac a_itemKind a_itemArg (rs_sk a_itemKind N), rs_wk a_itemKind a_itemArg N, nI (rs_sk a_itemKind N).length, nI (rs_lp a_itemKind (rs_sk a_itemKind N)).length, f_depth, f_loopDepth, f_faultItem, f_actCount, f_stepCount, f_cursor, f_hasTangent, f_flowDepth, a_inputs, a_weights, a_itemKind, a_itemArg, a_itemJump, a_openItem, a_openElse, a_openFactor, a_cells, a_stack, a_loopCounter, a_loopLimit, a_actCode, a_actLeft, a_actRight, a_stepItem, a_stepCell, a_stepOld, a_stepNew, a_stepEnd, a_adjoints, a_tangents, a_flow) (nI (q + 1), nI n, nI rm, f_phase, nI N, g_cursor, f_hasTangent, nI (rs_sz a_itemKind N), nI (rs_pd a_itemKind a_itemArg N), rs_fac a_itemKind a_itemArg (rs_sk a_itemKind N), rs_wk a_itemKind a_itemArg N, nI (rs_sk a_itemKind N).length, nI (rs_lp a_itemKind (rs_sk a_itemKind N)).length, f_steps, g_faultItem, f_nextItem, f_nextCell, f_top, a_itemKind, a_itemArg, a_inputs, a_weights, g_tangents, a_marks, a_cell, a_dcell, a_seen, a_val, a_der, a_start, a_counter, a_total) := rr_in F
  obtain ⟨⟨hp, hn2, hn, hr1, hr2⟩, P, cI, cW, H⟩ := F
  have hq := (ra_pr_lt hp).1
  have hN : N + rs_re (rs_sk a_itemKind N) ≤ rs_sz a_itemKind N := P.2.2.1
  have hsr : rs_sz a_itemKind N ≤ rm := P.2.2.2.1
  have p8 : rs_pd a_itemKind a_itemArg N ≤ 8 := rs_pd8 N P.1
  have l6 := rs_len N P.1
  have lp6 : (rs_lp a_itemKind (rs_sk a_itemKind N)).length ≤ 6 := Nat.le_trans (rs_lpl _) l6
  by_cases h0 : f_phase = 0
  rotate_left
  · exact br_f h0 (br_f h0 ⟨rfl, J⟩)
  have zt : f_hasTangent = 0 := by
    rcases H with ⟨_, z⟩ | ⟨z, _⟩ | ⟨z, _⟩ | ⟨z, _⟩
    · exact z
    · rw [z] at h0; exact absurd h0 (by decide)
    · rw [z] at h0; exact absurd h0 (by decide)
    · rw [z] at h0; exact absurd h0 (by decide)
  have q0 : ¬ nI (rs_pd a_itemKind a_itemArg N) = 0 → ¬ rs_pd a_itemKind a_itemArg N = 0 := fun h z => h (by rw [z]; rfl)
  obtain ⟨L, hk⟩ : ∃ L, rs_sk a_itemKind N = L := ⟨_, rfl⟩
  by_cases e1 : nI (rs_pd a_itemKind a_itemArg N) = 0
  rotate_left
  · exact br_t h0 (br_f e1 (br_t h0 (br_f e1 ⟨rfl, J⟩)))
  have e0 : rs_pd a_itemKind a_itemArg N = 0 := by
    have := (nI_eq (a := rs_pd a_itemKind a_itemArg N) (b := 0) (by omega) (by decide)).mp e1
    exact this
  match L, hk with
  | [], hk =>
    have el : (rs_sk a_itemKind N).length = 0 := by rw [hk]; rfl
    exact br_t h0 (br_t e1 (br_f (by rw [el]; decide) (br_t h0 (br_t e1 (br_t (by rw [el]; rfl) ⟨rfl, J⟩)))))
  | (o, m) :: l, hk =>
    have el : (rs_sk a_itemKind N).length = l.length + 1 := by rw [hk]; rfl
    have ll : l.length < 6 := by omega
    have lt := rs_lt N P.1 (o, m) (by rw [hk]; exact List.mem_cons_self ..)
    have lo : o < N := lt.1
    have lm : m < N := lt.2
    have si := rs_si N P.1 o m l (by rw [hk]; exact List.suffix_refl _)
    have p5 : rl_A (fun x => nI x.1) a_openItem ((o, m) :: l) := by rw [← hk]; exact P.2.2.2.2.1
    have p6 : rl_A rr_oe a_openElse ((o, m) :: l) := by rw [← hk]; exact P.2.2.2.2.2.1
    have p7 : rr_OF a_itemKind a_itemArg a_openFactor ((o, m) :: l) := by rw [← hk]; exact P.2.2.2.2.2.2.1
    have p8 : rl_A (fun x => nI x.2) a_marks ((o, m) :: l) := by rw [← hk]; exact P.2.2.2.2.2.2.2.1
    have p5a : a_openItem l.length = nI o := p5.1
    have p6a : a_openElse l.length = rr_oe (o, m) := p6.1
    have p7a : a_openFactor l.length = rs_fac a_itemKind a_itemArg l := p7.1
    have p8a : a_marks l.length = nI m := p8.1
    have hN2 : N < 128 := by
      have : N + ((if m = o then 2 else 1) + rs_re l) ≤ rs_sz a_itemKind N := by have := P.2.2.1; rw [hk] at this; exact this
      split at this <;> omega
    have x1 : nI (rs_sk a_itemKind N).length - 1 = nI l.length := by rw [el]; exact nI_pred _
    have pos : 0 < nI (rs_sk a_itemKind N).length := by rw [el]; exact nI_lt (a := 0) (by omega) (by omega)
    have npos : ¬ nI (rs_sk a_itemKind N).length = 0 := by rw [el]; exact nI_ne0 (by omega) (by omega)
    have c1 : nI (rs_sz a_itemKind N) + 0 ≤ nI rm := by rw [Int32.add_zero]; exact nI_le hsr (by omega)
    have c2 : rs_wk a_itemKind a_itemArg N + 0 ≤ 1024 := by rw [Int32.add_zero]; exact P.2.2.2.2.2.2.2.2
    have mem10 : ∀ (kk a : Int32) x, x ∈ l → upd a_itemKind N kk x.2 = a_itemKind x.2 ∧ upd a_itemArg N a x.2 = a_itemArg x.2 := fun kk a x hx => rb_mem (k := kk) (a := a) P.1 x (by rw [hk]; exact List.mem_cons_of_mem _ hx)
    have ok : rs_ok q n (upd a_itemKind N 11) (upd a_itemArg N 0) N := rb_ok P.1 (Or.inr (Or.inr (Or.inr (Or.inr (Or.inr (Or.inr (Or.inr (Or.inr (Or.inr (Or.inr (Or.inr ⟨rfl, e0, o, m, l, hk⟩)))))))))))
    have es := rb_skX (kd := a_itemKind) (N := N) hk
    have goY : ∀ post : Int32 → SY → Prop, wpY_add (fun r u => match u with | (f_p, f_n, f_room, f_phase, f_items, f_cursor, f_hasTangent, f_size, f_pending, f_factor, f_work, f_open, f_loops, f_steps, f_faultItem, f_nextItem, f_nextCell, f_top, a_kinds, a_args, a_inputs, a_weights, a_tangents, a_marks, a_cell, a_dcell, a_seen, a_val, a_der, a_start, a_counter, a_total) => post r (f_p, f_n, f_room, f_phase, f_items, f_cursor, f_hasTangent, f_size, f_pending, f_factor, f_work, f_open, f_loops, f_steps, f_faultItem, f_nextItem, f_nextCell, f_top, a_kinds, a_args, a_inputs, a_weights, a_tangents, a_marks, a_cell, a_dcell, a_seen, a_val, a_der, a_start, a_counter, a_total)) (nI (q + 1), nI n, nI rm, f_phase, nI N, g_cursor, f_hasTangent, nI (rs_sz a_itemKind N), nI (rs_pd a_itemKind a_itemArg N), rs_fac a_itemKind a_itemArg (rs_sk a_itemKind N), rs_wk a_itemKind a_itemArg N, nI (rs_sk a_itemKind N).length, nI (rs_lp a_itemKind (rs_sk a_itemKind N)).length, f_steps, g_faultItem, f_nextItem, f_nextCell, f_top, a_itemKind, a_itemArg, a_inputs, a_weights, g_tangents, a_marks, a_cell, a_dcell, a_seen, a_val, a_der, a_start, a_counter, a_total) 11 0 0 0 → wpY_endBlock post (nI (q + 1), nI n, nI rm, f_phase, nI N, g_cursor, f_hasTangent, nI (rs_sz a_itemKind N), nI (rs_pd a_itemKind a_itemArg N), rs_fac a_itemKind a_itemArg (rs_sk a_itemKind N), rs_wk a_itemKind a_itemArg N, nI (rs_sk a_itemKind N).length, nI (rs_lp a_itemKind (rs_sk a_itemKind N)).length, f_steps, g_faultItem, f_nextItem, f_nextCell, f_top, a_itemKind, a_itemArg, a_inputs, a_weights, g_tangents, a_marks, a_cell, a_dcell, a_seen, a_val, a_der, a_start, a_counter, a_total) := fun post K => br_t h0 (br_t e1 (br_f npos K))
    have r1 : nI (rs_sz a_itemKind N) + 0 = nI (rs_sz (upd a_itemKind N 11) (N + 1)) := by rw [rb_sz]; exact nI_add _ 0
    have r2 : nI (rs_pd a_itemKind a_itemArg N) = nI (rs_pd (upd a_itemKind N 11) (upd a_itemArg N 0) (N + 1)) := by rw [rb_pd]; rfl
    have r4 : rs_wk a_itemKind a_itemArg N + 0 = rs_wk (upd a_itemKind N 11) (upd a_itemArg N 0) (N + 1) := by rw [rb_wk P.1]; rfl
    have r5 : nI l.length = nI (rs_sk (upd a_itemKind N 11) (N + 1)).length := by rw [es]
    have fin : wX_endBlock_88 (fun r u' => wpY_endBlock (fun r' v' => r' = r ∧ i_Rel (k + 3) u' v') (nI (q + 1), nI n, nI rm, f_phase, nI N, g_cursor, f_hasTangent, nI (rs_sz a_itemKind N), nI (rs_pd a_itemKind a_itemArg N), rs_fac a_itemKind a_itemArg (rs_sk a_itemKind N), rs_wk a_itemKind a_itemArg N, nI (rs_sk a_itemKind N).length, nI (rs_lp a_itemKind (rs_sk a_itemKind N)).length, f_steps, g_faultItem, f_nextItem, f_nextCell, f_top, a_itemKind, a_itemArg, a_inputs, a_weights, g_tangents, a_marks, a_cell, a_dcell, a_seen, a_val, a_der, a_start, a_counter, a_total)) (nI l.length) (nI o) (nI N) f_STORE_CELL f_STORE_AT f_OPERATOR f_LOOP f_LOOP_BY f_IF f_ELSE f_END f_ACT_ZERO f_ACT_READ f_ACT_WRITE f_ACT_DROP f_ACT_COMBINE f_ACT_NEGATE f_ACT_COPY f_ACT_EXCHANGE (nI (q + 1)) (nI n) (nI rm) f_phase (nI (N + 1)) (nI (rs_sz a_itemKind N) + 0) (nI (rs_pd a_itemKind a_itemArg N)) (rs_fac a_itemKind a_itemArg (rs_sk a_itemKind N)) (rs_wk a_itemKind a_itemArg N + 0) (nI (rs_sk a_itemKind N).length) (nI (rs_lp a_itemKind (rs_sk a_itemKind N)).length) f_depth f_loopDepth f_faultItem f_actCount f_stepCount f_cursor f_hasTangent f_flowDepth a_inputs a_weights (upd a_itemKind N 11) (upd a_itemArg N 0) (upd (upd (upd a_itemJump N (nI N)) N (nI o)) m (nI N)) a_openItem a_openElse a_openFactor a_cells a_stack a_loopCounter a_loopLimit a_actCode a_actLeft a_actRight a_stepItem a_stepCell a_stepOld a_stepNew a_stepEnd a_adjoints a_tangents a_flow := by
      refine And.intro (vp_in_nI (by omega) (by decide)) ?_
      rw [nI_clamp (show o < 2 ^ 31 by omega), pk_un (show o ≠ N by omega)]
      by_cases k9 : a_itemKind o = 9
      · have m78 : ¬ (a_itemKind m = 7 ∨ a_itemKind m = 8) := by
          rcases si.2.2.2.2.1 with z | z
          · rw [z, k9]; decide
          · rw [z.1]; decide
        refine br_t k9 (goY _ (ry_add0 c1 c2 hN2 (rb_PV P.1 ok) (fun ma hm => ⟨rfl, ?_⟩)))
        refine rr_in2 (N := N + 1) r1 r2 ?_ r4 r5 ?_ ⟨⟨hp, hn2, hn, hr1, hr2⟩, rb_PX P hk ok hm, cI, cW, Or.inl ⟨h0, zt⟩⟩
        · rw [es, hk]
          show (if a_itemKind m = 7 ∨ a_itemKind m = 8 then _ else rs_fac a_itemKind a_itemArg l) = _
          rw [if_neg m78, rs_fac_cg l (mem10 11 0)]
        · rw [es, hk]
          show nI (if a_itemKind m = 7 ∨ a_itemKind m = 8 then _ else rs_lp a_itemKind l).length = _
          rw [if_neg m78, rs_lp_cg l (fun x hx => (mem10 11 0 x hx).1)]
      · have em : m = o := si.2.2.2.2.1.elim id (fun z => absurd z.2 k9)
        subst em
        have m78 : a_itemKind m = 7 ∨ a_itemKind m = 8 := by
          rcases si.2.2.2.1 with z | z | z
          · exact Or.inl z
          · exact Or.inr z
          · exact absurd z k9
        have ol : nI (rs_lp a_itemKind (rs_sk a_itemKind N)).length - 1 = nI (rs_lp a_itemKind l).length := by
          rw [hk]
          show nI (if a_itemKind m = 7 ∨ a_itemKind m = 8 then m :: rs_lp a_itemKind l else _).length - 1 = _
          rw [if_pos m78]; exact nI_pred _
        refine br_f k9 (nm_r ol (And.intro (vp_in_nI ll (by decide)) (nm_r (e' := rs_fac a_itemKind a_itemArg l) (by rw [nI_clamp (by omega)]; exact p7a) (goY _ (ry_add0 c1 c2 hN2 (rb_PV P.1 ok) (fun ma hm => ⟨rfl, ?_⟩))))))
        refine rr_in2 (N := N + 1) r1 r2 ?_ r4 r5 ?_ ⟨⟨hp, hn2, hn, hr1, hr2⟩, rb_PX P hk ok hm, cI, cW, Or.inl ⟨h0, zt⟩⟩
        · rw [es, rs_fac_cg l (mem10 11 0)]
        · rw [es, rs_lp_cg l (fun x hx => (mem10 11 0 x hx).1)]
    refine br_t h0 (br_t e1 (br_t pos (nm_r x1 (And.intro (vp_in_nI ll (by decide)) (nm_r (e' := nI o) (by rw [nI_clamp (by omega)]; exact p5a) ?_)))))
    refine rx_append hN2 rfl rfl (And.intro (vp_in_nI hN2 (by decide)) (nm_r (e' := upd (upd a_itemJump N (nI N)) N (nI o)) (by rw [nI_clamp (by omega)]) (And.intro (vp_in_nI ll (by decide)) ?_)))
    rw [nI_clamp (show l.length < 2 ^ 31 by omega), p6a]
    by_cases em : m = o
    · have oe : rr_oe (o, m) = -1 := if_pos em
      rw [oe]
      exact br_t (by decide) (And.intro (vp_in_nI (by omega) (by decide)) (nm_r (e' := upd (upd (upd a_itemJump N (nI N)) N (nI o)) m (nI N)) (by rw [nI_clamp (by omega), em]) fin))
    · have oe : rr_oe (o, m) = nI m := if_neg em
      rw [oe]
      exact br_f (nI_pos (by omega)) (And.intro (vp_in_nI ll (by decide)) (And.intro (vp_in_nI (by omega) (by decide)) (nm_r (e' := upd (upd (upd a_itemJump N (nI N)) N (nI o)) m (nI N)) (by rw [nI_clamp (by omega)]) fin)))
end
