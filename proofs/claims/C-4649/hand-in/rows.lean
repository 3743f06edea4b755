section
/-! pure rows to paste: stores, nI and lN arithmetic, masks, shifts, narrowing, branches by naturals (pk_le, pk_lt, pk_eq), loops (lp1 .. lp16: the measure of the state; rp1 ..: recursion), negatives. Take what you need -/
theorem pk_us {f : Nat → Int32} {k : Nat} {x : Int32} : upd f k x k = x := if_pos rfl
theorem pk_un {f : Nat → Int32} {k j : Nat} {x : Int32} (h : j ≠ k) : upd f k x j = f j := if_neg h
theorem pk_uLs {f : Nat → Int64} {k : Nat} {x : Int64} : vp_updL f k x k = x := if_pos rfl
theorem pk_uLn {f : Nat → Int64} {k j : Nat} {x : Int64} (h : j ≠ k) : vp_updL f k x j = f j := if_neg h
theorem pk_sub {a b : Nat} (h : b ≤ a) : nI a - nI b = nI (a - b) := by
  obtain ⟨c, rfl⟩ : ∃ c, a = c + b := ⟨a - b, by omega⟩
  rw [← nI_add, Int32.add_sub_cancel, Nat.add_sub_cancel]
theorem pk_m1 (n : Nat) : nI (n + 1) + (-1) = nI n := by
  rw [← nI_1, Int32.add_assoc, show (1 : Int32) + (-1) = 0 from rfl, Int32.add_zero]
theorem pk_mul (a b : Nat) : nI a * nI b = nI (a * b) := (Int32.ofNat_mul a b).symm
theorem pk_div {a d : Nat} (ha : a < 2 ^ 31) (h0 : 0 < d) (hd : d < 2 ^ 31) : nI a / nI d = nI (a / d) := by
  apply Int32.toInt_inj.mp
  rw [lg_idiv_nonneg (by rw [nI_toInt ha]; omega) (by rw [nI_toInt hd]; omega), nI_toInt ha, nI_toInt hd, nI_toInt (Nat.lt_of_le_of_lt (Nat.div_le_self a d) ha)]
  first | rfl | exact (Int.natCast_ediv _ _).symm
theorem pk_rem {a d : Nat} (ha : a < 2 ^ 31) (h0 : 0 < d) (hd : d < 2 ^ 31) : nI a - nI a / nI d * nI d = nI (a % d) := by
  rw [pk_div ha h0 hd, pk_mul, pk_sub (Nat.div_mul_le_self a d)]
  exact congrArg nI (by have := Nat.div_add_mod' a d; omega)
theorem pk_sub_toInt {a b : Nat} (ha : a < 2 ^ 30) (hb : b < 2 ^ 30) : (nI a - nI b).toInt = (a : Int) - b := by
  rw [Int32.toInt_sub, nI_toInt (by omega), nI_toInt (by omega)]
  exact Int.bmod_eq_of_le (by omega) (by omega)
theorem pk_sneg {a b : Nat} (hb : b < 2 ^ 30) (h : a < b) : nI a - nI b < 0 := by
  rw [Int32.lt_iff_toInt_lt, pk_sub_toInt (by omega) hb, show (0 : Int32).toInt = 0 from by decide]
  omega
theorem pk_ix (x : Int32) {n : Nat} (hn : n < 2 ^ 31) : x < 0 ∨ nI n ≤ x ∨ ∃ j : Nat, j < n ∧ x = nI j := by
  by_cases h : x < 0
  · exact Or.inl h
  · obtain ⟨j, hj, rfl⟩ := nI_of h
    by_cases h2 : j < n
    · exact Or.inr (Or.inr ⟨j, h2, rfl⟩)
    · exact Or.inr (Or.inl (nI_le (by omega) hj))
theorem pk_le {x y : Int32} {A B : Prop} (a b : Nat) (f : a ≤ b → A) (g : b < a → B) (hx : x = nI a := by rfl) (hy : y = nI b := by rfl) (ha : a < 2 ^ 31 := by omega) (hb : b < 2 ^ 31 := by omega) : (x ≤ y → A) ∧ (¬ x ≤ y → B) := by
  subst hx hy
  rw [nI_leI ha hb]
  exact ⟨f, fun z => g (by omega)⟩
theorem pk_lt {x y : Int32} {A B : Prop} (a b : Nat) (f : a < b → A) (g : b ≤ a → B) (hx : x = nI a := by rfl) (hy : y = nI b := by rfl) (ha : a < 2 ^ 31 := by omega) (hb : b < 2 ^ 31 := by omega) : (x < y → A) ∧ (¬ x < y → B) := by
  subst hx hy
  rw [nI_ltI ha hb]
  exact ⟨f, fun z => g (by omega)⟩
theorem pk_eq {x y : Int32} {A B : Prop} (a b : Nat) (f : a = b → A) (g : a ≠ b → B) (hx : x = nI a := by rfl) (hy : y = nI b := by rfl) (ha : a < 2 ^ 31 := by omega) (hb : b < 2 ^ 31 := by omega) : (x = y → A) ∧ (¬ x = y → B) := by
  subst hx hy
  rw [nI_eq ha hb]
  exact ⟨f, g⟩
theorem pk_in {x : Int32} (n N : Nat) (h : n < N) (hx : x = nI n := by rfl) (hN : N < 2 ^ 31 := by omega) : vp_in x N := by
  subst hx
  exact vp_in_nI h hN
theorem pk_cl {x : Int32} (n : Nat) (hx : x = nI n := by rfl) (h : n < 2 ^ 31 := by omega) : x.toNatClampNeg = n := by
  subst hx
  exact nI_clamp h
theorem pk_tn {n : Nat} (h : n < 2 ^ 32) : (nI n).toBitVec.toNat = n := Nat.mod_eq_of_lt h
theorem pk_and (x : Int32) {m : Int32} (k : Nat) (hm : m.toBitVec.toNat = 2 ^ k - 1) : x &&& m = nI (x.toBitVec.toNat % 2 ^ k) := by
  apply Int32.toBitVec_inj.mp
  apply BitVec.eq_of_toNat_eq
  rw [Int32.toBitVec_and, BitVec.toNat_and, hm, Nat.and_two_pow_sub_one_eq_mod]
  show _ = (BitVec.ofNat 32 _).toNat
  rw [BitVec.toNat_ofNat]
  exact (Nat.mod_eq_of_lt (Nat.lt_of_le_of_lt (Nat.mod_le _ _) x.toBitVec.isLt)).symm
theorem pk_andN {n : Nat} (h : n < 2 ^ 32) {m : Int32} (k : Nat) (hm : m.toBitVec.toNat = 2 ^ k - 1) : nI n &&& m = nI (n % 2 ^ k) := by
  rw [pk_and _ k hm, pk_tn h]
theorem pk_andE (x : Int32) {m : Int32} (k : Nat) (hm : m.toBitVec.toNat = 2 ^ k - 1) : ∃ j : Nat, j < 2 ^ k ∧ x &&& m = nI j := ⟨_, Nat.mod_lt _ (Nat.two_pow_pos k), pk_and x k hm⟩
theorem pk_andIn (x : Int32) {m : Int32} (k : Nat) (hm : m.toBitVec.toNat = 2 ^ k - 1) (hk : k ≤ 30) : vp_in (x &&& m) (2 ^ k) := by
  obtain ⟨j, hj, e⟩ := pk_andE x k hm
  rw [e]
  exact vp_in_nI hj (Nat.lt_of_le_of_lt (Nat.pow_le_pow_right (by decide) hk) (by decide))
theorem pk_shl (a s : Int32) (k : Nat) (hs : (s.toBitVec.smod 32).toNat = k) : (a <<< s).toBitVec.toNat = a.toBitVec.toNat * 2 ^ k % 2 ^ 32 := by
  show (a.toBitVec <<< (s.toBitVec.smod 32).toNat).toNat = _
  rw [hs, BitVec.toNat_shiftLeft, Nat.shiftLeft_eq]
theorem pk_shlN {n : Nat} (s : Int32) (k : Nat) (hs : (s.toBitVec.smod 32).toNat = k) (h : n * 2 ^ k < 2 ^ 32) : nI n <<< s = nI (n * 2 ^ k) := by
  apply Int32.toBitVec_inj.mp
  apply BitVec.eq_of_toNat_eq
  have hn : n < 2 ^ 32 := Nat.lt_of_le_of_lt (Nat.le_mul_of_pos_right n (Nat.two_pow_pos k)) h
  rw [pk_shl _ _ k hs, pk_tn hn, pk_tn h, Nat.mod_eq_of_lt h]
theorem pk_shr (a s : Int32) (k : Nat) (hs : (s.toBitVec.smod 32).toNat = k) : (a >>> s).toInt = a.toInt >>> k := by
  show (a.toBitVec.sshiftRight (s.toBitVec.smod 32).toNat).toInt = _
  rw [hs, BitVec.toInt_sshiftRight]
  rfl
theorem pk_shrN {n : Nat} (h : n < 2 ^ 31) (s : Int32) (k : Nat) (hs : (s.toBitVec.smod 32).toNat = k) : nI n >>> s = nI (n / 2 ^ k) := by
  apply Int32.toInt_inj.mp
  have h2 : n / 2 ^ k ≤ n := Nat.div_le_self _ _
  rw [pk_shr _ _ k hs, nI_toInt h, nI_toInt (by omega), Int.shiftRight_eq_div_pow]
  rfl
theorem pk_ushr (x s : Int32) (k : Nat) (hs : ((s.toUInt32 &&& Int32.toUInt32 31).toBitVec % 32).toNat = k) : (x.toUInt32 >>> (s.toUInt32 &&& Int32.toUInt32 31)).toInt32.toBitVec.toNat = x.toBitVec.toNat / 2 ^ k := by
  have e : (x.toUInt32 >>> (s.toUInt32 &&& Int32.toUInt32 31)).toInt32.toBitVec = x.toBitVec >>> k := by
    rw [← hs]
    exact UInt32.toBitVec_shiftRight _ _
  rw [e, BitVec.toNat_ushiftRight, Nat.shiftRight_eq_div_pow]
theorem pk_ushrN {n : Nat} (hn : n < 2 ^ 32) (s : Int32) (k : Nat) (hs : ((s.toUInt32 &&& Int32.toUInt32 31).toBitVec % 32).toNat = k) : ((nI n).toUInt32 >>> (s.toUInt32 &&& Int32.toUInt32 31)).toInt32 = nI (n / 2 ^ k) := by
  apply Int32.toBitVec_inj.mp
  apply BitVec.eq_of_toNat_eq
  rw [pk_ushr _ s k hs, pk_tn hn, pk_tn (Nat.lt_of_le_of_lt (Nat.div_le_self _ _) hn)]
theorem pk_nb (z : Int32) : narrow .byte (.int z.toInt8.toInt32) = .int z.toInt8.toInt32 := congrArg Value.int (by simp)
theorem pk_ns (z : Int32) : narrow .short (.int z.toInt16.toInt32) = .int z.toInt16.toInt32 := congrArg Value.int (by simp)
theorem pk_fb (r : Int32) : fits .byte (.int r.toInt8.toInt32) = true := by
  have ⟨a, b⟩ := lg_i2b_range r
  have h1 : (-128 : Int32).toInt = -128 := by decide
  have h2 : (127 : Int32).toInt = 127 := by decide
  simp only [fits, Bool.and_eq_true, decide_eq_true_eq, Int32.le_iff_toInt_le, h1, h2]
  omega
theorem pk_fs (r : Int32) : fits .short (.int r.toInt16.toInt32) = true := by
  have ⟨a, b⟩ := lg_i2s_range r
  have h1 : (-32768 : Int32).toInt = -32768 := by decide
  have h2 : (32767 : Int32).toInt = 32767 := by decide
  simp only [fits, Bool.and_eq_true, decide_eq_true_eq, Int32.le_iff_toInt_le, h1, h2]
  omega
theorem pk_charN {q : Nat} (hq : q < 65536) : narrow .char (.int (nI q)) = .int (nI q) ∧ fits .char (.int (nI q)) = true := by
  constructor
  · have e : (nI q).toUInt32.toUInt16.toUInt32.toInt32 = nI q := by
      apply Int32.toBitVec_inj.mp
      apply BitVec.eq_of_toNat_eq
      show (nI q).toUInt32.toUInt16.toUInt32.toNat = q % 2 ^ 32
      rw [UInt16.toNat_toUInt32, UInt32.toNat_toUInt16, show (nI q).toUInt32.toNat = q % 2 ^ 32 from rfl]
      omega
    exact congrArg Value.int e
  · have a : (0 : Int32) ≤ nI q := nI_pos' (by omega)
    have b : nI q ≤ 65535 := nI_le (b := 65535) (by omega) (by decide)
    show (decide ((0 : Int32) ≤ nI q) && decide (nI q ≤ 65535)) = true
    rw [decide_eq_true a, decide_eq_true b]
    rfl
theorem pk_char (x : Int32) : (x.toUInt32 % 65536).toInt32 = nI (x.toBitVec.toNat % 65536) := by
  apply Int32.toBitVec_inj.mp
  apply BitVec.eq_of_toNat_eq
  rw [pk_tn (by omega)]
  show (x.toUInt32 % 65536).toNat = _
  rw [UInt32.toNat_mod]
  rfl
theorem pk_nc (x : Int32) : narrow .char (.int (x.toUInt32 % 65536).toInt32) = .int (x.toUInt32 % 65536).toInt32 := by
  rw [pk_char]
  exact (pk_charN (Nat.mod_lt _ (by decide))).1
theorem pk_fc (x : Int32) : fits .char (.int (x.toUInt32 % 65536).toInt32) = true := by
  rw [pk_char]
  exact (pk_charN (Nat.mod_lt _ (by decide))).2
theorem pk_vb (z : Int32) : vp_nar .byte z.toInt8.toInt32 = z.toInt8.toInt32 := by rw [vp_nar_byte]; simp
theorem pk_vs (z : Int32) : vp_nar .short z.toInt16.toInt32 = z.toInt16.toInt32 := by rw [vp_nar_short]; simp
theorem pk_vc (z : Int32) : vp_nar .char (z.toUInt32 % 65536).toInt32 = (z.toUInt32 % 65536).toInt32 := Value.int.inj (pk_nc z)
theorem pk_lT {n : Nat} (h : n < 2 ^ 63) : (lN n).toInt = (n : Int) := lg_ofNat_toInt h
theorem pk_lLT {a b : Nat} (ha : a < 2 ^ 63) (hb : b < 2 ^ 63) : lN a < lN b ↔ a < b := by
  rw [Int64.lt_iff_toInt_lt, pk_lT ha, pk_lT hb]; omega
theorem pk_lLE {a b : Nat} (ha : a < 2 ^ 63) (hb : b < 2 ^ 63) : lN a ≤ lN b ↔ a ≤ b := by
  rw [Int64.le_iff_toInt_le, pk_lT ha, pk_lT hb]; omega
theorem pk_lEQ {a b : Nat} (ha : a < 2 ^ 63) (hb : b < 2 ^ 63) : lN a = lN b ↔ a = b := by
  rw [← Int64.toInt_inj, pk_lT ha, pk_lT hb]; omega
theorem pk_lOf {x : Int64} (h : ¬ x < 0) : ∃ k : Nat, k < 2 ^ 63 ∧ x = lN k := by
  rw [Int64.lt_iff_toInt_lt] at h
  have h0 : (0 : Int64).toInt = 0 := by decide
  have hx := Int64.toInt_lt x
  refine ⟨x.toInt.toNat, by omega, Int64.toInt_inj.mp ?_⟩
  rw [pk_lT (by omega)]
  omega
theorem pk_lDiv {a b : Nat} (ha : a < 2 ^ 63) (h0 : 0 < b) (hb : b < 2 ^ 63) : lN a / lN b = lN (a / b) := by
  apply Int64.toInt_inj.mp
  rw [lg_ldiv_nonneg (by rw [pk_lT ha]; omega) (by rw [pk_lT hb]; omega), pk_lT ha, pk_lT hb, pk_lT (Nat.lt_of_le_of_lt (Nat.div_le_self a b) ha)]
  rfl
theorem pk_lRem {a b : Nat} (ha : a < 2 ^ 63) (h0 : 0 < b) (hb : b < 2 ^ 63) : lN a - lN a / lN b * lN b = lN (a % b) := by
  rw [pk_lDiv ha h0 hb, lN_mul, lN_sub (Nat.div_mul_le_self a b)]
  exact congrArg lN (by have := Nat.div_add_mod' a b; omega)
theorem pk_loop {σ : Type} (W : Nat → Nat → σ → Prop) (I : Nat → σ → Prop) (e i0 : Nat) (s : σ) (hi : i0 ≤ e) (h0 : I i0 s) (hx : ∀ n s, I e s → W (n + 1) e s)
    (hs : ∀ n i s, i < e → I i s → (∀ s', I (i + 1) s' → W n (i + 1) s') → W (n + 1) i s) : ∃ n, W n i0 s :=
  ⟨e + 1, loop_i W I e hx hs (e + 1) i0 s hi (by omega) h0⟩
theorem pk_loopD {σ : Type} (W : Nat → Nat → σ → Prop) (I : Nat → σ → Prop) (hx : ∀ n s, I 0 s → W (n + 1) 0 s)
    (hs : ∀ n i s, I (i + 1) s → (∀ s', I i s' → W n i s') → W (n + 1) (i + 1) s) : ∀ (e : Nat) (s : σ), I e s → W (e + 1) e s := by
  intro e
  induction e with
  | zero => exact fun s h => hx 0 s h
  | succ e ih => exact fun s h => hs (e + 1) e s h (fun s' h' => ih s' h')
theorem lp1 {A1 : Type} (W : Nat → A1 → Prop) (I : A1 → Prop) (μ : A1 → Nat) (hs : ∀ (n : Nat) (a1 : A1), I a1 → (∀ (b1 : A1), I b1 → μ b1 < μ a1 → W n b1) → W (n + 1) a1) (a1 : A1) (h : I a1) : ∃ n, W n a1 :=
  loop_m (σ := A1) (fun n s => W n s) (fun s => I s) (fun s => μ s) (fun n s hI hk => hs n s hI (fun b1 h9 hm => hk b1 h9 hm)) a1 h
theorem lp2 {A1 A2 : Type} (W : Nat → A1 → A2 → Prop) (I : A1 → A2 → Prop) (μ : A1 → A2 → Nat) (hs : ∀ (n : Nat) (a1 : A1) (a2 : A2), I a1 a2 → (∀ (b1 : A1) (b2 : A2), I b1 b2 → μ b1 b2 < μ a1 a2 → W n b1 b2) → W (n + 1) a1 a2) (a1 : A1) (a2 : A2) (h : I a1 a2) : ∃ n, W n a1 a2 :=
  loop_m (σ := A1 × A2) (fun n s => W n s.1 s.2) (fun s => I s.1 s.2) (fun s => μ s.1 s.2) (fun n s hI hk => hs n s.1 s.2 hI (fun b1 b2 h9 hm => hk (b1, b2) h9 hm)) (a1, a2) h
theorem lp3 {A1 A2 A3 : Type} (W : Nat → A1 → A2 → A3 → Prop) (I : A1 → A2 → A3 → Prop) (μ : A1 → A2 → A3 → Nat) (hs : ∀ (n : Nat) (a1 : A1) (a2 : A2) (a3 : A3), I a1 a2 a3 → (∀ (b1 : A1) (b2 : A2) (b3 : A3), I b1 b2 b3 → μ b1 b2 b3 < μ a1 a2 a3 → W n b1 b2 b3) → W (n + 1) a1 a2 a3) (a1 : A1) (a2 : A2) (a3 : A3) (h : I a1 a2 a3) : ∃ n, W n a1 a2 a3 :=
  loop_m (σ := A1 × A2 × A3) (fun n s => W n s.1 s.2.1 s.2.2) (fun s => I s.1 s.2.1 s.2.2) (fun s => μ s.1 s.2.1 s.2.2) (fun n s hI hk => hs n s.1 s.2.1 s.2.2 hI (fun b1 b2 b3 h9 hm => hk (b1, b2, b3) h9 hm)) (a1, a2, a3) h
theorem lp4 {A1 A2 A3 A4 : Type} (W : Nat → A1 → A2 → A3 → A4 → Prop) (I : A1 → A2 → A3 → A4 → Prop) (μ : A1 → A2 → A3 → A4 → Nat) (hs : ∀ (n : Nat) (a1 : A1) (a2 : A2) (a3 : A3) (a4 : A4), I a1 a2 a3 a4 → (∀ (b1 : A1) (b2 : A2) (b3 : A3) (b4 : A4), I b1 b2 b3 b4 → μ b1 b2 b3 b4 < μ a1 a2 a3 a4 → W n b1 b2 b3 b4) → W (n + 1) a1 a2 a3 a4) (a1 : A1) (a2 : A2) (a3 : A3) (a4 : A4) (h : I a1 a2 a3 a4) : ∃ n, W n a1 a2 a3 a4 :=
  loop_m (σ := A1 × A2 × A3 × A4) (fun n s => W n s.1 s.2.1 s.2.2.1 s.2.2.2) (fun s => I s.1 s.2.1 s.2.2.1 s.2.2.2) (fun s => μ s.1 s.2.1 s.2.2.1 s.2.2.2) (fun n s hI hk => hs n s.1 s.2.1 s.2.2.1 s.2.2.2 hI (fun b1 b2 b3 b4 h9 hm => hk (b1, b2, b3, b4) h9 hm)) (a1, a2, a3, a4) h
theorem lp5 {A1 A2 A3 A4 A5 : Type} (W : Nat → A1 → A2 → A3 → A4 → A5 → Prop) (I : A1 → A2 → A3 → A4 → A5 → Prop) (μ : A1 → A2 → A3 → A4 → A5 → Nat) (hs : ∀ (n : Nat) (a1 : A1) (a2 : A2) (a3 : A3) (a4 : A4) (a5 : A5), I a1 a2 a3 a4 a5 → (∀ (b1 : A1) (b2 : A2) (b3 : A3) (b4 : A4) (b5 : A5), I b1 b2 b3 b4 b5 → μ b1 b2 b3 b4 b5 < μ a1 a2 a3 a4 a5 → W n b1 b2 b3 b4 b5) → W (n + 1) a1 a2 a3 a4 a5) (a1 : A1) (a2 : A2) (a3 : A3) (a4 : A4) (a5 : A5) (h : I a1 a2 a3 a4 a5) : ∃ n, W n a1 a2 a3 a4 a5 :=
  loop_m (σ := A1 × A2 × A3 × A4 × A5) (fun n s => W n s.1 s.2.1 s.2.2.1 s.2.2.2.1 s.2.2.2.2) (fun s => I s.1 s.2.1 s.2.2.1 s.2.2.2.1 s.2.2.2.2) (fun s => μ s.1 s.2.1 s.2.2.1 s.2.2.2.1 s.2.2.2.2) (fun n s hI hk => hs n s.1 s.2.1 s.2.2.1 s.2.2.2.1 s.2.2.2.2 hI (fun b1 b2 b3 b4 b5 h9 hm => hk (b1, b2, b3, b4, b5) h9 hm)) (a1, a2, a3, a4, a5) h
theorem lp6 {A1 A2 A3 A4 A5 A6 : Type} (W : Nat → A1 → A2 → A3 → A4 → A5 → A6 → Prop) (I : A1 → A2 → A3 → A4 → A5 → A6 → Prop) (μ : A1 → A2 → A3 → A4 → A5 → A6 → Nat) (hs : ∀ (n : Nat) (a1 : A1) (a2 : A2) (a3 : A3) (a4 : A4) (a5 : A5) (a6 : A6), I a1 a2 a3 a4 a5 a6 → (∀ (b1 : A1) (b2 : A2) (b3 : A3) (b4 : A4) (b5 : A5) (b6 : A6), I b1 b2 b3 b4 b5 b6 → μ b1 b2 b3 b4 b5 b6 < μ a1 a2 a3 a4 a5 a6 → W n b1 b2 b3 b4 b5 b6) → W (n + 1) a1 a2 a3 a4 a5 a6) (a1 : A1) (a2 : A2) (a3 : A3) (a4 : A4) (a5 : A5) (a6 : A6) (h : I a1 a2 a3 a4 a5 a6) : ∃ n, W n a1 a2 a3 a4 a5 a6 :=
  loop_m (σ := A1 × A2 × A3 × A4 × A5 × A6) (fun n s => W n s.1 s.2.1 s.2.2.1 s.2.2.2.1 s.2.2.2.2.1 s.2.2.2.2.2) (fun s => I s.1 s.2.1 s.2.2.1 s.2.2.2.1 s.2.2.2.2.1 s.2.2.2.2.2) (fun s => μ s.1 s.2.1 s.2.2.1 s.2.2.2.1 s.2.2.2.2.1 s.2.2.2.2.2) (fun n s hI hk => hs n s.1 s.2.1 s.2.2.1 s.2.2.2.1 s.2.2.2.2.1 s.2.2.2.2.2 hI (fun b1 b2 b3 b4 b5 b6 h9 hm => hk (b1, b2, b3, b4, b5, b6) h9 hm)) (a1, a2, a3, a4, a5, a6) h
theorem lp7 {A1 A2 A3 A4 A5 A6 A7 : Type} (W : Nat → A1 → A2 → A3 → A4 → A5 → A6 → A7 → Prop) (I : A1 → A2 → A3 → A4 → A5 → A6 → A7 → Prop) (μ : A1 → A2 → A3 → A4 → A5 → A6 → A7 → Nat) (hs : ∀ (n : Nat) (a1 : A1) (a2 : A2) (a3 : A3) (a4 : A4) (a5 : A5) (a6 : A6) (a7 : A7), I a1 a2 a3 a4 a5 a6 a7 → (∀ (b1 : A1) (b2 : A2) (b3 : A3) (b4 : A4) (b5 : A5) (b6 : A6) (b7 : A7), I b1 b2 b3 b4 b5 b6 b7 → μ b1 b2 b3 b4 b5 b6 b7 < μ a1 a2 a3 a4 a5 a6 a7 → W n b1 b2 b3 b4 b5 b6 b7) → W (n + 1) a1 a2 a3 a4 a5 a6 a7) (a1 : A1) (a2 : A2) (a3 : A3) (a4 : A4) (a5 : A5) (a6 : A6) (a7 : A7) (h : I a1 a2 a3 a4 a5 a6 a7) : ∃ n, W n a1 a2 a3 a4 a5 a6 a7 :=
  loop_m (σ := A1 × A2 × A3 × A4 × A5 × A6 × A7) (fun n s => W n s.1 s.2.1 s.2.2.1 s.2.2.2.1 s.2.2.2.2.1 s.2.2.2.2.2.1 s.2.2.2.2.2.2) (fun s => I s.1 s.2.1 s.2.2.1 s.2.2.2.1 s.2.2.2.2.1 s.2.2.2.2.2.1 s.2.2.2.2.2.2) (fun s => μ s.1 s.2.1 s.2.2.1 s.2.2.2.1 s.2.2.2.2.1 s.2.2.2.2.2.1 s.2.2.2.2.2.2) (fun n s hI hk => hs n s.1 s.2.1 s.2.2.1 s.2.2.2.1 s.2.2.2.2.1 s.2.2.2.2.2.1 s.2.2.2.2.2.2 hI (fun b1 b2 b3 b4 b5 b6 b7 h9 hm => hk (b1, b2, b3, b4, b5, b6, b7) h9 hm)) (a1, a2, a3, a4, a5, a6, a7) h
theorem lp8 {A1 A2 A3 A4 A5 A6 A7 A8 : Type} (W : Nat → A1 → A2 → A3 → A4 → A5 → A6 → A7 → A8 → Prop) (I : A1 → A2 → A3 → A4 → A5 → A6 → A7 → A8 → Prop) (μ : A1 → A2 → A3 → A4 → A5 → A6 → A7 → A8 → Nat) (hs : ∀ (n : Nat) (a1 : A1) (a2 : A2) (a3 : A3) (a4 : A4) (a5 : A5) (a6 : A6) (a7 : A7) (a8 : A8), I a1 a2 a3 a4 a5 a6 a7 a8 → (∀ (b1 : A1) (b2 : A2) (b3 : A3) (b4 : A4) (b5 : A5) (b6 : A6) (b7 : A7) (b8 : A8), I b1 b2 b3 b4 b5 b6 b7 b8 → μ b1 b2 b3 b4 b5 b6 b7 b8 < μ a1 a2 a3 a4 a5 a6 a7 a8 → W n b1 b2 b3 b4 b5 b6 b7 b8) → W (n + 1) a1 a2 a3 a4 a5 a6 a7 a8) (a1 : A1) (a2 : A2) (a3 : A3) (a4 : A4) (a5 : A5) (a6 : A6) (a7 : A7) (a8 : A8) (h : I a1 a2 a3 a4 a5 a6 a7 a8) : ∃ n, W n a1 a2 a3 a4 a5 a6 a7 a8 :=
  loop_m (σ := A1 × A2 × A3 × A4 × A5 × A6 × A7 × A8) (fun n s => W n s.1 s.2.1 s.2.2.1 s.2.2.2.1 s.2.2.2.2.1 s.2.2.2.2.2.1 s.2.2.2.2.2.2.1 s.2.2.2.2.2.2.2) (fun s => I s.1 s.2.1 s.2.2.1 s.2.2.2.1 s.2.2.2.2.1 s.2.2.2.2.2.1 s.2.2.2.2.2.2.1 s.2.2.2.2.2.2.2) (fun s => μ s.1 s.2.1 s.2.2.1 s.2.2.2.1 s.2.2.2.2.1 s.2.2.2.2.2.1 s.2.2.2.2.2.2.1 s.2.2.2.2.2.2.2) (fun n s hI hk => hs n s.1 s.2.1 s.2.2.1 s.2.2.2.1 s.2.2.2.2.1 s.2.2.2.2.2.1 s.2.2.2.2.2.2.1 s.2.2.2.2.2.2.2 hI (fun b1 b2 b3 b4 b5 b6 b7 b8 h9 hm => hk (b1, b2, b3, b4, b5, b6, b7, b8) h9 hm)) (a1, a2, a3, a4, a5, a6, a7, a8) h
theorem lp9 {A1 A2 A3 A4 A5 A6 A7 A8 A9 : Type} (W : Nat → A1 → A2 → A3 → A4 → A5 → A6 → A7 → A8 → A9 → Prop) (I : A1 → A2 → A3 → A4 → A5 → A6 → A7 → A8 → A9 → Prop) (μ : A1 → A2 → A3 → A4 → A5 → A6 → A7 → A8 → A9 → Nat) (hs : ∀ (n : Nat) (a1 : A1) (a2 : A2) (a3 : A3) (a4 : A4) (a5 : A5) (a6 : A6) (a7 : A7) (a8 : A8) (a9 : A9), I a1 a2 a3 a4 a5 a6 a7 a8 a9 → (∀ (b1 : A1) (b2 : A2) (b3 : A3) (b4 : A4) (b5 : A5) (b6 : A6) (b7 : A7) (b8 : A8) (b9 : A9), I b1 b2 b3 b4 b5 b6 b7 b8 b9 → μ b1 b2 b3 b4 b5 b6 b7 b8 b9 < μ a1 a2 a3 a4 a5 a6 a7 a8 a9 → W n b1 b2 b3 b4 b5 b6 b7 b8 b9) → W (n + 1) a1 a2 a3 a4 a5 a6 a7 a8 a9) (a1 : A1) (a2 : A2) (a3 : A3) (a4 : A4) (a5 : A5) (a6 : A6) (a7 : A7) (a8 : A8) (a9 : A9) (h : I a1 a2 a3 a4 a5 a6 a7 a8 a9) : ∃ n, W n a1 a2 a3 a4 a5 a6 a7 a8 a9 :=
  loop_m (σ := A1 × A2 × A3 × A4 × A5 × A6 × A7 × A8 × A9) (fun n s => W n s.1 s.2.1 s.2.2.1 s.2.2.2.1 s.2.2.2.2.1 s.2.2.2.2.2.1 s.2.2.2.2.2.2.1 s.2.2.2.2.2.2.2.1 s.2.2.2.2.2.2.2.2) (fun s => I s.1 s.2.1 s.2.2.1 s.2.2.2.1 s.2.2.2.2.1 s.2.2.2.2.2.1 s.2.2.2.2.2.2.1 s.2.2.2.2.2.2.2.1 s.2.2.2.2.2.2.2.2) (fun s => μ s.1 s.2.1 s.2.2.1 s.2.2.2.1 s.2.2.2.2.1 s.2.2.2.2.2.1 s.2.2.2.2.2.2.1 s.2.2.2.2.2.2.2.1 s.2.2.2.2.2.2.2.2) (fun n s hI hk => hs n s.1 s.2.1 s.2.2.1 s.2.2.2.1 s.2.2.2.2.1 s.2.2.2.2.2.1 s.2.2.2.2.2.2.1 s.2.2.2.2.2.2.2.1 s.2.2.2.2.2.2.2.2 hI (fun b1 b2 b3 b4 b5 b6 b7 b8 b9 h9 hm => hk (b1, b2, b3, b4, b5, b6, b7, b8, b9) h9 hm)) (a1, a2, a3, a4, a5, a6, a7, a8, a9) h
theorem lp10 {A1 A2 A3 A4 A5 A6 A7 A8 A9 A10 : Type} (W : Nat → A1 → A2 → A3 → A4 → A5 → A6 → A7 → A8 → A9 → A10 → Prop) (I : A1 → A2 → A3 → A4 → A5 → A6 → A7 → A8 → A9 → A10 → Prop) (μ : A1 → A2 → A3 → A4 → A5 → A6 → A7 → A8 → A9 → A10 → Nat) (hs : ∀ (n : Nat) (a1 : A1) (a2 : A2) (a3 : A3) (a4 : A4) (a5 : A5) (a6 : A6) (a7 : A7) (a8 : A8) (a9 : A9) (a10 : A10), I a1 a2 a3 a4 a5 a6 a7 a8 a9 a10 → (∀ (b1 : A1) (b2 : A2) (b3 : A3) (b4 : A4) (b5 : A5) (b6 : A6) (b7 : A7) (b8 : A8) (b9 : A9) (b10 : A10), I b1 b2 b3 b4 b5 b6 b7 b8 b9 b10 → μ b1 b2 b3 b4 b5 b6 b7 b8 b9 b10 < μ a1 a2 a3 a4 a5 a6 a7 a8 a9 a10 → W n b1 b2 b3 b4 b5 b6 b7 b8 b9 b10) → W (n + 1) a1 a2 a3 a4 a5 a6 a7 a8 a9 a10) (a1 : A1) (a2 : A2) (a3 : A3) (a4 : A4) (a5 : A5) (a6 : A6) (a7 : A7) (a8 : A8) (a9 : A9) (a10 : A10) (h : I a1 a2 a3 a4 a5 a6 a7 a8 a9 a10) : ∃ n, W n a1 a2 a3 a4 a5 a6 a7 a8 a9 a10 :=
  loop_m (σ := A1 × A2 × A3 × A4 × A5 × A6 × A7 × A8 × A9 × A10) (fun n s => W n s.1 s.2.1 s.2.2.1 s.2.2.2.1 s.2.2.2.2.1 s.2.2.2.2.2.1 s.2.2.2.2.2.2.1 s.2.2.2.2.2.2.2.1 s.2.2.2.2.2.2.2.2.1 s.2.2.2.2.2.2.2.2.2) (fun s => I s.1 s.2.1 s.2.2.1 s.2.2.2.1 s.2.2.2.2.1 s.2.2.2.2.2.1 s.2.2.2.2.2.2.1 s.2.2.2.2.2.2.2.1 s.2.2.2.2.2.2.2.2.1 s.2.2.2.2.2.2.2.2.2) (fun s => μ s.1 s.2.1 s.2.2.1 s.2.2.2.1 s.2.2.2.2.1 s.2.2.2.2.2.1 s.2.2.2.2.2.2.1 s.2.2.2.2.2.2.2.1 s.2.2.2.2.2.2.2.2.1 s.2.2.2.2.2.2.2.2.2) (fun n s hI hk => hs n s.1 s.2.1 s.2.2.1 s.2.2.2.1 s.2.2.2.2.1 s.2.2.2.2.2.1 s.2.2.2.2.2.2.1 s.2.2.2.2.2.2.2.1 s.2.2.2.2.2.2.2.2.1 s.2.2.2.2.2.2.2.2.2 hI (fun b1 b2 b3 b4 b5 b6 b7 b8 b9 b10 h9 hm => hk (b1, b2, b3, b4, b5, b6, b7, b8, b9, b10) h9 hm)) (a1, a2, a3, a4, a5, a6, a7, a8, a9, a10) h
theorem lp11 {A1 A2 A3 A4 A5 A6 A7 A8 A9 A10 A11 : Type} (W : Nat → A1 → A2 → A3 → A4 → A5 → A6 → A7 → A8 → A9 → A10 → A11 → Prop) (I : A1 → A2 → A3 → A4 → A5 → A6 → A7 → A8 → A9 → A10 → A11 → Prop) (μ : A1 → A2 → A3 → A4 → A5 → A6 → A7 → A8 → A9 → A10 → A11 → Nat) (hs : ∀ (n : Nat) (a1 : A1) (a2 : A2) (a3 : A3) (a4 : A4) (a5 : A5) (a6 : A6) (a7 : A7) (a8 : A8) (a9 : A9) (a10 : A10) (a11 : A11), I a1 a2 a3 a4 a5 a6 a7 a8 a9 a10 a11 → (∀ (b1 : A1) (b2 : A2) (b3 : A3) (b4 : A4) (b5 : A5) (b6 : A6) (b7 : A7) (b8 : A8) (b9 : A9) (b10 : A10) (b11 : A11), I b1 b2 b3 b4 b5 b6 b7 b8 b9 b10 b11 → μ b1 b2 b3 b4 b5 b6 b7 b8 b9 b10 b11 < μ a1 a2 a3 a4 a5 a6 a7 a8 a9 a10 a11 → W n b1 b2 b3 b4 b5 b6 b7 b8 b9 b10 b11) → W (n + 1) a1 a2 a3 a4 a5 a6 a7 a8 a9 a10 a11) (a1 : A1) (a2 : A2) (a3 : A3) (a4 : A4) (a5 : A5) (a6 : A6) (a7 : A7) (a8 : A8) (a9 : A9) (a10 : A10) (a11 : A11) (h : I a1 a2 a3 a4 a5 a6 a7 a8 a9 a10 a11) : ∃ n, W n a1 a2 a3 a4 a5 a6 a7 a8 a9 a10 a11 :=
  loop_m (σ := A1 × A2 × A3 × A4 × A5 × A6 × A7 × A8 × A9 × A10 × A11) (fun n s => W n s.1 s.2.1 s.2.2.1 s.2.2.2.1 s.2.2.2.2.1 s.2.2.2.2.2.1 s.2.2.2.2.2.2.1 s.2.2.2.2.2.2.2.1 s.2.2.2.2.2.2.2.2.1 s.2.2.2.2.2.2.2.2.2.1 s.2.2.2.2.2.2.2.2.2.2) (fun s => I s.1 s.2.1 s.2.2.1 s.2.2.2.1 s.2.2.2.2.1 s.2.2.2.2.2.1 s.2.2.2.2.2.2.1 s.2.2.2.2.2.2.2.1 s.2.2.2.2.2.2.2.2.1 s.2.2.2.2.2.2.2.2.2.1 s.2.2.2.2.2.2.2.2.2.2) (fun s => μ s.1 s.2.1 s.2.2.1 s.2.2.2.1 s.2.2.2.2.1 s.2.2.2.2.2.1 s.2.2.2.2.2.2.1 s.2.2.2.2.2.2.2.1 s.2.2.2.2.2.2.2.2.1 s.2.2.2.2.2.2.2.2.2.1 s.2.2.2.2.2.2.2.2.2.2) (fun n s hI hk => hs n s.1 s.2.1 s.2.2.1 s.2.2.2.1 s.2.2.2.2.1 s.2.2.2.2.2.1 s.2.2.2.2.2.2.1 s.2.2.2.2.2.2.2.1 s.2.2.2.2.2.2.2.2.1 s.2.2.2.2.2.2.2.2.2.1 s.2.2.2.2.2.2.2.2.2.2 hI (fun b1 b2 b3 b4 b5 b6 b7 b8 b9 b10 b11 h9 hm => hk (b1, b2, b3, b4, b5, b6, b7, b8, b9, b10, b11) h9 hm)) (a1, a2, a3, a4, a5, a6, a7, a8, a9, a10, a11) h
theorem lp12 {A1 A2 A3 A4 A5 A6 A7 A8 A9 A10 A11 A12 : Type} (W : Nat → A1 → A2 → A3 → A4 → A5 → A6 → A7 → A8 → A9 → A10 → A11 → A12 → Prop) (I : A1 → A2 → A3 → A4 → A5 → A6 → A7 → A8 → A9 → A10 → A11 → A12 → Prop) (μ : A1 → A2 → A3 → A4 → A5 → A6 → A7 → A8 → A9 → A10 → A11 → A12 → Nat) (hs : ∀ (n : Nat) (a1 : A1) (a2 : A2) (a3 : A3) (a4 : A4) (a5 : A5) (a6 : A6) (a7 : A7) (a8 : A8) (a9 : A9) (a10 : A10) (a11 : A11) (a12 : A12), I a1 a2 a3 a4 a5 a6 a7 a8 a9 a10 a11 a12 → (∀ (b1 : A1) (b2 : A2) (b3 : A3) (b4 : A4) (b5 : A5) (b6 : A6) (b7 : A7) (b8 : A8) (b9 : A9) (b10 : A10) (b11 : A11) (b12 : A12), I b1 b2 b3 b4 b5 b6 b7 b8 b9 b10 b11 b12 → μ b1 b2 b3 b4 b5 b6 b7 b8 b9 b10 b11 b12 < μ a1 a2 a3 a4 a5 a6 a7 a8 a9 a10 a11 a12 → W n b1 b2 b3 b4 b5 b6 b7 b8 b9 b10 b11 b12) → W (n + 1) a1 a2 a3 a4 a5 a6 a7 a8 a9 a10 a11 a12) (a1 : A1) (a2 : A2) (a3 : A3) (a4 : A4) (a5 : A5) (a6 : A6) (a7 : A7) (a8 : A8) (a9 : A9) (a10 : A10) (a11 : A11) (a12 : A12) (h : I a1 a2 a3 a4 a5 a6 a7 a8 a9 a10 a11 a12) : ∃ n, W n a1 a2 a3 a4 a5 a6 a7 a8 a9 a10 a11 a12 :=
  loop_m (σ := A1 × A2 × A3 × A4 × A5 × A6 × A7 × A8 × A9 × A10 × A11 × A12) (fun n s => W n s.1 s.2.1 s.2.2.1 s.2.2.2.1 s.2.2.2.2.1 s.2.2.2.2.2.1 s.2.2.2.2.2.2.1 s.2.2.2.2.2.2.2.1 s.2.2.2.2.2.2.2.2.1 s.2.2.2.2.2.2.2.2.2.1 s.2.2.2.2.2.2.2.2.2.2.1 s.2.2.2.2.2.2.2.2.2.2.2) (fun s => I s.1 s.2.1 s.2.2.1 s.2.2.2.1 s.2.2.2.2.1 s.2.2.2.2.2.1 s.2.2.2.2.2.2.1 s.2.2.2.2.2.2.2.1 s.2.2.2.2.2.2.2.2.1 s.2.2.2.2.2.2.2.2.2.1 s.2.2.2.2.2.2.2.2.2.2.1 s.2.2.2.2.2.2.2.2.2.2.2) (fun s => μ s.1 s.2.1 s.2.2.1 s.2.2.2.1 s.2.2.2.2.1 s.2.2.2.2.2.1 s.2.2.2.2.2.2.1 s.2.2.2.2.2.2.2.1 s.2.2.2.2.2.2.2.2.1 s.2.2.2.2.2.2.2.2.2.1 s.2.2.2.2.2.2.2.2.2.2.1 s.2.2.2.2.2.2.2.2.2.2.2) (fun n s hI hk => hs n s.1 s.2.1 s.2.2.1 s.2.2.2.1 s.2.2.2.2.1 s.2.2.2.2.2.1 s.2.2.2.2.2.2.1 s.2.2.2.2.2.2.2.1 s.2.2.2.2.2.2.2.2.1 s.2.2.2.2.2.2.2.2.2.1 s.2.2.2.2.2.2.2.2.2.2.1 s.2.2.2.2.2.2.2.2.2.2.2 hI (fun b1 b2 b3 b4 b5 b6 b7 b8 b9 b10 b11 b12 h9 hm => hk (b1, b2, b3, b4, b5, b6, b7, b8, b9, b10, b11, b12) h9 hm)) (a1, a2, a3, a4, a5, a6, a7, a8, a9, a10, a11, a12) h
theorem lp13 {A1 A2 A3 A4 A5 A6 A7 A8 A9 A10 A11 A12 A13 : Type} (W : Nat → A1 → A2 → A3 → A4 → A5 → A6 → A7 → A8 → A9 → A10 → A11 → A12 → A13 → Prop) (I : A1 → A2 → A3 → A4 → A5 → A6 → A7 → A8 → A9 → A10 → A11 → A12 → A13 → Prop) (μ : A1 → A2 → A3 → A4 → A5 → A6 → A7 → A8 → A9 → A10 → A11 → A12 → A13 → Nat) (hs : ∀ (n : Nat) (a1 : A1) (a2 : A2) (a3 : A3) (a4 : A4) (a5 : A5) (a6 : A6) (a7 : A7) (a8 : A8) (a9 : A9) (a10 : A10) (a11 : A11) (a12 : A12) (a13 : A13), I a1 a2 a3 a4 a5 a6 a7 a8 a9 a10 a11 a12 a13 → (∀ (b1 : A1) (b2 : A2) (b3 : A3) (b4 : A4) (b5 : A5) (b6 : A6) (b7 : A7) (b8 : A8) (b9 : A9) (b10 : A10) (b11 : A11) (b12 : A12) (b13 : A13), I b1 b2 b3 b4 b5 b6 b7 b8 b9 b10 b11 b12 b13 → μ b1 b2 b3 b4 b5 b6 b7 b8 b9 b10 b11 b12 b13 < μ a1 a2 a3 a4 a5 a6 a7 a8 a9 a10 a11 a12 a13 → W n b1 b2 b3 b4 b5 b6 b7 b8 b9 b10 b11 b12 b13) → W (n + 1) a1 a2 a3 a4 a5 a6 a7 a8 a9 a10 a11 a12 a13) (a1 : A1) (a2 : A2) (a3 : A3) (a4 : A4) (a5 : A5) (a6 : A6) (a7 : A7) (a8 : A8) (a9 : A9) (a10 : A10) (a11 : A11) (a12 : A12) (a13 : A13) (h : I a1 a2 a3 a4 a5 a6 a7 a8 a9 a10 a11 a12 a13) : ∃ n, W n a1 a2 a3 a4 a5 a6 a7 a8 a9 a10 a11 a12 a13 :=
  loop_m (σ := A1 × A2 × A3 × A4 × A5 × A6 × A7 × A8 × A9 × A10 × A11 × A12 × A13) (fun n s => W n s.1 s.2.1 s.2.2.1 s.2.2.2.1 s.2.2.2.2.1 s.2.2.2.2.2.1 s.2.2.2.2.2.2.1 s.2.2.2.2.2.2.2.1 s.2.2.2.2.2.2.2.2.1 s.2.2.2.2.2.2.2.2.2.1 s.2.2.2.2.2.2.2.2.2.2.1 s.2.2.2.2.2.2.2.2.2.2.2.1 s.2.2.2.2.2.2.2.2.2.2.2.2) (fun s => I s.1 s.2.1 s.2.2.1 s.2.2.2.1 s.2.2.2.2.1 s.2.2.2.2.2.1 s.2.2.2.2.2.2.1 s.2.2.2.2.2.2.2.1 s.2.2.2.2.2.2.2.2.1 s.2.2.2.2.2.2.2.2.2.1 s.2.2.2.2.2.2.2.2.2.2.1 s.2.2.2.2.2.2.2.2.2.2.2.1 s.2.2.2.2.2.2.2.2.2.2.2.2) (fun s => μ s.1 s.2.1 s.2.2.1 s.2.2.2.1 s.2.2.2.2.1 s.2.2.2.2.2.1 s.2.2.2.2.2.2.1 s.2.2.2.2.2.2.2.1 s.2.2.2.2.2.2.2.2.1 s.2.2.2.2.2.2.2.2.2.1 s.2.2.2.2.2.2.2.2.2.2.1 s.2.2.2.2.2.2.2.2.2.2.2.1 s.2.2.2.2.2.2.2.2.2.2.2.2) (fun n s hI hk => hs n s.1 s.2.1 s.2.2.1 s.2.2.2.1 s.2.2.2.2.1 s.2.2.2.2.2.1 s.2.2.2.2.2.2.1 s.2.2.2.2.2.2.2.1 s.2.2.2.2.2.2.2.2.1 s.2.2.2.2.2.2.2.2.2.1 s.2.2.2.2.2.2.2.2.2.2.1 s.2.2.2.2.2.2.2.2.2.2.2.1 s.2.2.2.2.2.2.2.2.2.2.2.2 hI (fun b1 b2 b3 b4 b5 b6 b7 b8 b9 b10 b11 b12 b13 h9 hm => hk (b1, b2, b3, b4, b5, b6, b7, b8, b9, b10, b11, b12, b13) h9 hm)) (a1, a2, a3, a4, a5, a6, a7, a8, a9, a10, a11, a12, a13) h
theorem lp14 {A1 A2 A3 A4 A5 A6 A7 A8 A9 A10 A11 A12 A13 A14 : Type} (W : Nat → A1 → A2 → A3 → A4 → A5 → A6 → A7 → A8 → A9 → A10 → A11 → A12 → A13 → A14 → Prop) (I : A1 → A2 → A3 → A4 → A5 → A6 → A7 → A8 → A9 → A10 → A11 → A12 → A13 → A14 → Prop) (μ : A1 → A2 → A3 → A4 → A5 → A6 → A7 → A8 → A9 → A10 → A11 → A12 → A13 → A14 → Nat) (hs : ∀ (n : Nat) (a1 : A1) (a2 : A2) (a3 : A3) (a4 : A4) (a5 : A5) (a6 : A6) (a7 : A7) (a8 : A8) (a9 : A9) (a10 : A10) (a11 : A11) (a12 : A12) (a13 : A13) (a14 : A14), I a1 a2 a3 a4 a5 a6 a7 a8 a9 a10 a11 a12 a13 a14 → (∀ (b1 : A1) (b2 : A2) (b3 : A3) (b4 : A4) (b5 : A5) (b6 : A6) (b7 : A7) (b8 : A8) (b9 : A9) (b10 : A10) (b11 : A11) (b12 : A12) (b13 : A13) (b14 : A14), I b1 b2 b3 b4 b5 b6 b7 b8 b9 b10 b11 b12 b13 b14 → μ b1 b2 b3 b4 b5 b6 b7 b8 b9 b10 b11 b12 b13 b14 < μ a1 a2 a3 a4 a5 a6 a7 a8 a9 a10 a11 a12 a13 a14 → W n b1 b2 b3 b4 b5 b6 b7 b8 b9 b10 b11 b12 b13 b14) → W (n + 1) a1 a2 a3 a4 a5 a6 a7 a8 a9 a10 a11 a12 a13 a14) (a1 : A1) (a2 : A2) (a3 : A3) (a4 : A4) (a5 : A5) (a6 : A6) (a7 : A7) (a8 : A8) (a9 : A9) (a10 : A10) (a11 : A11) (a12 : A12) (a13 : A13) (a14 : A14) (h : I a1 a2 a3 a4 a5 a6 a7 a8 a9 a10 a11 a12 a13 a14) : ∃ n, W n a1 a2 a3 a4 a5 a6 a7 a8 a9 a10 a11 a12 a13 a14 :=
  loop_m (σ := A1 × A2 × A3 × A4 × A5 × A6 × A7 × A8 × A9 × A10 × A11 × A12 × A13 × A14) (fun n s => W n s.1 s.2.1 s.2.2.1 s.2.2.2.1 s.2.2.2.2.1 s.2.2.2.2.2.1 s.2.2.2.2.2.2.1 s.2.2.2.2.2.2.2.1 s.2.2.2.2.2.2.2.2.1 s.2.2.2.2.2.2.2.2.2.1 s.2.2.2.2.2.2.2.2.2.2.1 s.2.2.2.2.2.2.2.2.2.2.2.1 s.2.2.2.2.2.2.2.2.2.2.2.2.1 s.2.2.2.2.2.2.2.2.2.2.2.2.2) (fun s => I s.1 s.2.1 s.2.2.1 s.2.2.2.1 s.2.2.2.2.1 s.2.2.2.2.2.1 s.2.2.2.2.2.2.1 s.2.2.2.2.2.2.2.1 s.2.2.2.2.2.2.2.2.1 s.2.2.2.2.2.2.2.2.2.1 s.2.2.2.2.2.2.2.2.2.2.1 s.2.2.2.2.2.2.2.2.2.2.2.1 s.2.2.2.2.2.2.2.2.2.2.2.2.1 s.2.2.2.2.2.2.2.2.2.2.2.2.2) (fun s => μ s.1 s.2.1 s.2.2.1 s.2.2.2.1 s.2.2.2.2.1 s.2.2.2.2.2.1 s.2.2.2.2.2.2.1 s.2.2.2.2.2.2.2.1 s.2.2.2.2.2.2.2.2.1 s.2.2.2.2.2.2.2.2.2.1 s.2.2.2.2.2.2.2.2.2.2.1 s.2.2.2.2.2.2.2.2.2.2.2.1 s.2.2.2.2.2.2.2.2.2.2.2.2.1 s.2.2.2.2.2.2.2.2.2.2.2.2.2) (fun n s hI hk => hs n s.1 s.2.1 s.2.2.1 s.2.2.2.1 s.2.2.2.2.1 s.2.2.2.2.2.1 s.2.2.2.2.2.2.1 s.2.2.2.2.2.2.2.1 s.2.2.2.2.2.2.2.2.1 s.2.2.2.2.2.2.2.2.2.1 s.2.2.2.2.2.2.2.2.2.2.1 s.2.2.2.2.2.2.2.2.2.2.2.1 s.2.2.2.2.2.2.2.2.2.2.2.2.1 s.2.2.2.2.2.2.2.2.2.2.2.2.2 hI (fun b1 b2 b3 b4 b5 b6 b7 b8 b9 b10 b11 b12 b13 b14 h9 hm => hk (b1, b2, b3, b4, b5, b6, b7, b8, b9, b10, b11, b12, b13, b14) h9 hm)) (a1, a2, a3, a4, a5, a6, a7, a8, a9, a10, a11, a12, a13, a14) h
theorem lp15 {A1 A2 A3 A4 A5 A6 A7 A8 A9 A10 A11 A12 A13 A14 A15 : Type} (W : Nat → A1 → A2 → A3 → A4 → A5 → A6 → A7 → A8 → A9 → A10 → A11 → A12 → A13 → A14 → A15 → Prop) (I : A1 → A2 → A3 → A4 → A5 → A6 → A7 → A8 → A9 → A10 → A11 → A12 → A13 → A14 → A15 → Prop) (μ : A1 → A2 → A3 → A4 → A5 → A6 → A7 → A8 → A9 → A10 → A11 → A12 → A13 → A14 → A15 → Nat) (hs : ∀ (n : Nat) (a1 : A1) (a2 : A2) (a3 : A3) (a4 : A4) (a5 : A5) (a6 : A6) (a7 : A7) (a8 : A8) (a9 : A9) (a10 : A10) (a11 : A11) (a12 : A12) (a13 : A13) (a14 : A14) (a15 : A15), I a1 a2 a3 a4 a5 a6 a7 a8 a9 a10 a11 a12 a13 a14 a15 → (∀ (b1 : A1) (b2 : A2) (b3 : A3) (b4 : A4) (b5 : A5) (b6 : A6) (b7 : A7) (b8 : A8) (b9 : A9) (b10 : A10) (b11 : A11) (b12 : A12) (b13 : A13) (b14 : A14) (b15 : A15), I b1 b2 b3 b4 b5 b6 b7 b8 b9 b10 b11 b12 b13 b14 b15 → μ b1 b2 b3 b4 b5 b6 b7 b8 b9 b10 b11 b12 b13 b14 b15 < μ a1 a2 a3 a4 a5 a6 a7 a8 a9 a10 a11 a12 a13 a14 a15 → W n b1 b2 b3 b4 b5 b6 b7 b8 b9 b10 b11 b12 b13 b14 b15) → W (n + 1) a1 a2 a3 a4 a5 a6 a7 a8 a9 a10 a11 a12 a13 a14 a15) (a1 : A1) (a2 : A2) (a3 : A3) (a4 : A4) (a5 : A5) (a6 : A6) (a7 : A7) (a8 : A8) (a9 : A9) (a10 : A10) (a11 : A11) (a12 : A12) (a13 : A13) (a14 : A14) (a15 : A15) (h : I a1 a2 a3 a4 a5 a6 a7 a8 a9 a10 a11 a12 a13 a14 a15) : ∃ n, W n a1 a2 a3 a4 a5 a6 a7 a8 a9 a10 a11 a12 a13 a14 a15 :=
  loop_m (σ := A1 × A2 × A3 × A4 × A5 × A6 × A7 × A8 × A9 × A10 × A11 × A12 × A13 × A14 × A15) (fun n s => W n s.1 s.2.1 s.2.2.1 s.2.2.2.1 s.2.2.2.2.1 s.2.2.2.2.2.1 s.2.2.2.2.2.2.1 s.2.2.2.2.2.2.2.1 s.2.2.2.2.2.2.2.2.1 s.2.2.2.2.2.2.2.2.2.1 s.2.2.2.2.2.2.2.2.2.2.1 s.2.2.2.2.2.2.2.2.2.2.2.1 s.2.2.2.2.2.2.2.2.2.2.2.2.1 s.2.2.2.2.2.2.2.2.2.2.2.2.2.1 s.2.2.2.2.2.2.2.2.2.2.2.2.2.2) (fun s => I s.1 s.2.1 s.2.2.1 s.2.2.2.1 s.2.2.2.2.1 s.2.2.2.2.2.1 s.2.2.2.2.2.2.1 s.2.2.2.2.2.2.2.1 s.2.2.2.2.2.2.2.2.1 s.2.2.2.2.2.2.2.2.2.1 s.2.2.2.2.2.2.2.2.2.2.1 s.2.2.2.2.2.2.2.2.2.2.2.1 s.2.2.2.2.2.2.2.2.2.2.2.2.1 s.2.2.2.2.2.2.2.2.2.2.2.2.2.1 s.2.2.2.2.2.2.2.2.2.2.2.2.2.2) (fun s => μ s.1 s.2.1 s.2.2.1 s.2.2.2.1 s.2.2.2.2.1 s.2.2.2.2.2.1 s.2.2.2.2.2.2.1 s.2.2.2.2.2.2.2.1 s.2.2.2.2.2.2.2.2.1 s.2.2.2.2.2.2.2.2.2.1 s.2.2.2.2.2.2.2.2.2.2.1 s.2.2.2.2.2.2.2.2.2.2.2.1 s.2.2.2.2.2.2.2.2.2.2.2.2.1 s.2.2.2.2.2.2.2.2.2.2.2.2.2.1 s.2.2.2.2.2.2.2.2.2.2.2.2.2.2) (fun n s hI hk => hs n s.1 s.2.1 s.2.2.1 s.2.2.2.1 s.2.2.2.2.1 s.2.2.2.2.2.1 s.2.2.2.2.2.2.1 s.2.2.2.2.2.2.2.1 s.2.2.2.2.2.2.2.2.1 s.2.2.2.2.2.2.2.2.2.1 s.2.2.2.2.2.2.2.2.2.2.1 s.2.2.2.2.2.2.2.2.2.2.2.1 s.2.2.2.2.2.2.2.2.2.2.2.2.1 s.2.2.2.2.2.2.2.2.2.2.2.2.2.1 s.2.2.2.2.2.2.2.2.2.2.2.2.2.2 hI (fun b1 b2 b3 b4 b5 b6 b7 b8 b9 b10 b11 b12 b13 b14 b15 h9 hm => hk (b1, b2, b3, b4, b5, b6, b7, b8, b9, b10, b11, b12, b13, b14, b15) h9 hm)) (a1, a2, a3, a4, a5, a6, a7, a8, a9, a10, a11, a12, a13, a14, a15) h
theorem lp16 {A1 A2 A3 A4 A5 A6 A7 A8 A9 A10 A11 A12 A13 A14 A15 A16 : Type} (W : Nat → A1 → A2 → A3 → A4 → A5 → A6 → A7 → A8 → A9 → A10 → A11 → A12 → A13 → A14 → A15 → A16 → Prop) (I : A1 → A2 → A3 → A4 → A5 → A6 → A7 → A8 → A9 → A10 → A11 → A12 → A13 → A14 → A15 → A16 → Prop) (μ : A1 → A2 → A3 → A4 → A5 → A6 → A7 → A8 → A9 → A10 → A11 → A12 → A13 → A14 → A15 → A16 → Nat) (hs : ∀ (n : Nat) (a1 : A1) (a2 : A2) (a3 : A3) (a4 : A4) (a5 : A5) (a6 : A6) (a7 : A7) (a8 : A8) (a9 : A9) (a10 : A10) (a11 : A11) (a12 : A12) (a13 : A13) (a14 : A14) (a15 : A15) (a16 : A16), I a1 a2 a3 a4 a5 a6 a7 a8 a9 a10 a11 a12 a13 a14 a15 a16 → (∀ (b1 : A1) (b2 : A2) (b3 : A3) (b4 : A4) (b5 : A5) (b6 : A6) (b7 : A7) (b8 : A8) (b9 : A9) (b10 : A10) (b11 : A11) (b12 : A12) (b13 : A13) (b14 : A14) (b15 : A15) (b16 : A16), I b1 b2 b3 b4 b5 b6 b7 b8 b9 b10 b11 b12 b13 b14 b15 b16 → μ b1 b2 b3 b4 b5 b6 b7 b8 b9 b10 b11 b12 b13 b14 b15 b16 < μ a1 a2 a3 a4 a5 a6 a7 a8 a9 a10 a11 a12 a13 a14 a15 a16 → W n b1 b2 b3 b4 b5 b6 b7 b8 b9 b10 b11 b12 b13 b14 b15 b16) → W (n + 1) a1 a2 a3 a4 a5 a6 a7 a8 a9 a10 a11 a12 a13 a14 a15 a16) (a1 : A1) (a2 : A2) (a3 : A3) (a4 : A4) (a5 : A5) (a6 : A6) (a7 : A7) (a8 : A8) (a9 : A9) (a10 : A10) (a11 : A11) (a12 : A12) (a13 : A13) (a14 : A14) (a15 : A15) (a16 : A16) (h : I a1 a2 a3 a4 a5 a6 a7 a8 a9 a10 a11 a12 a13 a14 a15 a16) : ∃ n, W n a1 a2 a3 a4 a5 a6 a7 a8 a9 a10 a11 a12 a13 a14 a15 a16 :=
  loop_m (σ := A1 × A2 × A3 × A4 × A5 × A6 × A7 × A8 × A9 × A10 × A11 × A12 × A13 × A14 × A15 × A16) (fun n s => W n s.1 s.2.1 s.2.2.1 s.2.2.2.1 s.2.2.2.2.1 s.2.2.2.2.2.1 s.2.2.2.2.2.2.1 s.2.2.2.2.2.2.2.1 s.2.2.2.2.2.2.2.2.1 s.2.2.2.2.2.2.2.2.2.1 s.2.2.2.2.2.2.2.2.2.2.1 s.2.2.2.2.2.2.2.2.2.2.2.1 s.2.2.2.2.2.2.2.2.2.2.2.2.1 s.2.2.2.2.2.2.2.2.2.2.2.2.2.1 s.2.2.2.2.2.2.2.2.2.2.2.2.2.2.1 s.2.2.2.2.2.2.2.2.2.2.2.2.2.2.2) (fun s => I s.1 s.2.1 s.2.2.1 s.2.2.2.1 s.2.2.2.2.1 s.2.2.2.2.2.1 s.2.2.2.2.2.2.1 s.2.2.2.2.2.2.2.1 s.2.2.2.2.2.2.2.2.1 s.2.2.2.2.2.2.2.2.2.1 s.2.2.2.2.2.2.2.2.2.2.1 s.2.2.2.2.2.2.2.2.2.2.2.1 s.2.2.2.2.2.2.2.2.2.2.2.2.1 s.2.2.2.2.2.2.2.2.2.2.2.2.2.1 s.2.2.2.2.2.2.2.2.2.2.2.2.2.2.1 s.2.2.2.2.2.2.2.2.2.2.2.2.2.2.2) (fun s => μ s.1 s.2.1 s.2.2.1 s.2.2.2.1 s.2.2.2.2.1 s.2.2.2.2.2.1 s.2.2.2.2.2.2.1 s.2.2.2.2.2.2.2.1 s.2.2.2.2.2.2.2.2.1 s.2.2.2.2.2.2.2.2.2.1 s.2.2.2.2.2.2.2.2.2.2.1 s.2.2.2.2.2.2.2.2.2.2.2.1 s.2.2.2.2.2.2.2.2.2.2.2.2.1 s.2.2.2.2.2.2.2.2.2.2.2.2.2.1 s.2.2.2.2.2.2.2.2.2.2.2.2.2.2.1 s.2.2.2.2.2.2.2.2.2.2.2.2.2.2.2) (fun n s hI hk => hs n s.1 s.2.1 s.2.2.1 s.2.2.2.1 s.2.2.2.2.1 s.2.2.2.2.2.1 s.2.2.2.2.2.2.1 s.2.2.2.2.2.2.2.1 s.2.2.2.2.2.2.2.2.1 s.2.2.2.2.2.2.2.2.2.1 s.2.2.2.2.2.2.2.2.2.2.1 s.2.2.2.2.2.2.2.2.2.2.2.1 s.2.2.2.2.2.2.2.2.2.2.2.2.1 s.2.2.2.2.2.2.2.2.2.2.2.2.2.1 s.2.2.2.2.2.2.2.2.2.2.2.2.2.2.1 s.2.2.2.2.2.2.2.2.2.2.2.2.2.2.2 hI (fun b1 b2 b3 b4 b5 b6 b7 b8 b9 b10 b11 b12 b13 b14 b15 b16 h9 hm => hk (b1, b2, b3, b4, b5, b6, b7, b8, b9, b10, b11, b12, b13, b14, b15, b16) h9 hm)) (a1, a2, a3, a4, a5, a6, a7, a8, a9, a10, a11, a12, a13, a14, a15, a16) h
theorem pk_least (P : Nat → Prop) (h : ∃ k, P k) : ∃ k, P k ∧ ∀ j, j < k → ¬ P j := by
  obtain ⟨k, hk⟩ := h
  induction k using Nat.strongRecOn with
  | ind k ih =>
    by_cases e : ∃ j, j < k ∧ P j
    · obtain ⟨j, hj, pj⟩ := e
      exact ih j hj pj
    · exact ⟨k, hk, fun j hj pj => e ⟨j, hj, pj⟩⟩
theorem rp1 {ρ A1 : Type} (W : Nat → (ρ → Prop) → A1 → Prop) (ok : A1 → Prop) (μ : A1 → Nat) (val : A1 → ρ)
    (hs : ∀ (d : Nat) (post : ρ → Prop) (a1 : A1), ok a1 → post (val a1) → (∀ (post' : ρ → Prop) (b1 : A1), ok b1 → μ b1 < μ a1 → post' (val b1) → W d post' b1) → W (d + 1) post a1) :
    ∀ (d : Nat) (post : ρ → Prop) (a1 : A1), ok a1 → μ a1 < d → post (val a1) → W d post a1 := by
  intro d
  induction d with
  | zero => intro post a1 _ h; omega
  | succ d ih =>
    intro post a1 ho hm hp
    exact hs d post a1 ho hp (fun post' b1 ho' hm' hp' => ih post' b1 ho' (by omega) hp')
theorem rp2 {ρ A1 A2 : Type} (W : Nat → (ρ → Prop) → A1 → A2 → Prop) (ok : A1 → A2 → Prop) (μ : A1 → A2 → Nat) (val : A1 → A2 → ρ)
    (hs : ∀ (d : Nat) (post : ρ → Prop) (a1 : A1) (a2 : A2), ok a1 a2 → post (val a1 a2) → (∀ (post' : ρ → Prop) (b1 : A1) (b2 : A2), ok b1 b2 → μ b1 b2 < μ a1 a2 → post' (val b1 b2) → W d post' b1 b2) → W (d + 1) post a1 a2) :
    ∀ (d : Nat) (post : ρ → Prop) (a1 : A1) (a2 : A2), ok a1 a2 → μ a1 a2 < d → post (val a1 a2) → W d post a1 a2 := by
  intro d
  induction d with
  | zero => intro post a1 a2 _ h; omega
  | succ d ih =>
    intro post a1 a2 ho hm hp
    exact hs d post a1 a2 ho hp (fun post' b1 b2 ho' hm' hp' => ih post' b1 b2 ho' (by omega) hp')
theorem rp3 {ρ A1 A2 A3 : Type} (W : Nat → (ρ → Prop) → A1 → A2 → A3 → Prop) (ok : A1 → A2 → A3 → Prop) (μ : A1 → A2 → A3 → Nat) (val : A1 → A2 → A3 → ρ)
    (hs : ∀ (d : Nat) (post : ρ → Prop) (a1 : A1) (a2 : A2) (a3 : A3), ok a1 a2 a3 → post (val a1 a2 a3) → (∀ (post' : ρ → Prop) (b1 : A1) (b2 : A2) (b3 : A3), ok b1 b2 b3 → μ b1 b2 b3 < μ a1 a2 a3 → post' (val b1 b2 b3) → W d post' b1 b2 b3) → W (d + 1) post a1 a2 a3) :
    ∀ (d : Nat) (post : ρ → Prop) (a1 : A1) (a2 : A2) (a3 : A3), ok a1 a2 a3 → μ a1 a2 a3 < d → post (val a1 a2 a3) → W d post a1 a2 a3 := by
  intro d
  induction d with
  | zero => intro post a1 a2 a3 _ h; omega
  | succ d ih =>
    intro post a1 a2 a3 ho hm hp
    exact hs d post a1 a2 a3 ho hp (fun post' b1 b2 b3 ho' hm' hp' => ih post' b1 b2 b3 ho' (by omega) hp')
theorem rp4 {ρ A1 A2 A3 A4 : Type} (W : Nat → (ρ → Prop) → A1 → A2 → A3 → A4 → Prop) (ok : A1 → A2 → A3 → A4 → Prop) (μ : A1 → A2 → A3 → A4 → Nat) (val : A1 → A2 → A3 → A4 → ρ)
    (hs : ∀ (d : Nat) (post : ρ → Prop) (a1 : A1) (a2 : A2) (a3 : A3) (a4 : A4), ok a1 a2 a3 a4 → post (val a1 a2 a3 a4) → (∀ (post' : ρ → Prop) (b1 : A1) (b2 : A2) (b3 : A3) (b4 : A4), ok b1 b2 b3 b4 → μ b1 b2 b3 b4 < μ a1 a2 a3 a4 → post' (val b1 b2 b3 b4) → W d post' b1 b2 b3 b4) → W (d + 1) post a1 a2 a3 a4) :
    ∀ (d : Nat) (post : ρ → Prop) (a1 : A1) (a2 : A2) (a3 : A3) (a4 : A4), ok a1 a2 a3 a4 → μ a1 a2 a3 a4 < d → post (val a1 a2 a3 a4) → W d post a1 a2 a3 a4 := by
  intro d
  induction d with
  | zero => intro post a1 a2 a3 a4 _ h; omega
  | succ d ih =>
    intro post a1 a2 a3 a4 ho hm hp
    exact hs d post a1 a2 a3 a4 ho hp (fun post' b1 b2 b3 b4 ho' hm' hp' => ih post' b1 b2 b3 b4 ho' (by omega) hp')
theorem rp5 {ρ A1 A2 A3 A4 A5 : Type} (W : Nat → (ρ → Prop) → A1 → A2 → A3 → A4 → A5 → Prop) (ok : A1 → A2 → A3 → A4 → A5 → Prop) (μ : A1 → A2 → A3 → A4 → A5 → Nat) (val : A1 → A2 → A3 → A4 → A5 → ρ)
    (hs : ∀ (d : Nat) (post : ρ → Prop) (a1 : A1) (a2 : A2) (a3 : A3) (a4 : A4) (a5 : A5), ok a1 a2 a3 a4 a5 → post (val a1 a2 a3 a4 a5) → (∀ (post' : ρ → Prop) (b1 : A1) (b2 : A2) (b3 : A3) (b4 : A4) (b5 : A5), ok b1 b2 b3 b4 b5 → μ b1 b2 b3 b4 b5 < μ a1 a2 a3 a4 a5 → post' (val b1 b2 b3 b4 b5) → W d post' b1 b2 b3 b4 b5) → W (d + 1) post a1 a2 a3 a4 a5) :
    ∀ (d : Nat) (post : ρ → Prop) (a1 : A1) (a2 : A2) (a3 : A3) (a4 : A4) (a5 : A5), ok a1 a2 a3 a4 a5 → μ a1 a2 a3 a4 a5 < d → post (val a1 a2 a3 a4 a5) → W d post a1 a2 a3 a4 a5 := by
  intro d
  induction d with
  | zero => intro post a1 a2 a3 a4 a5 _ h; omega
  | succ d ih =>
    intro post a1 a2 a3 a4 a5 ho hm hp
    exact hs d post a1 a2 a3 a4 a5 ho hp (fun post' b1 b2 b3 b4 b5 ho' hm' hp' => ih post' b1 b2 b3 b4 b5 ho' (by omega) hp')
theorem rp6 {ρ A1 A2 A3 A4 A5 A6 : Type} (W : Nat → (ρ → Prop) → A1 → A2 → A3 → A4 → A5 → A6 → Prop) (ok : A1 → A2 → A3 → A4 → A5 → A6 → Prop) (μ : A1 → A2 → A3 → A4 → A5 → A6 → Nat) (val : A1 → A2 → A3 → A4 → A5 → A6 → ρ)
    (hs : ∀ (d : Nat) (post : ρ → Prop) (a1 : A1) (a2 : A2) (a3 : A3) (a4 : A4) (a5 : A5) (a6 : A6), ok a1 a2 a3 a4 a5 a6 → post (val a1 a2 a3 a4 a5 a6) → (∀ (post' : ρ → Prop) (b1 : A1) (b2 : A2) (b3 : A3) (b4 : A4) (b5 : A5) (b6 : A6), ok b1 b2 b3 b4 b5 b6 → μ b1 b2 b3 b4 b5 b6 < μ a1 a2 a3 a4 a5 a6 → post' (val b1 b2 b3 b4 b5 b6) → W d post' b1 b2 b3 b4 b5 b6) → W (d + 1) post a1 a2 a3 a4 a5 a6) :
    ∀ (d : Nat) (post : ρ → Prop) (a1 : A1) (a2 : A2) (a3 : A3) (a4 : A4) (a5 : A5) (a6 : A6), ok a1 a2 a3 a4 a5 a6 → μ a1 a2 a3 a4 a5 a6 < d → post (val a1 a2 a3 a4 a5 a6) → W d post a1 a2 a3 a4 a5 a6 := by
  intro d
  induction d with
  | zero => intro post a1 a2 a3 a4 a5 a6 _ h; omega
  | succ d ih =>
    intro post a1 a2 a3 a4 a5 a6 ho hm hp
    exact hs d post a1 a2 a3 a4 a5 a6 ho hp (fun post' b1 b2 b3 b4 b5 b6 ho' hm' hp' => ih post' b1 b2 b3 b4 b5 b6 ho' (by omega) hp')
theorem rec_p {σ ρ : Type} (W : Nat → (ρ → Prop) → σ → Prop) (ok : σ → Prop) (μ : σ → Nat) (val : σ → ρ)
    (hs : ∀ d s post, ok s → post (val s) → (∀ s' post', ok s' → μ s' < μ s → post' (val s') → W d post' s') → W (d + 1) post s) :
    ∀ d s post, ok s → μ s < d → post (val s) → W d post s := by
  intro d
  induction d with
  | zero => intro s post _ h; omega
  | succ d ih =>
    intro s post ho hm hp
    exact hs d s post ho hp (fun s' post' ho' hm' hp' => ih s' post' ho' (by omega) hp')
theorem rec_q {σ ρ : Type} (W : Nat → (ρ → Prop) → σ → Prop) (ok : σ → Prop) (μ : σ → Nat) (Q : σ → ρ → Prop)
    (hs : ∀ d s post, ok s → (∀ r, Q s r → post r) → (∀ s' post', ok s' → μ s' < μ s → (∀ r, Q s' r → post' r) → W d post' s') → W (d + 1) post s) :
    ∀ d s post, ok s → μ s < d → (∀ r, Q s r → post r) → W d post s := by
  intro d
  induction d with
  | zero => intro s post _ h; omega
  | succ d ih =>
    intro s post ho hm hp
    exact hs d s post ho hp (fun s' post' ho' hm' hp' => ih s' post' ho' (by omega) hp')
def bx_sum (f : Nat → Int32) : Nat → Int32
  | 0 => 0
  | n + 1 => bx_sum f n + f n
theorem ek_u {A : Prop} {B : Nat → Prop} {k N : Nat} (hk : k < N) (h : B k) : (some k = none → A) ∧ (∀ y : Nat, some k = some y → (y < N ∧ B y)) :=
  ⟨fun z => absurd z (Option.some_ne_none k), fun _ e => (by cases e; exact ⟨hk, h⟩)⟩
theorem ek_nu {A : Prop} {B : Nat → Prop} (h : A) : ((none : Option Nat) = none → A) ∧ (∀ y : Nat, (none : Option Nat) = some y → B y) :=
  ⟨fun _ => h, fun _ e => (by cases e)⟩
theorem ek_if {c d A B : Prop} (e : c ↔ d) (f : d → A) (g : ¬ d → B) : (c → A) ∧ (¬ c → B) :=
  ⟨fun z => f (e.mp z), fun z => g (fun y => z (e.mpr y))⟩
theorem ek_v {α : Sort _} {P : α → Prop} {a b : α} (e : a = b) (h : P b) : P a := e ▸ h
theorem co_some {x : Option Nat} {A : Prop} {B : Nat → Prop} (i : Nat) (h : B i) (hx : x = some i := by rfl) : (x = none → A) ∧ (∀ y : Nat, x = some y → B y) := by
  subst hx
  exact ⟨fun e => (nomatch e), fun y e => Option.some.inj e ▸ h⟩
theorem co_none {x : Option Nat} {A : Prop} {B : Nat → Prop} (h : A) (hx : x = none := by rfl) : (x = none → A) ∧ (∀ y : Nat, x = some y → B y) := by
  subst hx
  exact ⟨fun _ => h, fun y e => (nomatch e)⟩
theorem co_any {x : Option Nat} {A : Prop} {B : Nat → Prop} (hn : x = none → A) (hs : ∀ i : Nat, x = some i → B i) : (x = none → A) ∧ (∀ y : Nat, x = some y → B y) := ⟨hn, hs⟩
theorem co_2 {P : Nat → Prop} (h0 : P 0) (h1 : P 1) {i : Nat} (hi : i < 2) : P i :=
  match i, hi with
  | 0, _ => h0
  | 1, _ => h1
theorem co_3 {P : Nat → Prop} (h0 : P 0) (h1 : P 1) (h2 : P 2) {i : Nat} (hi : i < 3) : P i :=
  match i, hi with
  | 0, _ => h0
  | 1, _ => h1
  | 2, _ => h2
theorem co_4 {P : Nat → Prop} (h0 : P 0) (h1 : P 1) (h2 : P 2) (h3 : P 3) {i : Nat} (hi : i < 4) : P i :=
  match i, hi with
  | 0, _ => h0
  | 1, _ => h1
  | 2, _ => h2
  | 3, _ => h3
theorem co_dec {N : Nat} {P : Nat → Prop} [DecidablePred P] (h : (List.range N).all (fun i => decide (P i)) = true) {i : Nat} (hi : i < N) : P i := by
  have := List.all_eq_true.mp h i (List.mem_range.mpr hi)
  exact of_decide_eq_true this
theorem co_tab {α : Type} {l : List α} {d : α} {P : α → Prop} (h : ∀ a, a ∈ l → P a) {i : Nat} (hi : i < l.length) : P (l.getD i d) := by
  rw [List.getD_eq_getElem?_getD, List.getElem?_eq_getElem hi]
  exact h _ (List.getElem_mem hi)
theorem pk_mu {x : Int32} {L : Nat} (h0 : ¬ x < 0) (h : ¬ nI L ≤ x) (hL : L < 2 ^ 31) : ∃ j : Nat, j < L ∧ x = nI j ∧ x + 1 = nI (j + 1) ∧ x.toNatClampNeg = j ∧ L - (x + 1).toNatClampNeg < L - x.toNatClampNeg := by
  obtain ⟨j, hj, rfl⟩ := nI_of h0
  have hl : j < L := Nat.not_le.mp fun q => h (nI_le q hj)
  refine ⟨j, hl, rfl, nI_1 j, nI_clamp hj, ?_⟩
  rw [nI_1, nI_clamp (by omega), nI_clamp hj]
  omega
theorem op_s {α : Type} {r : Option α} {A : Prop} {B : α → Prop} {y : α} (h : r = some y) (b : B y) : (r = none → A) ∧ ∀ z, r = some z → B z :=
  ⟨fun e => (by rw [h] at e; cases e), fun z e => (by rw [h] at e; cases e; exact b)⟩
def l_holds {α : Type} (a : Nat → Option Nat) (LP : List Nat) (p : Nat → α) (c : Nat) (b : Nat → α) : Prop :=
  ∀ j, j < c → ∃ y, a j = some y ∧ y ∈ LP ∧ p y = b j
theorem l_holds_0 {α : Type} {a : Nat → Option Nat} {LP : List Nat} {p b : Nat → α} : l_holds a LP p 0 b := fun j h => absurd h (Nat.not_lt_zero j)
theorem l_in_new (LP : List Nat) (q : Nat) : q ∈ LP ++ [q] := List.mem_append.mpr (Or.inr (List.mem_singleton.mpr rfl))
def l_sum (b : Nat → Int32) : Nat → Int32
  | 0 => 0
  | k + 1 => l_sum b k + b k
theorem sb_shr0 (x : Int32) : x >>> ((0 : Int32) &&& 31) = x := by
  rw [show ((0 : Int32) &&& 31) = 0 by decide]
  simp
theorem sb_shl0 (x : Int32) : x <<< ((0 : Int32) &&& 31) = x := by
  rw [show ((0 : Int32) &&& 31) = 0 by decide]
  simp
theorem sb_cl0 : (0 : Int32).toNatClampNeg = 0 := by decide
theorem sb_m1 {p : Nat} (h : 0 < p) : nI p + (-1) = nI (p - 1) := by
  obtain ⟨q, rfl⟩ : ∃ q, p = q + 1 := ⟨p - 1, by omega⟩
  exact pk_m1 q
def sb_b (c : Nat) : Int32 := (nI c).toInt8.toInt32
theorem sb_byte : ∀ c, c < 256 → sb_b c &&& 255 = nI c ∧ ((nI c).toUInt32 % 65536).toInt32 = nI c ∧ nI c ≤ 255 := by decide +kernel
def sb_Fit (a : Nat → Int32) : Prop := ∀ j, fits .byte (.int (a j)) = true
def sb_Lat (t : Nat → Nat) (n : Nat) (a : Nat → Int32) : Prop := ∀ j, j < n → t j < 256 ∧ a j = sb_b (t j)
theorem sb_fitB (c : Nat) : fits .byte (.int (sb_b c)) = true := pk_fb _
theorem sb_fit0 : sb_Fit (fun _ => 0) := fun _ => by
  show fits .byte (.int 0) = true
  decide
theorem sb_fitU {a : Nat → Int32} {k : Nat} {x : Int32} (h : sb_Fit a) (hx : fits .byte (.int x) = true) : sb_Fit (upd a k x) := by
  intro j
  by_cases e : j = k
  · subst e
    rw [pk_us]
    exact hx
  · rw [pk_un e]
    exact h j
def sb_cat (t : Nat → Nat) (n : Nat) (s : Nat → Nat) : Nat → Nat := fun j => if j < n then t j else s (j - n)
theorem sb_cat_lo {t s : Nat → Nat} {n j : Nat} (h : j < n) : sb_cat t n s j = t j := if_pos h
theorem sb_cat_hi {t s : Nat → Nat} {n j : Nat} : sb_cat t n s (n + j) = s j := by
  show (if n + j < n then t (n + j) else s (n + j - n)) = s j
  rw [if_neg (by omega), Nat.add_sub_cancel_left]
theorem sb_latPut {t s : Nat → Nat} {n w : Nat} {a a' : Nat → Int32} (h : sb_Lat t n a) (hk : ∀ j, j < n → a' j = a j) (hs : ∀ i, i < w → s i < 256 ∧ a' (n + i) = sb_b (s i)) : sb_Lat (sb_cat t n s) (n + w) a' := by
  intro j hj
  by_cases e : j < n
  · rw [sb_cat_lo e, hk j e]
    exact h j e
  · obtain ⟨i, rfl⟩ : ∃ i, j = n + i := ⟨j - n, by omega⟩
    rw [sb_cat_hi]
    exact hs i (by omega)
theorem sb_latKeep {t : Nat → Nat} {n : Nat} {a a' : Nat → Int32} (h : sb_Lat t n a) (hk : ∀ j, j < n → a' j = a j) : sb_Lat t n a' := fun j hj => by
  rw [hk j hj]
  exact h j hj
def sb_cap (q m : Nat) : Nat := if q ≤ m then m else if 2 * m + 2 < q then q else 2 * m + 2
def sb_Room (q m mc ms : Nat) : Prop := q ≤ m ∨ (1 ≤ mc ∧ sb_cap q m ≤ ms ∧ sb_cap q m ≤ 65536)
theorem sb_cap_ge (q m : Nat) : q ≤ sb_cap q m := by
  unfold sb_cap
  split
  · omega
  · split <;> omega
theorem sb_cap_gem (q m : Nat) : m ≤ sb_cap q m := by
  unfold sb_cap
  split
  · omega
  · split <;> omega
theorem sb_cap_le {q m mc ms : Nat} (hm : m ≤ 65536) (hr : sb_Room q m mc ms) : sb_cap q m ≤ 65536 := by
  rcases hr with h | h
  · rw [sb_cap, if_pos h]
    exact hm
  · exact h.2.2
theorem sb_at {P : Int32 → Prop} {x y : Int32} (e : x = y) (h : P y) : P x := e ▸ h
def sb_dg (w : Nat) : Nat := if w < 10 then 1 else if w < 100 then 2 else if w < 1000 then 3 else if w < 10000 then 4 else if w < 100000 then 5 else if w < 1000000 then 6 else if w < 10000000 then 7 else if w < 100000000 then 8 else if w < 1000000000 then 9 else 10
def sb_dec (v : Nat) : Nat → Nat := fun i => 48 + v / 10 ^ (sb_dg v - 1 - i) % 10
theorem sb_dg_in (w : Nat) : 1 ≤ sb_dg w ∧ sb_dg w ≤ 10 := by
  unfold sb_dg
  constructor <;> (repeat' split) <;> omega
theorem sb_dg100 {w : Nat} (h : 100 ≤ w) (hw : w < 2 ^ 31) : sb_dg w = sb_dg (w / 100) + 2 := by
  rw [sb_dg, sb_dg, if_neg (show ¬ w < 10 by omega), if_neg (show ¬ w < 100 by omega)]
  by_cases h3 : w < 1000
  · rw [if_pos h3, if_pos (show w / 100 < 10 by omega)]
  rw [if_neg h3, if_neg (show ¬ w / 100 < 10 by omega)]
  by_cases h4 : w < 10000
  · rw [if_pos h4, if_pos (show w / 100 < 100 by omega)]
  rw [if_neg h4, if_neg (show ¬ w / 100 < 100 by omega)]
  by_cases h5 : w < 100000
  · rw [if_pos h5, if_pos (show w / 100 < 1000 by omega)]
  rw [if_neg h5, if_neg (show ¬ w / 100 < 1000 by omega)]
  by_cases h6 : w < 1000000
  · rw [if_pos h6, if_pos (show w / 100 < 10000 by omega)]
  rw [if_neg h6, if_neg (show ¬ w / 100 < 10000 by omega)]
  by_cases h7 : w < 10000000
  · rw [if_pos h7, if_pos (show w / 100 < 100000 by omega)]
  rw [if_neg h7, if_neg (show ¬ w / 100 < 100000 by omega)]
  by_cases h8 : w < 100000000
  · rw [if_pos h8, if_pos (show w / 100 < 1000000 by omega)]
  rw [if_neg h8, if_neg (show ¬ w / 100 < 1000000 by omega)]
  by_cases h9 : w < 1000000000
  · rw [if_pos h9, if_pos (show w / 100 < 10000000 by omega)]
  rw [if_neg h9, if_neg (show ¬ w / 100 < 10000000 by omega)]
  rw [if_pos (show w / 100 < 100000000 by omega)]
theorem sb_negT {w : Nat} (h : w < 2 ^ 31) : (-nI w).toInt = -(w : Int) := by
  rw [Int32.toInt_neg, nI_toInt h]
  exact Int.bmod_eq_of_le (by omega) (by omega)
theorem sb_nle {a b : Nat} (ha : a < 2 ^ 31) (hb : b < 2 ^ 31) : -nI a ≤ -nI b ↔ b ≤ a := by
  rw [Int32.le_iff_toInt_le, sb_negT ha, sb_negT hb]
  omega
theorem sb_nlt {a b : Nat} (ha : a < 2 ^ 31) (hb : b < 2 ^ 31) : -nI a < -nI b ↔ b < a := by
  rw [Int32.lt_iff_toInt_lt, sb_negT ha, sb_negT hb]
  omega
theorem sb_cmp {A B : Prop} {x : Int32} (v c : Nat) (f : c ≤ v → A) (g : v < c → B) (hv : v < 2 ^ 31) (hx : x = -nI c := by rfl) (hc : c < 2 ^ 31 := by omega) : (-nI v ≤ x → A) ∧ (¬ -nI v ≤ x → B) := by
  subst hx
  rw [sb_nle hv hc]
  exact ⟨f, fun z => g (by omega)⟩
theorem sb_ndiv {w : Nat} (hw : w < 2 ^ 31) : (-nI w) / 100 = -nI (w / 100) := by
  apply Int32.toInt_inj.mp
  have h100 : (100 : Int32).toInt = 100 := by decide
  rw [Int32.toInt_div, sb_negT hw, h100, sb_negT (by omega), Int.neg_tdiv, Int.tdiv_eq_ediv_of_nonneg (by omega), Int.bmod_eq_of_le (by omega) (by omega)]
  omega
theorem sb_nrem {w : Nat} (hw : w < 2 ^ 31) : (-nI (w / 100)) * 100 - (-nI w) = nI (w % 100) := by
  have h := pk_rem (a := w) (d := 100) hw (by decide) (by decide)
  rw [pk_div hw (by decide) (by decide)] at h
  rw [← h]
  show (-nI (w / 100)) * nI 100 - (-nI w) = nI w - nI (w / 100) * nI 100
  rw [Int32.neg_mul, Int32.sub_neg, Int32.add_comm, ← Int32.sub_eq_add_neg]
end
section
/-! ===== numbers: cells, parts, Morton order ===== -/
theorem s_l : ∀ n, n < 32 → ((nI n &&& 31).toBitVec.smod 32).toNat = n := by decide +kernel
theorem nx_and (a b : Nat) : nI a &&& nI b = nI (a &&& b) := by
  apply Int32.toBitVec_inj.1
  show BitVec.ofNat 32 a &&& BitVec.ofNat 32 b = BitVec.ofNat 32 (a &&& b)
  apply BitVec.eq_of_getLsbD_eq
  intro i hi
  simp [hi]
theorem nx_xor (a b : Nat) : nI a ^^^ nI b = nI (a ^^^ b) := by
  apply Int32.toBitVec_inj.1
  show BitVec.ofNat 32 a ^^^ BitVec.ofNat 32 b = BitVec.ofNat 32 (a ^^^ b)
  apply BitVec.eq_of_getLsbD_eq
  intro i hi
  simp [hi]
theorem oc_shr {c s : Nat} (hc : c < 2 ^ 31) (hs : s < 32) : nI c >>> (nI s &&& 31) = nI (c / 2 ^ s) := pk_shrN hc _ s (s_l s hs)
theorem oc_shl {c s : Nat} (hs : s < 32) (h : c * 2 ^ s < 2 ^ 32) : nI c <<< (nI s &&& 31) = nI (c * 2 ^ s) := pk_shlN _ s (s_l s hs) h
theorem oc_and1 {c : Nat} (h : c < 2 ^ 32) : nI c &&& 1 = nI (c % 2) := pk_andN h 1 (by decide)
theorem oc_and7 {c : Nat} (h : c < 2 ^ 32) : nI c &&& 7 = nI (c % 8) := pk_andN h 3 (by decide)
theorem oc_m3 (a : Nat) : (3 : Int32) * nI a = nI (3 * a) := pk_mul 3 a
theorem oc_m2 (a : Nat) : (2 : Int32) * nI a = nI (2 * a) := pk_mul 2 a
theorem oc_m4 (a : Nat) : (4 : Int32) * nI a = nI (4 * a) := pk_mul 4 a
theorem oc_m8 (a : Nat) : (8 : Int32) * nI a = nI (8 * a) := pk_mul 8 a
theorem oc_m64 (a : Nat) : (64 : Int32) * nI a = nI (64 * a) := pk_mul 64 a
theorem oc_m512 (a : Nat) : (512 : Int32) * nI a = nI (512 * a) := pk_mul 512 a
theorem oc_m8' (a : Nat) : nI a * (8 : Int32) = nI (8 * a) := by
  rw [Nat.mul_comm]; exact pk_mul a 8
/-- the index of a node's part -/
theorem oc_ix (n p : Nat) : nI n * 8 + nI p = nI (8 * n + p) := by rw [oc_m8', nI_add]
theorem oc_ixc {n p : Nat} (hn : n < 512) (hp : p < 8) : (nI n * 8 + nI p).toNatClampNeg = 8 * n + p := by rw [oc_ix, nI_clamp (by omega)]
theorem oc_ixi {n p : Nat} (hn : n < 512) (hp : p < 8) : vp_in (nI n * 8 + nI p) 4096 := by rw [oc_ix]; exact vp_in_nI (by omega) (by omega)
/-- the index of a solid's cell -/
theorem oc_jx (r c : Nat) : 512 * nI r + nI c = nI (512 * r + c) := by rw [oc_m512, nI_add]
theorem oc_jxc {r c : Nat} (hr : r < 4) (hc : c < 512) : (512 * nI r + nI c).toNatClampNeg = 512 * r + c := by rw [oc_jx, nI_clamp (by omega)]
theorem oc_jxi {r c : Nat} (hr : r < 4) (hc : c < 512) : vp_in (512 * nI r + nI c) 2048 := by rw [oc_jx]; exact vp_in_nI (by omega) (by omega)
theorem oc_div {c j : Nat} {b : Nat} (h : c < b) : c / 2 ^ j < b := Nat.lt_of_le_of_lt (Nat.div_le_self _ _) h
/-- a small number as a short -/
theorem oc_shT : ∀ n, n < 512 → (nI n).toInt16.toInt32 = nI n := by decide +kernel
theorem oc_sh {n : Nat} (h : n < 512) : vp_nar .short (nI n) = nI n := by rw [vp_nar_short]; exact oc_shT n h
theorem oc_sh2 {n : Nat} (h : n < 512) : vp_nar .short (nI n).toInt16.toInt32 = nI n := by rw [oc_shT n h]; exact oc_sh h
theorem oc_shm : vp_nar .short (-1) = -1 := by rw [vp_nar_short]; decide
theorem oc_b0 : vp_nar .boolean 0 = 0 := by rfl
theorem oc_b1 : vp_nar .boolean 1 = 1 := by rfl
theorem oc_bn {n : Nat} (h : n < 2) : vp_nar .boolean (nI n) = nI n := by
  have : n = 0 ∨ n = 1 := by omega
  rcases this with rfl | rfl <;> rfl
theorem oc_nb {n : Nat} (h : n < 2) : narrow .boolean (.int (nI n)) = .int (nI n) := by
  have : n = 0 ∨ n = 1 := by omega
  rcases this with rfl | rfl <;> rfl

/-- the number of the part of a cube of order k + 1 in which cell c lies -/
def oc_pO (c k : Nat) : Nat := c / 2 ^ k % 2 + 2 * (c / 2 ^ (3 + k) % 2) + 4 * (c / 2 ^ (6 + k) % 2)
theorem oc_pO8 (c k : Nat) : oc_pO c k < 8 := by unfold oc_pO; omega
theorem oc_bit {post : Int32 → Prop} {c a k : Nat} (hc : c < 512) (ha : a < 3) (hk : k < 3) (h : post (nI (c / 2 ^ (3 * a + k) % 2))) : wpX_bit post (nI c) (nI a) (nI k) := by
  have e : (nI c >>> (((3 * nI a) + nI k) &&& 31)) &&& 1 = nI (c / 2 ^ (3 * a + k) % 2) := by
    rw [oc_m3, nI_add, oc_shr (by omega) (by omega), oc_and1 (oc_div (by omega))]
  unfold wpX_bit
  rw [e]; exact h
theorem oc_partOf {post : Int32 → Prop} {c k : Nat} (hc : c < 512) (hk : k < 3) (h : post (nI (oc_pO c k))) : wpX_partOf post (nI c) (nI k) := by
  unfold wpX_partOf
  refine oc_bit (a := 0) hc (by omega) hk ?_
  refine oc_bit (a := 1) hc (by omega) hk ?_
  refine oc_bit (a := 2) hc (by omega) hk ?_
  have e : (nI (c / 2 ^ (3 * 0 + k) % 2) + 2 * nI (c / 2 ^ (3 * 1 + k) % 2)) + 4 * nI (c / 2 ^ (3 * 2 + k) % 2) = nI (oc_pO c k) := by
    rw [oc_m2, oc_m4, nI_add, nI_add]
    unfold oc_pO
    rw [show 3 * 0 + k = k from by omega]
  rw [e]; exact h
/-- the coordinate of a cell on an axis -/
def oc_co (c a : Nat) : Nat := c / 2 ^ (3 * a) % 8
theorem oc_co8 (c a : Nat) : oc_co c a < 8 := Nat.mod_lt _ (by decide)
theorem oc_coE {c a : Nat} (hc : c < 512) (ha : a < 3) : (nI c >>> ((3 * nI a) &&& 31)) &&& 7 = nI (oc_co c a) := by
  rw [oc_m3, oc_shr (by omega) (by omega), oc_and7 (oc_div (by omega))]; rfl
theorem oc_coord {post : Int32 → Prop} {c a : Nat} (hc : c < 512) (ha : a < 3) (h : post (nI (oc_co c a))) : wpX_coordinate post (nI c) (nI a) := by
  unfold wpX_coordinate
  rw [oc_coE hc ha]; exact h
theorem oc_part {post : Int32 → Prop} {v : SY} {c a : Nat} (hc : c < 512) (ha : a < 3) (h : post (nI (oc_co c a))) : wpY_part post v (nI c) (nI a) := by
  obtain ⟨ya, yb⟩ := v
  unfold wpY_part
  dsimp only
  rw [oc_coE hc ha]; exact h

/-- the cell with Morton number m, and the Morton number of a cell -/
def oc_ct (m : Nat) : Nat := m % 2 + 2 * (m / 8 % 2) + 4 * (m / 64 % 2) + 8 * (m / 2 % 2) + 16 * (m / 16 % 2) + 32 * (m / 128 % 2) + 64 * (m / 4 % 2) + 128 * (m / 32 % 2) + 256 * (m / 256 % 2)
def oc_mo (c : Nat) : Nat := oc_pO c 0 + 8 * oc_pO c 1 + 64 * oc_pO c 2
theorem oc_ct512 (m : Nat) : oc_ct m < 512 := by unfold oc_ct; omega
theorem oc_mo512 (c : Nat) : oc_mo c < 512 := by
  unfold oc_mo
  have := oc_pO8 c 0; have := oc_pO8 c 1; have := oc_pO8 c 2
  omega
theorem oc_mc : ∀ m, m < 512 → oc_mo (oc_ct m) = m := by decide +kernel
theorem oc_cm : ∀ c, c < 512 → oc_ct (oc_mo c) = c := by decide +kernel
theorem oc_p0 (c : Nat) : oc_pO c 0 = oc_mo c % 8 := by unfold oc_mo; have := oc_pO8 c 0; omega
theorem oc_p1 (c : Nat) : oc_pO c 1 = oc_mo c / 8 % 8 := by unfold oc_mo; have := oc_pO8 c 0; have := oc_pO8 c 1; omega
theorem oc_p2 (c : Nat) : oc_pO c 2 = oc_mo c / 64 := by unfold oc_mo; have := oc_pO8 c 0; have := oc_pO8 c 1; omega
def oc_cS (x0 x1 x2 : Int32) : Int32 := x1 ||| (((((x0 >>> ((3 * x2) &&& 31)) &&& 7) &&& 1) <<< (x2 &&& 31) ||| (((((x0 >>> ((3 * x2) &&& 31)) &&& 7) >>> ((1 : Int32) &&& 31)) &&& 1) <<< ((3 + x2) &&& 31))) ||| ((((x0 >>> ((3 * x2) &&& 31)) &&& 7) >>> ((2 : Int32) &&& 31)) <<< ((6 + x2) &&& 31)))
theorem oc_cT : ∀ m, m < 512 → oc_cS (nI m) (oc_cS (nI m) (oc_cS (nI m) 0 0) 1) 2 = nI (oc_ct m) := by decide +kernel
theorem oc_cellAt {post : Int32 → Prop} {m : Nat} (hm : m < 512) (h : post (nI (oc_ct m))) : wpX_cellAt post (nI m) := by
  refine (Exists.intro 4 ?_)
  refine br_f (by decide) (nm_e (nm_r (e' := oc_cS (nI m) 0 0) rfl (nm_r (e' := 1) (by decide) ?_)))
  refine br_f (by decide) (nm_e (nm_r (e' := oc_cS (nI m) (oc_cS (nI m) 0 0) 1) rfl (nm_r (e' := 2) (by decide) ?_)))
  refine br_f (by decide) (nm_e (nm_r (e' := oc_cS (nI m) (oc_cS (nI m) (oc_cS (nI m) 0 0) 1) 2) rfl (nm_r (e' := 3) (by decide) ?_)))
  refine br_t (by decide) ?_
  rw [oc_cT m hm]; exact h
/-- whether c is in solids' numbers -/
theorem oc_isSolid {post : Int32 → Prop} {x : Int32} (h0 : ¬ (∃ r, r < 4 ∧ x = nI r) → post 0) (h1 : ∀ r, r < 4 → x = nI r → post 1) : wpX_isSolid post x := by
  unfold wpX_isSolid
  rcases pk_ix x (n := 4) (by decide) with z | z | ⟨j, hj, e⟩
  · refine br_t z (h0 ?_)
    rintro ⟨r, hr, rfl⟩
    exact nI_pos (by omega) z
  · refine br_f ?_ (br_t z (h0 ?_))
    · exact Int32.not_lt.mpr (Int32.le_trans (by decide) z)
    · rintro ⟨r, hr, rfl⟩
      exact nI_ge (b := 4) hr (by decide) z
  · subst e
    exact br_f (nI_pos (by omega)) (br_f (nI_ge (b := 4) hj (by decide)) (h1 j hj rfl))
theorem oc_isCell {post : Int32 → Prop} {x : Int32} (h0 : ¬ (∃ r, r < 512 ∧ x = nI r) → post 0) (h1 : ∀ r, r < 512 → x = nI r → post 1) : wpX_isCell post x := by
  unfold wpX_isCell
  rcases pk_ix x (n := 512) (by decide) with z | z | ⟨j, hj, e⟩
  · refine br_t z (h0 ?_)
    rintro ⟨r, hr, rfl⟩
    exact nI_pos (by omega) z
  · refine br_f ?_ (br_t z (h0 ?_))
    · exact Int32.not_lt.mpr (Int32.le_trans (by decide) z)
    · rintro ⟨r, hr, rfl⟩
      exact nI_ge (b := 512) hr (by decide) z
  · subst e
    exact br_f (nI_pos (by omega)) (br_f (nI_ge (b := 512) hj (by decide)) (h1 j hj rfl))
theorem oc_lt_le {x : Int32} {n : Nat} (hn : n + 1 < 2 ^ 31) : nI n < x ↔ nI (n + 1) ≤ x := by
  rw [Int32.lt_iff_toInt_lt, Int32.le_iff_toInt_le, nI_toInt (by omega), nI_toInt hn]
  omega
theorem oc_solid {post : Int32 → Prop} {v : SY} {x : Int32} (h0 : ¬ (∃ r, r < 4 ∧ x = nI r) → post 0) (h1 : ∀ r, r < 4 → x = nI r → post 1) : wpY_solid post v x := by
  obtain ⟨ya, yb⟩ := v
  unfold wpY_solid
  dsimp only
  rcases pk_ix x (n := 4) (by decide) with z | z | ⟨j, hj, e⟩
  · refine br_t z (h0 ?_)
    rintro ⟨r, hr, rfl⟩
    exact nI_pos (by omega) z
  · refine br_f ?_ (br_t ((oc_lt_le (n := 3) (by decide)).mpr z) (h0 ?_))
    · exact Int32.not_lt.mpr (Int32.le_trans (by decide) z)
    · rintro ⟨r, hr, rfl⟩
      exact nI_ge (b := 4) hr (by decide) z
  · subst e
    exact br_f (nI_pos (by omega)) (br_f (nI_nlt (a := 3) (by omega) (by decide)) (h1 j hj rfl))
theorem oc_cell {post : Int32 → Prop} {v : SY} {x : Int32} (h0 : ¬ (∃ r, r < 512 ∧ x = nI r) → post 0) (h1 : ∀ r, r < 512 → x = nI r → post 1) : wpY_cell post v x := by
  obtain ⟨ya, yb⟩ := v
  unfold wpY_cell
  dsimp only
  rcases pk_ix x (n := 512) (by decide) with z | z | ⟨j, hj, e⟩
  · refine br_t z (h0 ?_)
    rintro ⟨r, hr, rfl⟩
    exact nI_pos (by omega) z
  · refine br_f ?_ (br_t ((oc_lt_le (n := 511) (by decide)).mpr z) (h0 ?_))
    · exact Int32.not_lt.mpr (Int32.le_trans (by decide) z)
    · rintro ⟨r, hr, rfl⟩
      exact nI_ge (b := 512) hr (by decide) z
  · subst e
    exact br_f (nI_pos (by omega)) (br_f (nI_nlt (a := 511) (by omega) (by decide)) (h1 j hj rfl))
end
section
/-! ===== trees: parts, valid nodes, the way down ===== -/
section
variable {P U P' U' : Nat → Int32}
/-- part d of node n (an even node is its own part) -/
def oc_st (P : Nat → Int32) (n d : Nat) : Nat := if n < 2 then n else (P (8 * n + d)).toNatClampNeg
/-- n is a node of order k: even, or in use with parts of order k - 1 -/
def oc_V (P U : Nat → Int32) : Nat → Nat → Prop
  | 0 => fun n => n < 2
  | k + 1 => fun n => n < 2 ∨ (n < 512 ∧ U n ≠ 0 ∧ ∀ i, i < 8 → ∃ m, P (8 * n + i) = nI m ∧ oc_V P U k m)
/-- the node of the cube with cell c, j steps below n -/
def oc_dn (P : Nat → Int32) (n c : Nat) : Nat → Nat
  | 0 => n
  | j + 1 => oc_st P (oc_dn P n c j) (oc_pO c (2 - j))
/-- below node n of order k: the cell at place p -/
def oc_dd (P : Nat → Int32) : Nat → Nat → Nat → Nat
  | 0 => fun n _ => n
  | k + 1 => fun n p => oc_dd P k (oc_st P n (p / 8 ^ k)) (p % 8 ^ k)
/-- equal nodes are one node, and no node in use is even -/
def oc_C (P U : Nat → Int32) : Prop := ∀ n, n < 512 → U n ≠ 0 → 2 ≤ n ∧ (∀ v, v < 2 → ¬ ∀ i, i < 8 → P (8 * n + i) = nI v) ∧ ∀ m, m < 512 → U m ≠ 0 → (∀ i, i < 8 → P (8 * n + i) = P (8 * m + i)) → n = m

theorem oc_st_e {n d : Nat} (h : n < 2) : oc_st P n d = n := if_pos h
theorem oc_V_512 {k n : Nat} (h : oc_V P U k n) : n < 512 := by
  cases k with
  | zero => exact Nat.lt_trans h (by decide)
  | succ k =>
    rcases h with h | h
    · omega
    · exact h.1
theorem oc_V_e (k : Nat) {n : Nat} (h : n < 2) : oc_V P U k n := by
  cases k with
  | zero => exact h
  | succ k => exact Or.inl h
theorem oc_V_st {k n d : Nat} (h : oc_V P U (k + 1) n) (hd : d < 8) : oc_V P U k (oc_st P n d) := by
  unfold oc_st
  by_cases z : n < 2
  · rw [if_pos z]; exact oc_V_e k z
  · rw [if_neg z]
    rcases h with h | ⟨h1, h2, h3⟩
    · exact absurd h z
    · obtain ⟨m, e, hm⟩ := h3 d hd
      rw [e, nI_clamp (by have := oc_V_512 hm; omega)]; exact hm
theorem oc_V_rd {k n d : Nat} (h : oc_V P U (k + 1) n) (z : ¬ n < 2) (hd : d < 8) : P (8 * n + d) = nI (oc_st P n d) := by
  unfold oc_st
  rw [if_neg z]
  rcases h with h | ⟨h1, h2, h3⟩
  · exact absurd h z
  · obtain ⟨m, e, hm⟩ := h3 d hd
    rw [e, nI_clamp (by have := oc_V_512 hm; omega)]
theorem oc_V_us {k n : Nat} (h : oc_V P U (k + 1) n) (z : ¬ n < 2) : U n ≠ 0 := by
  rcases h with h | ⟨h1, h2, h3⟩
  · exact absurd h z
  · exact h2
/-- a state that keeps the nodes in use -/
def oc_X (P U P' U' : Nat → Int32) : Prop := ∀ n, n < 512 → U n ≠ 0 → U' n ≠ 0 ∧ ∀ i, i < 8 → P' (8 * n + i) = P (8 * n + i)
theorem oc_X_rfl : oc_X P U P U := fun _ _ h => ⟨h, fun _ _ => rfl⟩
theorem oc_X_tr {P2 U2 : Nat → Int32} (h : oc_X P U P' U') (g : oc_X P' U' P2 U2) : oc_X P U P2 U2 := by
  intro n hn hu
  obtain ⟨a, b⟩ := h n hn hu
  obtain ⟨a', b'⟩ := g n hn a
  exact ⟨a', fun i hi => (b' i hi).trans (b i hi)⟩
theorem oc_X_V (h : oc_X P U P' U') : ∀ {k n : Nat}, oc_V P U k n → oc_V P' U' k n := by
  intro k
  induction k with
  | zero => intro n hn; exact hn
  | succ k ih =>
    intro n hn
    rcases hn with hn | ⟨h1, h2, h3⟩
    · exact Or.inl hn
    · obtain ⟨a, b⟩ := h n h1 h2
      refine Or.inr ⟨h1, a, fun i hi => ?_⟩
      obtain ⟨m, e, hm⟩ := h3 i hi
      exact ⟨m, (b i hi).trans e, ih hm⟩
theorem oc_X_st (h : oc_X P U P' U') {k n d : Nat} (hn : oc_V P U (k + 1) n) (hd : d < 8) : oc_st P' n d = oc_st P n d := by
  unfold oc_st
  by_cases z : n < 2
  · rw [if_pos z, if_pos z]
  · rw [if_neg z, if_neg z]
    rcases hn with hn | ⟨h1, h2, h3⟩
    · exact absurd hn z
    · rw [(h n h1 h2).2 d hd]
theorem oc_V_dn {n c : Nat} (h : oc_V P U 3 n) : ∀ j, j ≤ 3 → oc_V P U (3 - j) (oc_dn P n c j) := by
  intro j
  induction j with
  | zero => intro _; exact h
  | succ j ih =>
    intro hj
    have h1 := ih (by omega)
    rw [show 3 - j = (3 - (j + 1)) + 1 from by omega] at h1
    exact oc_V_st h1 (oc_pO8 _ _)
theorem oc_X_dn (h : oc_X P U P' U') {n c : Nat} (hn : oc_V P U 3 n) : ∀ j, j ≤ 3 → oc_dn P' n c j = oc_dn P n c j := by
  intro j
  induction j with
  | zero => intro _; rfl
  | succ j ih =>
    intro hj
    have h1 := oc_V_dn (c := c) hn j (by omega)
    rw [show 3 - j = (3 - (j + 1)) + 1 from by omega] at h1
    show oc_st P' (oc_dn P' n c j) _ = oc_st P (oc_dn P n c j) _
    rw [ih (by omega)]
    exact oc_X_st h h1 (oc_pO8 _ _)
theorem oc_dn2 {n c : Nat} (h : oc_V P U 3 n) : oc_dn P n c 3 < 2 := oc_V_dn h 3 (by decide)
theorem oc_dd_e : ∀ (k n p : Nat), n < 2 → oc_dd P k n p = n := by
  intro k
  induction k with
  | zero => intro n p _; rfl
  | succ k ih =>
    intro n p h
    show oc_dd P k (oc_st P n (p / 8 ^ k)) (p % 8 ^ k) = n
    rw [oc_st_e h]; exact ih n _ h
theorem oc_dd_at {k n i p : Nat} (hp : p < 8 ^ k) : oc_dd P (k + 1) n (i * 8 ^ k + p) = oc_dd P k (oc_st P n i) p := by
  show oc_dd P k (oc_st P n ((i * 8 ^ k + p) / 8 ^ k)) ((i * 8 ^ k + p) % 8 ^ k) = _
  have h0 : 0 < 8 ^ k := Nat.pow_pos (by decide)
  have e1 : (i * 8 ^ k + p) / 8 ^ k = i := by
    rw [Nat.add_comm, Nat.add_mul_div_right _ _ h0, Nat.div_eq_of_lt hp, Nat.zero_add]
  have e2 : (i * 8 ^ k + p) % 8 ^ k = p := by
    rw [Nat.add_comm, Nat.add_mul_mod_self_right, Nat.mod_eq_of_lt hp]
  rw [e1, e2]
theorem oc_pl {k i p : Nat} (hi : i < 8) (hp : p < 8 ^ k) : i * 8 ^ k + p < 8 ^ (k + 1) := by
  rw [Nat.pow_succ]
  have h : (i + 1) * 8 ^ k ≤ 8 * 8 ^ k := Nat.mul_le_mul_right _ hi
  rw [Nat.add_mul, Nat.one_mul] at h
  rw [Nat.mul_comm (8 ^ k) 8]
  omega
/-- a tree with equal parts at every place is even -/
theorem oc_noev (hC : oc_C P U) {k n m : Nat} (hn : oc_V P U (k + 1) n) (hm : m < 2) (h : ∀ i, i < 8 → oc_st P n i = m) : n < 2 := by
  by_cases z : n < 2
  · exact z
  · exfalso
    have hu := oc_V_us hn z
    refine (hC n (oc_V_512 hn) hu).2.1 m hm fun i hi => ?_
    rw [oc_V_rd hn z hi, h i hi]
theorem oc_inj (hC : oc_C P U) : ∀ (k n m : Nat), oc_V P U k n → oc_V P U k m → (∀ p, p < 8 ^ k → oc_dd P k n p = oc_dd P k m p) → n = m := by
  intro k
  induction k with
  | zero => intro n m _ _ h; exact h 0 (by decide)
  | succ k ih =>
    intro n m hn hm h
    have hs : ∀ i, i < 8 → oc_st P n i = oc_st P m i := by
      intro i hi
      refine ih _ _ (oc_V_st hn hi) (oc_V_st hm hi) ?_
      intro p hp
      have := h (i * 8 ^ k + p) (oc_pl hi hp)
      rw [oc_dd_at hp, oc_dd_at hp] at this
      exact this
    have key : ∀ a b : Nat, oc_V P U (k + 1) a → (∀ i, i < 8 → oc_st P a i = oc_st P b i) → b < 2 → a < 2 := by
      intro a b ha hab hb
      refine oc_noev hC ha hb fun i hi => ?_
      rw [hab i hi, oc_st_e hb]
    by_cases zn : n < 2
    · have zm : m < 2 := key m n hm (fun i hi => (hs i hi).symm) zn
      have := hs 0 (by decide)
      rw [oc_st_e zn, oc_st_e zm] at this
      exact this
    · have zm : ¬ m < 2 := fun z => zn (key n m hn hs z)
      refine (hC n (oc_V_512 hn) (oc_V_us hn zn)).2.2 m (oc_V_512 hm) (oc_V_us hm zm) fun i hi => ?_
      rw [oc_V_rd hn zn hi, oc_V_rd hm zm hi, hs i hi]
/-- the cell below the node of order o -/
theorem oc_val (P : Nat → Int32) (n c : Nat) {o : Nat} (ho : o ≤ 3) : oc_dn P n c 3 = oc_dd P o (oc_dn P n c (3 - o)) (oc_mo c % 8 ^ o) := by
  have h5 := oc_mo512 c
  have e0 : oc_dn P n c 3 = oc_st P (oc_st P (oc_st P n (oc_pO c 2)) (oc_pO c 1)) (oc_pO c 0) := rfl
  have : o = 0 ∨ o = 1 ∨ o = 2 ∨ o = 3 := by omega
  rw [e0, oc_p0, oc_p1, oc_p2]
  rcases this with rfl | rfl | rfl | rfl
  · show _ = oc_st P (oc_st P (oc_st P n (oc_pO c 2)) (oc_pO c 1)) (oc_pO c 0)
    rw [oc_p0, oc_p1, oc_p2]
  · show _ = oc_st P (oc_st P (oc_st P n (oc_pO c 2)) (oc_pO c 1)) (oc_mo c % 8 ^ 1 / 8 ^ 0)
    rw [oc_p1, oc_p2, show oc_mo c % 8 ^ 1 / 8 ^ 0 = oc_mo c % 8 from by omega]
  · show _ = oc_st P (oc_st P (oc_st P n (oc_pO c 2)) (oc_mo c % 8 ^ 2 / 8 ^ 1)) (oc_mo c % 8 ^ 2 % 8 ^ 1 / 8 ^ 0)
    rw [oc_p2, show oc_mo c % 8 ^ 2 / 8 ^ 1 = oc_mo c / 8 % 8 from by omega, show oc_mo c % 8 ^ 2 % 8 ^ 1 / 8 ^ 0 = oc_mo c % 8 from by omega]
  · show _ = oc_st P (oc_st P (oc_st P n (oc_mo c % 8 ^ 3 / 8 ^ 2)) (oc_mo c % 8 ^ 3 % 8 ^ 2 / 8 ^ 1)) (oc_mo c % 8 ^ 3 % 8 ^ 2 % 8 ^ 1 / 8 ^ 0)
    rw [show oc_mo c % 8 ^ 3 / 8 ^ 2 = oc_mo c / 64 from by omega, show oc_mo c % 8 ^ 3 % 8 ^ 2 / 8 ^ 1 = oc_mo c / 8 % 8 from by omega, show oc_mo c % 8 ^ 3 % 8 ^ 2 % 8 ^ 1 / 8 ^ 0 = oc_mo c % 8 from by omega]
theorem oc_tog (P : Nat → Int32) (n : Nat) {c e o : Nat} (ho : o ≤ 3) (h : oc_mo c / 8 ^ o = oc_mo e / 8 ^ o) : oc_dn P n c (3 - o) = oc_dn P n e (3 - o) := by
  have : o = 0 ∨ o = 1 ∨ o = 2 ∨ o = 3 := by omega
  rcases this with rfl | rfl | rfl | rfl
  · show oc_st P (oc_st P (oc_st P n (oc_pO c 2)) (oc_pO c 1)) (oc_pO c 0) = oc_st P (oc_st P (oc_st P n (oc_pO e 2)) (oc_pO e 1)) (oc_pO e 0)
    rw [oc_p0, oc_p1, oc_p2, oc_p0, oc_p1, oc_p2, show oc_mo c = oc_mo e from by omega]
  · show oc_st P (oc_st P n (oc_pO c 2)) (oc_pO c 1) = oc_st P (oc_st P n (oc_pO e 2)) (oc_pO e 1)
    have h' : oc_mo c / 8 = oc_mo e / 8 := h
    rw [oc_p1, oc_p2, oc_p1, oc_p2, show oc_mo c / 8 % 8 = oc_mo e / 8 % 8 from by omega, show oc_mo c / 64 = oc_mo e / 64 from by omega]
  · show oc_st P n (oc_pO c 2) = oc_st P n (oc_pO e 2)
    have h' : oc_mo c / 64 = oc_mo e / 64 := h
    rw [oc_p2, oc_p2, h']
  · rfl
/-- the cube of order o with cell c is even exactly if its node is -/
theorem oc_even (hC : oc_C P U) {n c o : Nat} (hn : oc_V P U 3 n) (hc : c < 512) (ho : o ≤ 3) : oc_dn P n c (3 - o) < 2 ↔ ∀ e, e < 512 → oc_mo c / 8 ^ o = oc_mo e / 8 ^ o → oc_dn P n e 3 = oc_dn P n c 3 := by
  constructor
  · intro h e he ht
    rw [oc_val P n e ho, oc_val P n c ho, ← oc_tog P n ho ht, oc_dd_e _ _ _ h, oc_dd_e _ _ _ h]
  · intro h
    have hv := oc_dn2 (c := c) hn
    have h1 := oc_V_dn (c := c) hn (3 - o) (by omega)
    rw [show 3 - (3 - o) = o from by omega] at h1
    have h0 : 0 < 8 ^ o := Nat.pow_pos (by decide)
    have : oc_dn P n c (3 - o) = oc_dn P n c 3 := by
      refine oc_inj hC o _ _ h1 (oc_V_e o hv) fun p hp => ?_
      rw [oc_dd_e _ _ _ hv]
      have hb : oc_mo c / 8 ^ o * 8 ^ o + p < 512 := by
        have h5 := oc_mo512 c
        have h8 : oc_mo c / 8 ^ o < 8 ^ (3 - o) := by
          rw [Nat.div_lt_iff_lt_mul h0, ← Nat.pow_add, show 3 - o + o = 3 from by omega]
          exact h5
        have := Nat.mul_le_mul_right (8 ^ o) (Nat.succ_le_of_lt h8)
        rw [← Nat.pow_add, show 3 - o + o = 3 from by omega, Nat.succ_mul] at this
        have e : (8 : Nat) ^ 3 = 512 := rfl
        omega
      have q1 : (oc_mo c / 8 ^ o * 8 ^ o + p) / 8 ^ o = oc_mo c / 8 ^ o := by
        rw [Nat.add_comm, Nat.add_mul_div_right _ _ h0, Nat.div_eq_of_lt hp, Nat.zero_add]
      have q2 : (oc_mo c / 8 ^ o * 8 ^ o + p) % 8 ^ o = p := by
        rw [Nat.add_comm, Nat.add_mul_mod_self_right, Nat.mod_eq_of_lt hp]
      have hm := oc_mc _ hb
      have := h (oc_ct (oc_mo c / 8 ^ o * 8 ^ o + p)) (oc_ct512 _) (by rw [hm, q1])
      rw [← this, oc_val P n _ ho, hm, q2]
      rw [oc_tog P n (c := c) (e := oc_ct (oc_mo c / 8 ^ o * 8 ^ o + p)) ho (by rw [hm, q1])]
    rw [this]; exact hv
end
end
section
/-! ===== the component's reads: cubeAt, inBox, cellOf, has, orderOf ===== -/
section
variable {ff ft fl fr fc fo fp : Int32} {P U H C Z R E M D : Nat → Int32}
def oc_dw (P : Nat → Int32) (c o : Nat) : Nat → Nat → Nat
  | 0 => fun n => n
  | j + 1 => fun n => if j + 1 ≤ o then n else oc_dw P c o j (oc_st P n (oc_pO c j))
theorem oc_dw_dn (P : Nat → Int32) (n c : Nat) {o : Nat} (ho : o ≤ 3) : oc_dw P c o 3 n = oc_dn P n c (3 - o) := by
  have : o = 0 ∨ o = 1 ∨ o = 2 ∨ o = 3 := by omega
  rcases this with rfl | rfl | rfl | rfl <;> rfl
theorem oc_m1lt : ∀ o, o ≤ 3 → nI 0 + (-1) < nI o := by decide +kernel
theorem oc_cube6 {post : Int32 → Prop} {c o : Nat} (hc : c < 512) (ho : o ≤ 3) : ∀ (j n : Nat), j ≤ 3 → oc_V P U j n → post (nI (oc_dw P c o j n)) → wX_cubeAt_6 post (nI c) (nI o) ff ft fl fr fc fo fp P U H C Z R E M D (j + 1) (nI n) (nI j + (-1)) := by
  intro j
  induction j with
  | zero =>
    intro n _ hV h
    exact br_t (oc_m1lt o ho) h
  | succ j ih =>
    intro n hj hV h
    have hn := oc_V_512 hV
    rw [pk_m1]
    by_cases z : j < o
    · rw [show oc_dw P c o (j + 1) n = n from if_pos z] at h
      exact br_t (nI_lt z (by omega)) h
    · rw [show oc_dw P c o (j + 1) n = oc_dw P c o j (oc_st P n (oc_pO c j)) from if_neg (by omega)] at h
      refine br_f (nI_nlt (by omega) (by omega)) ?_
      by_cases z2 : n < 2
      · refine br_t (nI_lt (b := 2) z2 (by decide)) (nm_e ?_)
        rw [oc_st_e z2] at h
        exact ih n (by omega) (oc_V_e j z2) h
      · refine br_f (nI_nlt (b := 2) (by omega) (by omega)) ?_
        refine oc_partOf hc (by omega) ?_
        refine (And.intro (oc_ixi hn (oc_pO8 _ _)) ?_)
        rw [oc_ixc hn (oc_pO8 _ _), oc_V_rd hV z2 (oc_pO8 _ _)]
        exact nm_e (nm_e (ih _ (by omega) (oc_V_st hV (oc_pO8 _ _)) h))
theorem oc_cubeAt {post : Int32 → Prop} {n c o : Nat} (hV : oc_V P U 3 n) (hc : c < 512) (ho : o ≤ 3) (h : post (nI (oc_dn P n c (3 - o)))) : wpX_cubeAt post (ff, ft, fl, fr, fc, fo, fp, P, U, H, C, Z, R, E, M, D) (nI n) (nI c) (nI o) := by
  refine (Exists.intro 4 ?_)
  refine oc_cube6 (U := U) hc ho 3 n (by omega) hV ?_
  rw [oc_dw_dn P n c ho]; exact h
theorem oc_cube0 {post : Int32 → Prop} {n c : Nat} (hV : oc_V P U 3 n) (hc : c < 512) (h : post (nI (oc_dn P n c 3))) : wpX_cubeAt post (ff, ft, fl, fr, fc, fo, fp, P, U, H, C, Z, R, E, M, D) (nI n) (nI c) 0 := oc_cubeAt (o := 0) hV hc (by omega) h
/-- v between p and q -/
def oc_bw (v p q : Nat) : Bool := (decide (p ≤ v) && decide (v ≤ q)) || (decide (q ≤ v) && decide (v ≤ p))
def oc_bx (c d e : Nat) : Bool := oc_bw (oc_co e 0) (oc_co c 0) (oc_co d 0) && oc_bw (oc_co e 1) (oc_co c 1) (oc_co d 1) && oc_bw (oc_co e 2) (oc_co c 2) (oc_co d 2)
theorem oc_bw_t {v p q : Nat} : oc_bw v p q = true ↔ (p ≤ v ∧ v ≤ q) ∨ (q ≤ v ∧ v ≤ p) := by simp [oc_bw]
theorem oc_bx_t {c d e : Nat} : oc_bx c d e = true ↔ ∀ a, a < 3 → oc_bw (oc_co e a) (oc_co c a) (oc_co d a) = true := by
  unfold oc_bx
  rw [Bool.and_eq_true, Bool.and_eq_true]
  constructor
  · rintro ⟨⟨h0, h1⟩, h2⟩ a ha
    have : a = 0 ∨ a = 1 ∨ a = 2 := by omega
    rcases this with rfl | rfl | rfl
    · exact h0
    · exact h1
    · exact h2
  · intro h
    exact ⟨⟨h 0 (by decide), h 1 (by decide)⟩, h 2 (by decide)⟩
theorem oc_inBox2 {post : Int32 → Prop} {c d e : Nat} (hc : c < 512) (hd : d < 512) (he : e < 512) (h0 : oc_bx c d e = false → post 0) (h1 : oc_bx c d e = true → post 1) : ∀ (k i : Nat), i + k = 3 → (∀ a, a < i → oc_bw (oc_co e a) (oc_co c a) (oc_co d a) = true) → wX_inBox_2 post (nI e) ff ft fl fr (nI c) (nI d) fp P U H C Z R E M D (k + 1) (nI i) := by
  intro k
  induction k with
  | zero =>
    intro i hi hb
    refine br_t (nI_le (a := 3) (by omega) (by omega)) (h1 (oc_bx_t.mpr fun a ha => hb a (by omega)))
  | succ k ih =>
    intro i hi hb
    refine br_f (nI_ge (b := 3) (by omega) (by omega)) ?_
    have hi3 : i < 3 := by omega
    refine oc_coord hc hi3 (oc_coord hd hi3 (oc_coord he hi3 ?_))
    have b1 := oc_co8 c i
    have b2 := oc_co8 d i
    have b3 := oc_co8 e i
    have bad : oc_bw (oc_co e i) (oc_co c i) (oc_co d i) ≠ true → post 0 := by
      intro z
      refine h0 ?_
      cases q : oc_bx c d e with
      | false => rfl
      | true => exact absurd (oc_bx_t.mp q i hi3) z
    have good : oc_bw (oc_co e i) (oc_co c i) (oc_co d i) = true → wX_inBox_2 post (nI e) ff ft fl fr (nI c) (nI d) fp P U H C Z R E M D (k + 1) (nI (i + 1)) := by
      intro z
      refine ih (i + 1) (by omega) fun a ha => ?_
      by_cases q : a = i
      · rw [q]; exact z
      · exact hb a (by omega)
    refine pk_le (oc_co d i) (oc_co c i) (fun q => ?_) (fun q => ?_)
    · refine pk_lt (oc_co e i) (oc_co d i) (fun q2 => bad ?_) (fun q2 => ?_)
      · rw [ne_eq, oc_bw_t]; omega
      · refine pk_le (oc_co d i) (oc_co c i) (fun q3 => ?_) (fun q3 => absurd q (by omega))
        refine pk_le (oc_co e i) (oc_co c i) (fun q4 => nm_r (nI_1 i) (good ?_)) (fun q4 => bad ?_)
        · rw [oc_bw_t]; omega
        · rw [ne_eq, oc_bw_t]; omega
    · refine pk_lt (oc_co e i) (oc_co c i) (fun q2 => bad ?_) (fun q2 => ?_)
      · rw [ne_eq, oc_bw_t]; omega
      · refine pk_le (oc_co d i) (oc_co c i) (fun q3 => absurd q (by omega)) (fun q3 => ?_)
        refine pk_le (oc_co e i) (oc_co d i) (fun q4 => nm_r (nI_1 i) (good ?_)) (fun q4 => bad ?_)
        · rw [oc_bw_t]; omega
        · rw [ne_eq, oc_bw_t]; omega
theorem oc_inBox {post : Int32 → Prop} {c d e : Nat} (hc : c < 512) (hd : d < 512) (he : e < 512) (h0 : oc_bx c d e = false → post 0) (h1 : oc_bx c d e = true → post 1) : wpX_inBox post (ff, ft, fl, fr, nI c, nI d, fp, P, U, H, C, Z, R, E, M, D) (nI e) :=
  (Exists.intro 4 (oc_inBox2 hc hd he h0 h1 3 0 rfl (fun a ha => absurd ha (Nat.not_lt_zero a))))
/-- what a cell becomes, by task -/
theorem oc_cell_box {post : Int32 → Prop} {l c d e w : Nat} (hV : oc_V P U 3 l) (hc : c < 512) (hd : d < 512) (he : e < 512) (h : post (nI (if oc_bx c d e = true then w else oc_dn P l e 3))) : wpX_cellOf post (ff, 4, nI l, fr, nI c, nI d, nI w, P, U, H, C, Z, R, E, M, D) (nI e) := by
  refine br_f (by decide) (oc_cube0 hV he (br_t rfl ?_))
  refine oc_inBox hc hd he (fun z => br_t rfl ?_) (fun z => br_f (by decide) ?_)
  · rw [if_neg (by rw [z]; decide)] at h; exact h
  · rw [if_pos z] at h; exact h
theorem oc_cell_turn {post : Int32 → Prop} {l e : Nat} (hV : oc_V P U 3 l) (he : e < 512) (h : post (nI (1 - oc_dn P l e 3))) : wpX_cellOf post (ff, 5, nI l, fr, fc, fo, fp, P, U, H, C, Z, R, E, M, D) (nI e) := by
  refine br_f (by decide) (oc_cube0 hV he (br_f (by decide) (br_t rfl ?_)))
  have h2 := oc_dn2 (c := e) hV
  rw [show (1 : Int32) - nI (oc_dn P l e 3) = nI (1 - oc_dn P l e 3) from pk_sub (a := 1) (by omega)]
  exact h
theorem oc_x7T : ∀ a, a < 3 → (7 : Int32) <<< ((3 * nI a) &&& 31) = nI (7 * 2 ^ (3 * a)) := by decide +kernel
theorem oc_x7 {e a : Nat} (ha : a < 3) : nI e ^^^ ((7 : Int32) <<< ((3 * nI a) &&& 31)) = nI (e ^^^ (7 * 2 ^ (3 * a))) := by
  rw [oc_x7T a ha, nx_xor]
theorem oc_x7L : ∀ a, a < 3 → 7 * 2 ^ (3 * a) < 2 ^ 9 := by decide
theorem oc_x7l {e a : Nat} (he : e < 512) (ha : a < 3) : e ^^^ (7 * 2 ^ (3 * a)) < 512 := Nat.xor_lt_two_pow (n := 9) he (oc_x7L a ha)
theorem oc_cell_mirror {post : Int32 → Prop} {l e a : Nat} (hV : oc_V P U 3 l) (he : e < 512) (ha : a < 3) (h : post (nI (oc_dn P l (e ^^^ (7 * 2 ^ (3 * a))) 3))) : wpX_cellOf post (ff, 6, nI l, fr, fc, fo, nI a, P, U, H, C, Z, R, E, M, D) (nI e) := by
  refine br_t rfl (nm_r (oc_x7 ha) ?_)
  exact oc_cube0 hV (oc_x7l he ha) h
/-- the four ways to join two cells -/
def oc_op (o x y : Nat) : Nat := if o = 0 then (if x = 0 then y else 1) else if o = 1 then (if x = 0 then 0 else y) else if o = 2 then (if x = 0 then 0 else 1 - y) else (if x = y then 0 else 1)
theorem oc_opT0 : ∀ x, x < 2 → ∀ y, y < 2 → nI x ||| nI y = nI (oc_op 0 x y) := by decide +kernel
theorem oc_opT1 : ∀ x, x < 2 → ∀ y, y < 2 → nI x &&& nI y = nI (oc_op 1 x y) := by decide +kernel
theorem oc_opT2 : ∀ x, x < 2 → ∀ y, y < 2 → nI x &&& (nI y ^^^ (-1)) = nI (oc_op 2 x y) := by decide +kernel
theorem oc_opT3 : ∀ x, x < 2 → ∀ y, y < 2 → nI x ^^^ nI y = nI (oc_op 3 x y) := by decide +kernel
theorem oc_op2 : ∀ o, o < 4 → ∀ x, x < 2 → ∀ y, y < 2 → oc_op o x y < 2 := by decide +kernel
theorem oc_cell_op {post : Int32 → Prop} {o l r e : Nat} (ho : o < 4) (hl : oc_V P U 3 l) (hr : oc_V P U 3 r) (he : e < 512) (h : post (nI (oc_op o (oc_dn P l e 3) (oc_dn P r e 3)))) : wpX_cellOf post (ff, nI o, nI l, nI r, fc, fo, fp, P, U, H, C, Z, R, E, M, D) (nI e) := by
  have h6 : ¬ nI o = 6 := fun z => by rw [show (6 : Int32) = nI 6 from rfl, nI_eq (by omega) (by omega)] at z; omega
  have h4 : ¬ nI o = 4 := fun z => by rw [show (4 : Int32) = nI 4 from rfl, nI_eq (by omega) (by omega)] at z; omega
  have h5 : ¬ nI o = 5 := fun z => by rw [show (5 : Int32) = nI 5 from rfl, nI_eq (by omega) (by omega)] at z; omega
  have hx := oc_dn2 (c := e) hl
  have hy := oc_dn2 (c := e) hr
  refine br_f h6 (oc_cube0 hl he (br_f h4 (br_f h5 (oc_cube0 hr he ?_))))
  have : o = 0 ∨ o = 1 ∨ o = 2 ∨ o = 3 := by omega
  rcases this with rfl | rfl | rfl | rfl
  · refine br_t rfl ?_
    rw [oc_opT0 _ hx _ hy]; exact h
  · refine br_f (by decide) (br_t rfl ?_)
    rw [oc_opT1 _ hx _ hy]; exact h
  · refine br_f (by decide) (br_f (by decide) (br_t rfl ?_))
    rw [oc_opT2 _ hx _ hy]; exact h
  · refine br_f (by decide) (br_f (by decide) (br_f (by decide) ?_))
    rw [oc_opT3 _ hx _ hy]; exact h
/-- the order of the largest even cube with a cell -/
def oc_or (P : Nat → Int32) (n c : Nat) : Nat → Nat
  | 0 => 0
  | o + 1 => if oc_dn P n c (3 - (o + 1)) < 2 then o + 1 else oc_or P n c o
theorem oc_or_le (P : Nat → Int32) (n c : Nat) : ∀ o, oc_or P n c o ≤ o := by
  intro o
  induction o with
  | zero => exact Nat.le_refl 0
  | succ o ih =>
    unfold oc_or
    split
    · exact Nat.le_refl _
    · exact Nat.le_succ_of_le ih
theorem oc_ord2 {post : Int32 → Prop} {n c : Nat} (hV : oc_V P U 3 n) (hc : c < 512) : ∀ o, o ≤ 3 → post (nI (oc_or P n c o)) → wX_orderOf_2 post (nI n) (nI c) ff ft fl fr fc fo fp P U H C Z R E M D (o + 1) (nI o) := by
  intro o
  induction o with
  | zero => intro _ h; exact br_t (nI_le (a := 0) (b := 0) (by omega) (by omega)) h
  | succ o ih =>
    intro ho h
    refine br_f (nI_nle (by omega) (by omega)) (oc_cubeAt hV hc ho ?_)
    have h5 := oc_V_512 (oc_V_dn (c := c) hV (3 - (o + 1)) (by omega))
    unfold oc_or at h
    refine pk_lt (oc_dn P n c (3 - (o + 1))) 2 (fun z => ?_) (fun z => nm_r (pk_m1 o) (ih (by omega) ?_))
    · rw [if_pos z] at h; exact h
    · rw [if_neg (by omega)] at h; exact h
theorem oc_orderOf {post : Int32 → Prop} {n c : Nat} (hV : oc_V P U 3 n) (hc : c < 512) (h : post (nI (oc_or P n c 3))) : wpX_orderOf post (ff, ft, fl, fr, fc, fo, fp, P, U, H, C, Z, R, E, M, D) (nI n) (nI c) := (Exists.intro 4 (oc_ord2 hV hc 3 (by omega) h))
end
end
section
/-! ===== nodes: marks, chains, counting ===== -/
section
variable {ff ft fl fr fc fo fp : Int32} {P U H C Z R E M D : Nat → Int32}
def oc_sm (f : Nat → Int32) : Nat → Int32
  | 0 => 7
  | i + 1 => ((oc_sm f i * 31) + f i) &&& 65535
def oc_mk (f : Nat → Int32) : Int32 := (oc_sm f 8 ^^^ (oc_sm f 8 >>> ((8 : Int32) &&& 31))) &&& 255
def oc_mkN (f : Nat → Int32) : Nat := (oc_mk f).toNatClampNeg
def oc_pt (P : Nat → Int32) (n : Nat) : Nat → Int32 := fun i => P (8 * n + i)
theorem oc_sm_c {f g : Nat → Int32} : ∀ n, (∀ i, i < n → f i = g i) → oc_sm f n = oc_sm g n := by
  intro n
  induction n with
  | zero => intro _; rfl
  | succ n ih =>
    intro h
    show ((oc_sm f n * 31) + f n) &&& 65535 = ((oc_sm g n * 31) + g n) &&& 65535
    rw [ih fun i hi => h i (by omega), h n (by omega)]
theorem oc_mk_c {f g : Nat → Int32} (h : ∀ i, i < 8 → f i = g i) : oc_mkN f = oc_mkN g := by
  unfold oc_mkN oc_mk
  rw [oc_sm_c 8 h]
theorem oc_mk_n (f : Nat → Int32) : oc_mk f = nI (oc_mkN f) ∧ oc_mkN f < 256 := by
  obtain ⟨j, hj, e⟩ := pk_andE (oc_sm f 8 ^^^ (oc_sm f 8 >>> ((8 : Int32) &&& 31))) (m := 255) 8 (by decide)
  have e2 : oc_mk f = nI j := e
  have h : oc_mkN f = j := by
    unfold oc_mkN
    rw [e2, nI_clamp (by omega)]
  rw [h]
  exact ⟨e2, hj⟩
theorem oc_mark5 {post : Int32 → Prop} {n : Nat} (hn : n < 512) (h : post (nI (oc_mkN (oc_pt P n)))) : ∀ (k i : Nat), i + k = 8 → wX_markOf_5 post (nI n) ff ft fl fr fc fo fp P U H C Z R E M D (k + 1) (oc_sm (oc_pt P n) i) (nI i) := by
  intro k
  induction k with
  | zero =>
    intro i hi
    have : i = 8 := by omega
    subst this
    rw [← (oc_mk_n (oc_pt P n)).1] at h
    exact br_t (nI_le (a := 8) (b := 8) (by omega) (by omega)) h
  | succ k ih =>
    intro i hi
    refine br_f (nI_ge (b := 8) (by omega) (by omega)) (And.intro (oc_ixi hn (by omega)) ?_)
    rw [oc_ixc hn (by omega)]
    unfold wpX_mix
    exact nm_r (nI_1 i) (ih (i + 1) (by omega))
theorem oc_markOf {post : Int32 → Prop} {n : Nat} (hn : n < 512) (h : post (nI (oc_mkN (oc_pt P n)))) : wpX_markOf post (ff, ft, fl, fr, fc, fo, fp, P, U, H, C, Z, R, E, M, D) (nI n) := (Exists.intro 9 (oc_mark5 hn h 8 0 rfl))
theorem oc_has2 {post : Int32 → Prop} {n : Nat} (hn : n < 512) (h1 : (∀ i, i < 8 → P (8 * n + i) = E i) → post 1) (h0 : ¬ (∀ i, i < 8 → P (8 * n + i) = E i) → post 0) : ∀ (k i : Nat), i + k = 8 → (∀ j, j < i → P (8 * n + j) = E j) → wX_hasEight_2 post (nI n) ff ft fl fr fc fo fp P U H C Z R E M D (k + 1) (nI i) := by
  intro k
  induction k with
  | zero =>
    intro i hi hs
    exact br_t (nI_le (a := 8) (by omega) (by omega)) (h1 fun j hj => hs j (by omega))
  | succ k ih =>
    intro i hi hs
    refine br_f (nI_ge (b := 8) (by omega) (by omega)) (And.intro (oc_ixi hn (by omega)) (And.intro (vp_in_nI (by omega) (by omega)) ?_))
    rw [oc_ixc hn (by omega), nI_clamp (by omega)]
    refine br_c (fun z => nm_r (nI_1 i) (ih (i + 1) (by omega) fun j hj => ?_)) (fun z => h0 fun q => z (q i (by omega)))
    by_cases q : j = i
    · rw [q]; exact z
    · exact hs j (by omega)
theorem oc_hasEight {post : Int32 → Prop} {n : Nat} (hn : n < 512) (h1 : (∀ i, i < 8 → P (8 * n + i) = E i) → post 1) (h0 : ¬ (∀ i, i < 8 → P (8 * n + i) = E i) → post 0) : wpX_hasEight post (ff, ft, fl, fr, fc, fo, fp, P, U, H, C, Z, R, E, M, D) (nI n) := (Exists.intro 9 (oc_has2 hn h1 h0 8 0 rfl fun j hj => absurd hj (Nat.not_lt_zero j)))

/-- the chain from x: the nodes of a list, one behind the other -/
def oc_lk (C : Nat → Int32) : Int32 → List Nat → Prop
  | x, [] => x = -1
  | x, n :: t => x = nI n ∧ oc_lk C (C n) t
theorem oc_lk_c {C C' : Nat → Int32} : ∀ (l : List Nat) (x : Int32), (∀ n, n ∈ l → C' n = C n) → oc_lk C x l → oc_lk C' x l := by
  intro l
  induction l with
  | nil => intro x _ h; exact h
  | cons n t ih =>
    intro x hc h
    refine ⟨h.1, ?_⟩
    rw [hc n (List.mem_cons_self ..)]
    exact ih _ (fun m hm => hc m (List.mem_cons_of_mem _ hm)) h.2
/-- the chains: each mark's list holds the nodes of Q with that mark, once each -/
def oc_ch (P : Nat → Int32) (Q : Nat → Prop) (H C : Nat → Int32) : Prop := ∀ h, h < 256 → ∃ l : List Nat, oc_lk C (H h) l ∧ l.Nodup ∧ ∀ n, n ∈ l ↔ (n < 512 ∧ Q n ∧ oc_mkN (oc_pt P n) = h)
theorem oc_ch_c {Q Q' : Nat → Prop} (h : oc_ch P Q H C) (hq : ∀ n, n < 512 → (Q n ↔ Q' n)) : oc_ch P Q' H C := by
  intro i hi
  obtain ⟨l, h1, h2, h3⟩ := h i hi
  refine ⟨l, h1, h2, fun n => ?_⟩
  rw [h3]
  constructor
  · rintro ⟨a, b, c⟩; exact ⟨a, (hq n a).mp b, c⟩
  · rintro ⟨a, b, c⟩; exact ⟨a, (hq n a).mpr b, c⟩
/-- a node set ahead of its chain -/
theorem oc_ch_ins {P' : Nat → Int32} {Q : Nat → Prop} {n : Nat} (h : oc_ch P Q H C) (hn : n < 512) (hq : ¬ Q n) (hP : ∀ j, j < 512 → Q j → ∀ i, i < 8 → P' (8 * j + i) = P (8 * j + i)) : oc_ch P' (fun j => Q j ∨ j = n) (upd H (oc_mkN (oc_pt P' n)) (nI n)) (upd C n (H (oc_mkN (oc_pt P' n)))) := by
  intro i hi
  obtain ⟨l, h1, h2, h3⟩ := h i hi
  have hnl : n ∉ l := fun z => hq ((h3 n).mp z).2.1
  have hcl : ∀ x : Int32, ∀ m, m ∈ l → upd C n x m = C m := fun x m hm => pk_un (fun z => hnl (z ▸ hm))
  have hmk : ∀ j, j < 512 → Q j → oc_mkN (oc_pt P' j) = oc_mkN (oc_pt P j) := fun j hj hq => oc_mk_c (fun i hi => hP j hj hq i hi)
  by_cases z : i = oc_mkN (oc_pt P' n)
  · refine ⟨n :: l, ?_, ?_, ?_⟩
    · rw [← z]
      refine ⟨pk_us, ?_⟩
      rw [pk_us]
      exact oc_lk_c l _ (hcl _) h1
    · exact List.nodup_cons.mpr ⟨hnl, h2⟩
    · intro m
      rw [List.mem_cons, h3]
      constructor
      · rintro (rfl | ⟨a, b, c⟩)
        · exact ⟨hn, Or.inr rfl, z.symm⟩
        · exact ⟨a, Or.inl b, (hmk m a b).trans c⟩
      · rintro ⟨a, b | b, c⟩
        · exact Or.inr ⟨a, b, (hmk m a b).symm.trans c⟩
        · exact Or.inl b
  · refine ⟨l, ?_, h2, ?_⟩
    · rw [pk_un z]
      exact oc_lk_c l _ (hcl _) h1
    · intro m
      rw [h3]
      constructor
      · rintro ⟨a, b, c⟩
        exact ⟨a, Or.inl b, (hmk m a b).trans c⟩
      · rintro ⟨a, b | b, c⟩
        · exact ⟨a, b, (hmk m a b).symm.trans c⟩
        · subst b; exact absurd c.symm z
theorem oc_ch_hd {Q : Nat → Prop} (h : oc_ch P Q H C) {i : Nat} (hi : i < 256) : vp_nar .short (H i) = H i := by
  obtain ⟨l, h1, h2, h3⟩ := h i hi
  cases l with
  | nil =>
    have e : H i = -1 := h1
    rw [e]; exact oc_shm
  | cons n t =>
    have e : H i = nI n := h1.1
    rw [e]
    exact oc_sh ((h3 n).mp (List.mem_cons_self ..)).1
theorem oc_len {l : List Nat} (h : l.Nodup) (hb : ∀ n, n ∈ l → n < 512) : l.length ≤ 512 := by
  have := List.Nodup.length_le_of_subset (l₂ := List.range 512) h (fun n hn => List.mem_range.mpr (hb n hn))
  rw [List.length_range] at this
  exact this
/-- how many of the first n are set -/
def oc_cnt (U : Nat → Int32) : Nat → Nat
  | 0 => 0
  | n + 1 => oc_cnt U n + if U n = 0 then 0 else 1
theorem oc_cnt_c {U U' : Nat → Int32} : ∀ n, (∀ j, j < n → (U j = 0 ↔ U' j = 0)) → oc_cnt U n = oc_cnt U' n := by
  intro n
  induction n with
  | zero => intro _; rfl
  | succ n ih =>
    intro h
    unfold oc_cnt
    rw [ih fun j hj => h j (by omega)]
    have := h n (by omega)
    by_cases z : U n = 0
    · rw [if_pos z, if_pos (this.mp z)]
    · rw [if_neg z, if_neg (fun q => z (this.mpr q))]
theorem oc_cnt_0 {U : Nat → Int32} : ∀ n, (∀ j, j < n → U j = 0) → oc_cnt U n = 0 := by
  intro n
  induction n with
  | zero => intro _; rfl
  | succ n ih =>
    intro h
    unfold oc_cnt
    rw [ih fun j hj => h j (by omega), if_pos (h n (by omega))]
theorem oc_cnt_le {U U' : Nat → Int32} {i : Nat} (h : ∀ j, j ≠ i → (U' j = 0 ↔ U j = 0)) : ∀ n, oc_cnt U' n ≤ oc_cnt U n + (if i < n then 1 else 0) := by
  intro n
  induction n with
  | zero => exact Nat.zero_le _
  | succ n ih =>
    unfold oc_cnt
    by_cases z : n = i
    · subst z
      rw [if_neg (Nat.lt_irrefl n)] at ih
      rw [if_pos (Nat.lt_succ_self n)]
      split <;> split <;> omega
    · have := h n z
      have e : (if U' n = 0 then 0 else 1) = (if U n = 0 then 0 else 1) := by
        by_cases q : U n = 0
        · rw [if_pos q, if_pos (this.mpr q)]
        · rw [if_neg q, if_neg (fun w => q (this.mp w))]
      rw [e]
      have : (if i < n then 1 else 0) ≤ (if i < n + 1 then 1 else 0) := by split <;> split <;> omega
      omega
theorem oc_cnt_u (U : Nat → Int32) (i : Nat) (x : Int32) (n : Nat) : oc_cnt (upd U i x) n ≤ oc_cnt U n + 1 := by
  have := oc_cnt_le (U := U) (U' := upd U i x) (i := i) (fun j hj => by rw [pk_un hj]) n
  have h2 : (if i < n then 1 else 0) ≤ 1 := by split <;> omega
  omega
theorem oc_cnt_s {U : Nat → Int32} {i : Nat} (h0 : U i = 0) {x : Int32} (hx : x ≠ 0) : ∀ n, oc_cnt (upd U i x) n = oc_cnt U n + (if i < n then 1 else 0) := by
  intro n
  induction n with
  | zero => rfl
  | succ n ih =>
    unfold oc_cnt
    rw [ih]
    by_cases z : n = i
    · subst z
      rw [pk_us, if_neg hx, if_pos h0, if_neg (Nat.lt_irrefl n), if_pos (Nat.lt_succ_self n)]
    · rw [pk_un z]
      have e : (if i < n then 1 else 0) = (if i < n + 1 then 1 else 0) := by split <;> split <;> omega
      rw [e]; omega
theorem oc_cnt_f {U : Nat → Int32} {f : Nat} (h : ∀ j, 2 ≤ j → j < f → U j ≠ 0) : ∀ n, n ≤ f → n ≤ oc_cnt U n + 2 := by
  intro n
  induction n with
  | zero => intro _; omega
  | succ n ih =>
    intro hn
    have := ih (by omega)
    unfold oc_cnt
    by_cases z : 2 ≤ n
    · rw [if_neg (h n z (by omega))]; omega
    · omega
theorem oc_cnt_m (U : Nat → Int32) (n : Nat) : ∀ d, oc_cnt U n ≤ oc_cnt U (n + d) := by
  intro d
  induction d with
  | zero => exact Nat.le_refl _
  | succ d ih =>
    show oc_cnt U n ≤ oc_cnt U (n + d) + _
    omega
/-- the state of the nodes while a tree is made -/
def oc_MI (P U H C : Nat → Int32) (f B : Nat) : Prop := oc_C P U ∧ oc_cnt U 512 ≤ B ∧ 2 ≤ f ∧ f ≤ 511 ∧ (∀ j, 2 ≤ j → j < f → U j ≠ 0) ∧ oc_ch P (fun n => U n ≠ 0) H C
end
end
section
/-! ===== create and make ===== -/
section
variable {ff ft fl fr fc fo fp : Int32} {P U H C Z R E M D : Nat → Int32}
/-- a new node's mathematics -/
theorem oc_new {P' : Nat → Int32} {f B n : Nat} (I : oc_MI P U H C f B) (hn2 : 2 ≤ n) (hn : n < 511) (hu : U n = 0) (hf : ∀ j, 2 ≤ j → j < n → U j ≠ 0) (hodd : ∀ v, v < 2 → ¬ ∀ i, i < 8 → E i = nI v) (hmiss : ∀ m, m < 512 → U m ≠ 0 → ¬ ∀ i, i < 8 → P (8 * m + i) = E i) (hP : ∀ i, i < 8 → P' (8 * n + i) = E i) (hk : ∀ j, (j < 8 * n ∨ 8 * n + 8 ≤ j) → P' j = P j) : oc_MI P' (upd U n 1) (upd H (oc_mkN E) (nI n)) (upd C n (H (oc_mkN E))) n (B + 1) ∧ oc_X P U P' (upd U n 1) := by
  obtain ⟨hC, hB, _, _, _, hch⟩ := I
  have hkeep : ∀ m, U m ≠ 0 → ∀ i, i < 8 → P' (8 * m + i) = P (8 * m + i) := by
    intro m hm i hi
    have : m ≠ n := fun z => hm (z ▸ hu)
    exact hk _ (by omega)
  have hus : ∀ m, upd U n 1 m ≠ 0 ↔ (U m ≠ 0 ∨ m = n) := by
    intro m
    by_cases z : m = n
    · subst z
      rw [pk_us]
      exact ⟨fun _ => Or.inr rfl, fun _ => by decide⟩
    · rw [pk_un z]
      exact ⟨Or.inl, fun h => h.resolve_right z⟩
  have hmk : oc_mkN (oc_pt P' n) = oc_mkN E := oc_mk_c (fun i hi => hP i hi)
  refine ⟨⟨?_, ?_, hn2, by omega, ?_, ?_⟩, ?_⟩
  · intro a ha hua
    rcases (hus a).mp hua with h | rfl
    · obtain ⟨c1, c2, c3⟩ := hC a ha h
      refine ⟨c1, fun v hv q => c2 v hv fun i hi => ?_, fun m hm hum q => ?_⟩
      · rw [← hkeep a h i hi]; exact q i hi
      · rcases (hus m).mp hum with h' | rfl
        · refine c3 m hm h' fun i hi => ?_
          rw [← hkeep a h i hi, ← hkeep m h' i hi]; exact q i hi
        · exfalso
          refine hmiss a ha h fun i hi => ?_
          rw [← hkeep a h i hi, q i hi, hP i hi]
    · refine ⟨hn2, fun v hv q => hodd v hv fun i hi => ?_, fun m hm hum q => ?_⟩
      · rw [← hP i hi]; exact q i hi
      · rcases (hus m).mp hum with h' | h'
        · exfalso
          refine hmiss m hm h' fun i hi => ?_
          rw [← hkeep m h' i hi, ← q i hi, hP i hi]
        · exact h'.symm
  · have := oc_cnt_u U n 1 512
    omega
  · intro j hj hjn
    exact (hus j).mpr (Or.inl (hf j hj hjn))
  · have h1 := oc_ch_ins (P' := P') (n := n) hch (by omega) (fun z => z hu) (fun j _ hj => hkeep j hj)
    rw [hmk] at h1
    exact oc_ch_c h1 fun m _ => (hus m).symm
  · intro m hm hum
    exact ⟨(hus m).mpr (Or.inl hum), hkeep m hum⟩
theorem oc_create49 {post : Int32 → SX → Prop} {P0 : Nat → Int32} {n h : Nat} (hn : n < 511) (hh : h < 256) (hsh : vp_nar .short (H h) = H h) (hE : ∀ i, i < 8 → ∃ e, e < 512 ∧ E i = nI e) (K : ∀ P', (∀ i, i < 8 → P' (8 * n + i) = E i) → (∀ j, (j < 8 * n ∨ 8 * n + 8 ≤ j) → P' j = P0 j) → post (nI n) (ff, ft, fl, fr, fc, fo, fp, P', U, upd H h (nI n), upd C n (H h), Z, R, E, M, D)) : ∀ (k i : Nat) (P : Nat → Int32), i + k = 8 → (∀ j, j < i → P (8 * n + j) = E j) → (∀ j, (j < 8 * n ∨ 8 * n + 8 ≤ j) → P j = P0 j) → wX_create_49 post (nI h) (nI n) ff ft fl fr fc fo fp (k + 1) (nI i) P U H C Z R E M D := by
  intro k
  induction k with
  | zero =>
    intro i P hi h1 h2
    refine br_t (nI_le (a := 8) (by omega) (by omega)) (And.intro (vp_in_nI hh (by omega)) (And.intro (vp_in_nI (by omega) (by omega)) ?_))
    rw [nI_clamp (by omega), nI_clamp (by omega), hsh, oc_sh2 (by omega)]
    exact nm_e (And.intro (vp_in_nI hh (by omega)) (nm_e (K P (fun j hj => h1 j (by omega)) h2)))
  | succ k ih =>
    intro i P hi h1 h2
    refine br_f (nI_ge (b := 8) (by omega) (by omega)) (And.intro (vp_in_nI (by omega) (by omega)) (And.intro (oc_ixi (by omega) (by omega)) ?_))
    obtain ⟨e, he, hEi⟩ := hE i (by omega)
    rw [oc_ixc (by omega) (by omega), nI_clamp (by omega), hEi, oc_sh he, ← hEi]
    refine nm_e (nm_r (nI_1 i) (ih (i + 1) _ (by omega) (fun j hj => ?_) (fun j hj => ?_)))
    · by_cases q : j = i
      · rw [q]; exact pk_us
      · rw [pk_un (by omega)]; exact h1 j (by omega)
    · rw [pk_un (by omega)]; exact h2 j hj
theorem oc_create0 {post : Int32 → SX → Prop} {x1 : Int32} {B : Nat} (hB : oc_cnt U 512 ≤ B) (hB5 : B < 500) (K : ∀ f, 2 ≤ f → f < 511 → U f = 0 → (∀ j, 2 ≤ j → j < f → U j ≠ 0) → wX_create_35 post x1 (nI f) ft fl fr fc fo fp P U H C Z R E M D) : ∀ (k f : Nat), f + k = 511 → 2 ≤ f → (∀ j, 2 ≤ j → j < f → U j ≠ 0) → wX_create_0 post x1 ft fl fr fc fo fp P U H C Z R E M D (k + 1) (nI f) := by
  intro k
  induction k with
  | zero =>
    intro f hf h2 hj
    exfalso
    have h1 := oc_cnt_f hj f (Nat.le_refl f)
    have h3 := oc_cnt_m U f (512 - f)
    rw [show f + (512 - f) = 512 from by omega] at h3
    omega
  | succ k ih =>
    intro f hf h2 hj
    refine br_f (nI_ge (b := 511) (by omega) (by omega)) (And.intro (vp_in_nI (by omega) (by omega)) ?_)
    rw [nI_clamp (by omega)]
    refine br_c (fun z => K f h2 (by omega) z hj) (fun z => nm_r (nI_1 f) (ih (f + 1) (by omega) (by omega) fun j h h' => ?_))
    by_cases q : j = f
    · rw [q]; exact z
    · exact hj j h (by omega)
theorem oc_create {post : Int32 → SX → Prop} {f B : Nat} (I : oc_MI P U H C f B) (hB5 : B < 500) (hE : ∀ i, i < 8 → ∃ e, e < 512 ∧ E i = nI e) (hodd : ∀ v, v < 2 → ¬ ∀ i, i < 8 → E i = nI v) (hmiss : ∀ m, m < 512 → U m ≠ 0 → ¬ ∀ i, i < 8 → P (8 * m + i) = E i) (K : ∀ n P' U' H' C' f', oc_MI P' U' H' C' f' (B + 1) → oc_X P U P' U' → 2 ≤ n → n < 512 → U' n ≠ 0 → (∀ i, i < 8 → P' (8 * n + i) = E i) → post (nI n) (nI f', ft, fl, fr, fc, fo, fp, P', U', H', C', Z, R, E, M, D)) : wpX_create post (nI f, ft, fl, fr, fc, fo, fp, P, U, H, C, Z, R, E, M, D) (nI (oc_mkN E)) := by
  refine (Exists.intro (511 - f + 1) ?_)
  have hh := (oc_mk_n E).2
  refine oc_create0 I.2.1 hB5 (fun n h2 hn hu hj => ?_) (511 - f) f (by have := I.2.2.2.1; omega) I.2.2.1 I.2.2.2.2.1
  refine (And.intro (vp_in_nI (by omega) (by omega)) ?_)
  rw [nI_clamp (by omega), oc_b1]
  refine nm_e (Exists.intro 9 ?_)
  refine oc_create49 (P0 := P) hn hh (oc_ch_hd I.2.2.2.2.2 hh) hE (fun P' h1 h2' => ?_) 8 0 P rfl (fun j hj => absurd hj (Nat.not_lt_zero j)) (fun j _ => rfl)
  obtain ⟨m1, m2⟩ := oc_new I h2 hn hu hj hodd hmiss h1 h2'
  exact K n P' _ _ _ n m1 m2 h2 (by omega) (by rw [pk_us]; decide) h1
theorem oc_mk102 {post : Int32 → SX → Prop} {h : Nat} (hit : ∀ n, n < 512 → U n ≠ 0 → (∀ i, i < 8 → P (8 * n + i) = E i) → post (nI n) (ff, ft, fl, fr, fc, fo, fp, P, U, H, C, Z, R, E, M, D)) : ∀ (l : List Nat) (x : Int32) (s : Nat), oc_lk C x l → (∀ n, n ∈ l → n < 512 ∧ U n ≠ 0) → s + l.length ≤ 512 → ((∀ n, n ∈ l → ¬ ∀ i, i < 8 → P (8 * n + i) = E i) → wX_make_142 post (nI h) ff ft fl fr fc fo fp P U H C Z R E M D) → wX_make_102 post (nI h) ff ft fl fr fc fo fp P U H C Z R E M D (l.length + 1) x (nI s) := by
  intro l
  induction l with
  | nil =>
    intro x s hl _ _ hm
    have e : x = -1 := hl
    subst e
    have hm' := hm (fun n hn => absurd hn (List.not_mem_nil))
    exact br_c (fun _ => hm') (fun _ => br_t (by decide) hm')
  | cons n t ih =>
    intro x s hl hb hs hm
    obtain ⟨e, hl'⟩ := hl
    subst e
    obtain ⟨hn, hu⟩ := hb n (List.mem_cons_self ..)
    rw [List.length_cons] at hs
    refine br_f (nI_ge (b := 512) (by omega) (by omega)) (br_f (nI_pos (by omega)) ?_)
    refine oc_hasEight hn (fun z => br_f (by decide) (hit n hn hu z)) (fun z => br_t rfl (And.intro (vp_in_nI hn (by omega)) ?_))
    rw [nI_clamp (by omega)]
    refine nm_e (nm_r (nI_1 s) (ih (C n) (s + 1) hl' (fun m hm => hb m (List.mem_cons_of_mem _ hm)) (by omega) (fun q => hm fun m hm' => ?_)))
    rcases List.mem_cons.mp hm' with rfl | w
    · exact z
    · exact q m w
theorem oc_mk21 {post : Int32 → SX → Prop} {e0 : Nat} (hev : e0 < 2 → (∀ i, i < 8 → E i = E 0) → post (E 0) (ff, ft, fl, fr, fc, fo, fp, P, U, H, C, Z, R, E, M, D)) (hodd : ¬ (e0 < 2 ∧ ∀ i, i < 8 → E i = E 0) → ∃ n, wX_make_102 post (nI (oc_mkN E)) ff ft fl fr fc fo fp P U H C Z R E M D n (H (oc_mkN E)) 0) : ∀ (k i : Nat) (x2 : Int32), i + k = 8 → (x2 = 1 ∧ (e0 < 2 ∧ ∀ j, j < i → E j = E 0) ∨ x2 = 0 ∧ ¬ (e0 < 2 ∧ ∀ j, j < i → E j = E 0)) → wX_make_21 post ff ft fl fr fc fo fp P U H C Z R E M D (k + 1) (oc_sm E i) x2 (nI i) := by
  intro k
  induction k with
  | zero =>
    intro i x2 hi hx
    have : i = 8 := by omega
    subst this
    refine br_t (nI_le (a := 8) (b := 8) (by omega) (by omega)) ?_
    rcases hx with ⟨rfl, h1, h2⟩ | ⟨rfl, h⟩
    · exact br_f (by decide) (hev h1 h2)
    · refine br_t rfl (nm_r (e' := nI (oc_mkN E)) (oc_mk_n E).1 (And.intro (vp_in_nI (oc_mk_n E).2 (by omega)) ?_))
      rw [nI_clamp (by have := (oc_mk_n E).2; omega)]
      exact nm_e (hodd h)
  | succ k ih =>
    intro i x2 hi hx
    refine br_f (nI_ge (b := 8) (by omega) (by omega)) (And.intro (vp_in_nI (by omega) (by omega)) ?_)
    unfold wpX_mix
    rw [nI_clamp (by omega)]
    rcases hx with ⟨rfl, h1, h2⟩ | ⟨rfl, h⟩
    · refine br_f (by decide) (And.intro (vp_in_nI (by omega) (by omega)) ?_)
      refine br_c (fun z => nm_r (nI_1 i) (ih (i + 1) 1 (by omega) (Or.inl ⟨rfl, h1, fun j hj => ?_⟩))) (fun z => nm_r (nI_1 i) (ih (i + 1) 0 (by omega) (Or.inr ⟨rfl, fun q => z (q.2 i (by omega))⟩)))
      by_cases q : j = i
      · rw [q]; exact z
      · exact h2 j (by omega)
    · exact br_t rfl (nm_r (nI_1 i) (ih (i + 1) 0 (by omega) (Or.inr ⟨rfl, fun q => h ⟨q.1, fun j hj => q.2 j (by omega)⟩⟩)))
/-- make: the node with the eight parts at hand -/
theorem oc_make {post : Int32 → SX → Prop} {f B : Nat} {e : Nat → Nat} (I : oc_MI P U H C f B) (hB5 : B < 500) (hE : ∀ i, i < 8 → e i < 512 ∧ E i = nI (e i)) (K : ∀ n P' U' H' C' f', oc_MI P' U' H' C' f' (B + 1) → oc_X P U P' U' → n < 512 → (n < 2 ∧ (∀ i, i < 8 → e i = n) ∨ 2 ≤ n ∧ U' n ≠ 0 ∧ ∀ i, i < 8 → P' (8 * n + i) = nI (e i)) → post (nI n) (nI f', ft, fl, fr, fc, fo, fp, P', U', H', C', Z, R, E, M, D)) : wpX_make post (nI f, ft, fl, fr, fc, fo, fp, P, U, H, C, Z, R, E, M, D) := by
  have h0 := hE 0 (by decide)
  have hE0 := h0.2
  have IB : oc_MI P U H C f (B + 1) := ⟨I.1, Nat.le_succ_of_le I.2.1, I.2.2⟩
  have hev : e 0 < 2 → (∀ i, i < 8 → E i = E 0) → post (E 0) (nI f, ft, fl, fr, fc, fo, fp, P, U, H, C, Z, R, E, M, D) := by
    intro h1 h2
    rw [hE0]
    refine K (e 0) P U H C f IB oc_X_rfl h0.1 (Or.inl ⟨h1, fun i hi => ?_⟩)
    have := h2 i hi
    have hi' := hE i hi
    rw [hi'.2, hE0, nI_eq (by omega) (by omega)] at this
    exact this
  have hodd : ¬ (e 0 < 2 ∧ ∀ i, i < 8 → E i = E 0) → ∃ n, wX_make_102 post (nI (oc_mkN E)) (nI f) ft fl fr fc fo fp P U H C Z R E M D n (H (oc_mkN E)) 0 := by
    intro hno
    obtain ⟨l, l1, l2, l3⟩ := I.2.2.2.2.2 (oc_mkN E) (oc_mk_n E).2
    refine (Exists.intro (l.length + 1) ?_)
    refine oc_mk102 (fun n hn hu z => ?_) l _ 0 l1 (fun n hn => ⟨((l3 n).mp hn).1, ((l3 n).mp hn).2.1⟩) (by have := oc_len l2 (fun n hn => ((l3 n).mp hn).1); omega) (fun z => ?_)
    · refine K n P U H C f IB oc_X_rfl hn (Or.inr ⟨(I.1 n hn hu).1, hu, fun i hi => ?_⟩)
      rw [z i hi, (hE i hi).2]
    · unfold wX_make_142
      refine oc_create I hB5 (fun i hi => ⟨e i, hE i hi⟩) (fun v hv q => hno ?_) (fun m hm hu q => ?_) (fun n P' U' H' C' f' m1 m2 m3 m4 m5 m6 => ?_)
      · have hq := q 0 (by decide)
        have e0v : e 0 = v := by
          rw [hE0, nI_eq (by omega) (by omega)] at hq
          exact hq
        refine ⟨by omega, fun i hi => ?_⟩
        rw [q i hi, q 0 (by decide)]
      · exact z m ((l3 m).mpr ⟨hm, hu, oc_mk_c (fun i hi => q i hi)⟩) q
      · refine K n P' U' H' C' f' m1 m2 m4 (Or.inr ⟨m3, m5, fun i hi => ?_⟩)
        rw [m6 i hi, (hE i hi).2]
  unfold wpX_make
  dsimp only
  rw [hE0]
  refine pk_lt 1 (e 0) (fun z => (Exists.intro 9 ?_)) (fun z => (Exists.intro 9 ?_))
  · exact oc_mk21 hev hodd 8 0 0 rfl (Or.inr ⟨rfl, fun q => by omega⟩)
  · exact oc_mk21 hev hodd 8 0 1 rfl (Or.inl ⟨rfl, by omega, fun j hj => absurd hj (Nat.not_lt_zero j)⟩)
/-- what make gives is a valid node with the parts at hand -/
theorem oc_made {P' U' : Nat → Int32} {n k : Nat} {e : Nat → Nat} (X : oc_X P U P' U') (hn : n < 512) (h : n < 2 ∧ (∀ i, i < 8 → e i = n) ∨ 2 ≤ n ∧ U' n ≠ 0 ∧ ∀ i, i < 8 → P' (8 * n + i) = nI (e i)) (hV : ∀ i, i < 8 → oc_V P U k (e i)) : oc_V P' U' (k + 1) n ∧ ∀ i, i < 8 → oc_st P' n i = e i := by
  rcases h with ⟨h1, h2⟩ | ⟨h1, h2, h3⟩
  · exact ⟨oc_V_e _ h1, fun i hi => by rw [oc_st_e h1, h2 i hi]⟩
  · refine ⟨Or.inr ⟨hn, h2, fun i hi => ⟨e i, h3 i hi, oc_X_V X (hV i hi)⟩⟩, fun i hi => ?_⟩
    have h5 := oc_V_512 (hV i hi)
    unfold oc_st
    rw [if_neg (by omega), h3 i hi, nI_clamp (by omega)]
end
end
section
/-! ===== clearChains, markFrom, sweep ===== -/
section
variable {ff ft fl fr fc fo fp : Int32} {P U H C Z R E M D : Nat → Int32}
theorem oc_clear2 {post : SX → Prop} (K : ∀ H', (∀ h, h < 256 → H' h = -1) → post (ff, ft, fl, fr, fc, fo, fp, P, U, H', C, Z, R, E, M, D)) : ∀ (k i : Nat) (H : Nat → Int32), i + k = 256 → (∀ h, h < i → H h = -1) → wX_clearChains_2 post ff ft fl fr fc fo fp (k + 1) (nI i) P U H C Z R E M D := by
  intro k
  induction k with
  | zero =>
    intro i H hi h
    exact br_t (nI_le (a := 256) (by omega) (by omega)) (K H fun j hj => h j (by omega))
  | succ k ih =>
    intro i H hi h
    refine br_f (nI_ge (b := 256) (by omega) (by omega)) (And.intro (vp_in_nI (by omega) (by omega)) ?_)
    rw [nI_clamp (by omega), oc_shm]
    refine nm_e (nm_r (nI_1 i) (ih (i + 1) _ (by omega) fun j hj => ?_))
    by_cases q : j = i
    · rw [q]; exact pk_us
    · rw [pk_un q]; exact h j (by omega)
theorem oc_clear {post : SX → Prop} (K : ∀ H', (∀ h, h < 256 → H' h = -1) → post (ff, ft, fl, fr, fc, fo, fp, P, U, H', C, Z, R, E, M, D)) : wpX_clearChains post (ff, ft, fl, fr, fc, fo, fp, P, U, H, C, Z, R, E, M, D) := (Exists.intro 257 (oc_clear2 K 256 0 H rfl fun j hj => absurd hj (Nat.not_lt_zero j)))
/-- marks from T to T': nothing lost, nothing beyond V, at most d more -/
def oc_MR (V T T' : Nat → Int32) (d : Nat) : Prop := (∀ j, j < 512 → T j ≠ 0 → T' j ≠ 0) ∧ (∀ j, j < 512 → T' j ≠ 0 → T j ≠ 0 ∨ V j ≠ 0) ∧ oc_cnt T' 512 ≤ oc_cnt T 512 + d
theorem oc_MR_0 {V T : Nat → Int32} : oc_MR V T T 0 := ⟨fun _ _ h => h, fun _ _ h => Or.inl h, Nat.le_refl _⟩
theorem oc_MR_t {V T T' T2 : Nat → Int32} {d d' : Nat} (h : oc_MR V T T' d) (g : oc_MR V T' T2 d') : oc_MR V T T2 (d + d') := by
  obtain ⟨a, b, c⟩ := h
  obtain ⟨a', b', c'⟩ := g
  refine ⟨fun j hj z => a' j hj (a j hj z), fun j hj z => ?_, by omega⟩
  rcases b' j hj z with z | z
  · exact b j hj z
  · exact Or.inr z
theorem oc_MR_w {V T T' : Nat → Int32} {d d' : Nat} (h : oc_MR V T T' d) (hd : d ≤ d') : oc_MR V T T' d' := ⟨h.1, h.2.1, by have := h.2.2; omega⟩
theorem oc_MR_1 {V T : Nat → Int32} {n : Nat} (h : T n ≠ 0 ∨ V n ≠ 0) : oc_MR V T (upd T n 1) 1 := by
  refine ⟨fun j _ z => ?_, fun j _ z => ?_, oc_cnt_u T n 1 512⟩
  · by_cases q : j = n
    · rw [q, pk_us]; decide
    · rw [pk_un q]; exact z
  · by_cases q : j = n
    · rw [q]; exact h
    · rw [pk_un q] at z; exact Or.inl z
theorem oc_MR_00 {V T : Nat → Int32} {n : Nat} (h : T n = 0) : oc_MR V T (upd T n 0) 1 := by
  refine ⟨fun j _ z => ?_, fun j _ z => ?_, oc_cnt_u T n 0 512⟩
  · by_cases q : j = n
    · rw [q] at z; exact absurd h z
    · rw [pk_un q]; exact z
  · by_cases q : j = n
    · rw [q, pk_us] at z; exact absurd rfl z
    · rw [pk_un q] at z; exact Or.inl z
theorem oc_MR_V {V T T' : Nat → Int32} {d k n : Nat} (h : oc_MR V T T' d) (hn : oc_V P T k n) : oc_V P T' k n := oc_X_V (fun j hj z => ⟨h.1 j hj z, fun _ _ => rfl⟩) hn
/-- a valid node of order k + 1 that is marked, its parts valid under the marks -/
theorem oc_V_mk {V T : Nat → Int32} {k n : Nat} (h : oc_V P V (k + 1) n) (ht : ¬ n < 2 → T n ≠ 0) (hp : ¬ n < 2 → ∀ i, i < 8 → oc_V P T k (oc_st P n i)) : oc_V P T (k + 1) n := by
  by_cases z : n < 2
  · exact Or.inl z
  · exact Or.inr ⟨oc_V_512 h, ht z, fun i hi => ⟨oc_st P n i, oc_V_rd h z hi, hp z i hi⟩⟩
theorem oc_mf48 {post : SX → Prop} {V U0 : Nat → Int32} {J : Int32 → (Nat → Int32) → (Nat → Int32) → (Nat → Int32) → (Nat → Int32) → (Nat → Int32) → (Nat → Int32) → (Nat → Int32) → (Nat → Int32) → (Nat → Int32) → Prop} {x1 : Int32} {i p : Nat} (hV : oc_V P V 2 p) (hp : ¬ p < 2) (K : ∀ U', oc_MR V U0 U' 8 → (∀ j, j < 8 → oc_V P U' 1 (oc_st P p j)) → J (nI (i + 1)) P U' H C Z R E M D) : ∀ (k j : Nat) (U : Nat → Int32), j + k = 8 → oc_MR V U0 U j → (∀ q, q < j → oc_V P U 1 (oc_st P p q)) → wX_markFrom_48 post J x1 (nI i) (nI p) ff ft fl fr fc fo fp (k + 1) (nI j) P U H C Z R E M D := by
  intro k
  induction k with
  | zero =>
    intro j U hj hM hq
    have : j = 8 := by omega
    subst this
    exact br_t (nI_le (a := 8) (b := 8) (by omega) (by omega)) (nm_r (nI_1 i) (K U hM hq))
  | succ k ih =>
    intro j U hj hM hq
    have h5 := oc_V_512 hV
    refine br_f (nI_ge (b := 8) (by omega) (by omega)) (And.intro (oc_ixi h5 (by omega)) ?_)
    rw [oc_ixc h5 (by omega), oc_V_rd hV hp (d := j) (by omega)]
    have hs := oc_V_st hV (d := j) (by omega)
    have hs5 := oc_V_512 hs
    have stp : ∀ U', oc_MR V U U' 1 → (¬ oc_st P p j < 2 → U' (oc_st P p j) ≠ 0) → wX_markFrom_48 post J x1 (nI i) (nI p) ff ft fl fr fc fo fp (k + 1) (nI (j + 1)) P U' H C Z R E M D := by
      intro U' hm hz
      refine ih (j + 1) U' (by omega) (oc_MR_t hM hm) fun q hq' => ?_
      by_cases e : q = j
      · rw [e]
        exact oc_V_mk hs hz fun z i hi => (show oc_V P V 0 (oc_st P (oc_st P p j) i) from oc_V_st hs hi)
      · exact oc_MR_V hm (hq q (by omega))
    refine nm_e (And.intro (vp_in_nI hs5 (by omega)) ?_)
    rw [nI_clamp (by omega), oc_b0, oc_b1]
    refine br_c (fun z => pk_lt (oc_st P p j) 2 (fun w => (And.intro (vp_in_nI hs5 (by omega)) (nm_e (nm_r (nI_1 j) (stp _ (oc_MR_00 z) (fun w' => absurd w w')))))) (fun w => (And.intro (vp_in_nI hs5 (by omega)) (nm_e (nm_r (nI_1 j) (stp _ (oc_MR_1 (Or.inr (oc_V_us hs (by omega)))) (fun _ => by rw [pk_us]; decide))))))) (fun z => (And.intro (vp_in_nI hs5 (by omega)) (nm_e (nm_r (nI_1 j) (stp _ (oc_MR_1 (Or.inl z)) (fun _ => by rw [pk_us]; decide))))))
theorem oc_mf15 {post : SX → Prop} {V U0 : Nat → Int32} {n : Nat} (hV : oc_V P V 3 n) (hn : ¬ n < 2) (hU0 : U0 n ≠ 0) (K : ∀ U', oc_MR V U0 U' 72 → oc_V P U' 3 n → post (ff, ft, fl, fr, fc, fo, fp, P, U', H, C, Z, R, E, M, D)) : ∀ (k i : Nat) (U : Nat → Int32), i + k = 8 → oc_MR V U0 U (9 * i) → (∀ q, q < i → oc_V P U 2 (oc_st P n q)) → wX_markFrom_15 post (nI n) ff ft fl fr fc fo fp (k + 1) (nI i) P U H C Z R E M D := by
  intro k
  induction k with
  | zero =>
    intro i U hi hM hq
    have : i = 8 := by omega
    subst this
    exact br_t (nI_le (a := 8) (b := 8) (by omega) (by omega)) (K U hM (oc_V_mk hV (fun _ => hM.1 n (oc_V_512 hV) hU0) fun _ => hq))
  | succ k ih =>
    intro i U hi hM hq
    have h5 := oc_V_512 hV
    refine br_f (nI_ge (b := 8) (by omega) (by omega)) (And.intro (oc_ixi h5 (by omega)) ?_)
    rw [oc_ixc h5 (by omega), oc_V_rd hV hn (d := i) (by omega)]
    have hs := oc_V_st hV (d := i) (by omega)
    have hs5 := oc_V_512 hs
    have stp : ∀ U', oc_MR V U U' 9 → oc_V P U' 2 (oc_st P n i) → wX_markFrom_15 post (nI n) ff ft fl fr fc fo fp (k + 1) (nI (i + 1)) P U' H C Z R E M D := by
      intro U' hm hz
      refine ih (i + 1) U' (by omega) (oc_MR_t hM hm) fun q hq' => ?_
      by_cases e : q = i
      · rw [e]; exact hz
      · exact oc_MR_V hm (hq q (by omega))
    refine nm_e (pk_lt (oc_st P n i) 2 (fun z => nm_r (nI_1 i) (stp U (oc_MR_w oc_MR_0 (by omega)) (oc_V_e 2 z))) (fun z => (And.intro (vp_in_nI hs5 (by omega)) ?_)))
    rw [nI_clamp (by omega), oc_b1]
    have z' : ¬ oc_st P n i < 2 := by omega
    have m1 : oc_MR V U (upd U (oc_st P n i) 1) 1 := oc_MR_1 (Or.inr (oc_V_us hs z'))
    refine nm_e (Exists.intro 9 ?_)
    refine oc_mf48 (V := V) (U0 := upd U (oc_st P n i) 1) hs z' (fun U' hm hq' => stp U' (oc_MR_t m1 hm) ?_) 8 0 _ rfl oc_MR_0 (fun q hq => absurd hq (Nat.not_lt_zero q))
    exact oc_V_mk hs (fun _ => hm.1 _ hs5 (by rw [pk_us]; decide)) fun _ => hq'
theorem oc_markFrom {post : SX → Prop} {V : Nat → Int32} {n : Nat} (hV : oc_V P V 3 n) (K : ∀ U', oc_MR V U U' 73 → oc_V P U' 3 n → post (ff, ft, fl, fr, fc, fo, fp, P, U', H, C, Z, R, E, M, D)) : wpX_markFrom post (ff, ft, fl, fr, fc, fo, fp, P, U, H, C, Z, R, E, M, D) (nI n) := by
  have h5 := oc_V_512 hV
  refine pk_le 2 n (fun z => (And.intro (vp_in_nI h5 (by omega)) ?_)) (fun z => K U (oc_MR_w oc_MR_0 (by omega)) (oc_V_e 3 z))
  rw [nI_clamp (by omega), oc_b1]
  have m1 : oc_MR V U (upd U n 1) 1 := oc_MR_1 (Or.inr (oc_V_us hV (by omega)))
  refine nm_e (Exists.intro 9 ?_)
  exact oc_mf15 (V := V) (U0 := upd U n 1) hV (by omega) (by rw [pk_us]; decide) (fun U' hm hv => K U' (oc_MR_w (oc_MR_t m1 hm) (by omega)) hv) 8 0 _ rfl oc_MR_0 (fun q hq => absurd hq (Nat.not_lt_zero q))
theorem oc_sw51 {post : SX → Prop} (K : ∀ H' C', oc_ch P (fun n => 2 ≤ n ∧ U n ≠ 0) H' C' → post (2, ft, fl, fr, fc, fo, fp, P, U, H', C', Z, R, E, M, D)) : ∀ (k i : Nat) (H C : Nat → Int32), i + k = 512 → 2 ≤ i → oc_ch P (fun n => 2 ≤ n ∧ n < i ∧ U n ≠ 0) H C → wX_sweep_51 post ff ft fl fr fc fo fp (k + 1) (nI i) P U H C Z R E M D := by
  intro k
  induction k with
  | zero =>
    intro i H C hi h2 hc
    refine br_t (nI_le (a := 512) (by omega) (by omega)) (K H C (oc_ch_c hc fun n hn => ?_))
    exact ⟨fun w => ⟨w.1, w.2.2⟩, fun w => ⟨w.1, by omega, w.2⟩⟩
  | succ k ih =>
    intro i H C hi h2 hc
    refine br_f (nI_ge (b := 512) (by omega) (by omega)) (And.intro (vp_in_nI (by omega) (by omega)) ?_)
    rw [nI_clamp (by omega)]
    refine br_c (fun z => nm_r (nI_1 i) (ih (i + 1) H C (by omega) (by omega) (oc_ch_c hc fun n hn => ?_))) (fun z => oc_markOf (by omega) ?_)
    · refine ⟨fun w => ⟨w.1, by omega, w.2.2⟩, fun w => ⟨w.1, ?_, w.2.2⟩⟩
      have : n ≠ i := fun q => w.2.2 (q ▸ z)
      omega
    · have hh := (oc_mk_n (oc_pt P i)).2
      refine (And.intro (vp_in_nI hh (by omega)) (And.intro (vp_in_nI (by omega) (by omega)) ?_))
      rw [nI_clamp (by omega), oc_ch_hd hc hh, oc_sh2 (by omega)]
      refine nm_e (And.intro (vp_in_nI hh (by omega)) (nm_e (nm_r (nI_1 i) (ih (i + 1) _ _ (by omega) (by omega) ?_))))
      refine oc_ch_c (oc_ch_ins (P' := P) (n := i) hc (by omega) (fun w => absurd w.2.1 (Nat.lt_irrefl i)) (fun _ _ _ _ _ => rfl)) fun n hn => ?_
      constructor
      · rintro (w | w)
        · exact ⟨w.1, by omega, w.2.2⟩
        · subst w; exact ⟨h2, by omega, z⟩
      · intro w
        by_cases q : n = i
        · exact Or.inr q
        · exact Or.inl ⟨w.1, by omega, w.2.2⟩
theorem oc_sw24 {post : SX → Prop} {V U0 : Nat → Int32} {ro : Nat → Nat} (hR : ∀ r, r < 4 → R r = nI (ro r) ∧ oc_V P V 3 (ro r)) (K : ∀ U' H' C', oc_MR V U0 U' 292 → (∀ r, r < 4 → oc_V P U' 3 (ro r)) → oc_ch P (fun n => 2 ≤ n ∧ U' n ≠ 0) H' C' → post (2, ft, fl, fr, fc, fo, fp, P, U', H', C', Z, R, E, M, D)) : ∀ (k r : Nat) (U : Nat → Int32), r + k = 4 → oc_MR V U0 U (73 * r) → (∀ q, q < r → oc_V P U 3 (ro q)) → wX_sweep_24 post (k + 1) (nI r) ff ft fl fr fc fo fp P U H C Z R E M D := by
  intro k
  induction k with
  | zero =>
    intro r U hr hM hq
    have : r = 4 := by omega
    subst this
    refine br_t (nI_le (a := 4) (b := 4) (by omega) (by omega)) (oc_clear fun H' hH => (Exists.intro 511 ?_))
    refine oc_sw51 (K U · · hM hq) 510 2 H' C rfl (by omega) fun h hh => ⟨[], hH h hh, List.nodup_nil, fun n => ?_⟩
    refine ⟨fun w => absurd w (List.not_mem_nil), fun w => ?_⟩
    have := w.2.1
    omega
  | succ k ih =>
    intro r U hr hM hq
    refine br_f (nI_ge (b := 4) (by omega) (by omega)) (And.intro (vp_in_nI (by omega) (by omega)) ?_)
    rw [nI_clamp (by omega), (hR r (by omega)).1]
    refine oc_markFrom (hR r (by omega)).2 (fun U' hm hv => nm_r (nI_1 r) (ih (r + 1) U' (by omega) (oc_MR_t hM hm) fun q hq' => ?_))
    by_cases e : q = r
    · rw [e]; exact hv
    · exact oc_MR_V hm (hq q (by omega))
theorem oc_sw2 {post : SX → Prop} (K : ∀ U', (∀ j, j < 512 → U' j = 0) → ∃ n, wX_sweep_24 post n 0 ff ft fl fr fc fo fp P U' H C Z R E M D) : ∀ (k i : Nat) (U : Nat → Int32), i + k = 512 → (∀ j, j < i → U j = 0) → wX_sweep_2 post ff ft fl fr fc fo fp (k + 1) (nI i) P U H C Z R E M D := by
  intro k
  induction k with
  | zero =>
    intro i U hi h
    exact br_t (nI_le (a := 512) (by omega) (by omega)) (K U fun j hj => h j (by omega))
  | succ k ih =>
    intro i U hi h
    refine br_f (nI_ge (b := 512) (by omega) (by omega)) (And.intro (vp_in_nI (by omega) (by omega)) ?_)
    rw [nI_clamp (by omega), oc_b0]
    refine nm_e (nm_r (nI_1 i) (ih (i + 1) _ (by omega) fun j hj => ?_))
    by_cases q : j = i
    · rw [q]; exact pk_us
    · rw [pk_un q]; exact h j (by omega)
/-- sweep: the nodes that the solids have, chained anew -/
theorem oc_sweep {post : SX → Prop} {ro : Nat → Nat} (hC : oc_C P U) (hR : ∀ r, r < 4 → R r = nI (ro r) ∧ oc_V P U 3 (ro r)) (K : ∀ U' H' C', oc_MI P U' H' C' 2 292 → (∀ r, r < 4 → oc_V P U' 3 (ro r)) → post (nI 2, ft, fl, fr, fc, fo, fp, P, U', H', C', Z, R, E, M, D)) : wpX_sweep post (ff, ft, fl, fr, fc, fo, fp, P, U, H, C, Z, R, E, M, D) := by
  refine (Exists.intro 513 ?_)
  refine oc_sw2 (fun T hT => (Exists.intro 5 ?_)) 512 0 U rfl fun j hj => absurd hj (Nat.not_lt_zero j)
  refine oc_sw24 (V := U) (U0 := T) hR (fun U' H' C' hM hV hc => ?_) 4 0 T rfl oc_MR_0 (fun q hq => absurd hq (Nat.not_lt_zero q))
  have hsub : ∀ j, j < 512 → U' j ≠ 0 → U j ≠ 0 := fun j hj z => (hM.2.1 j hj z).resolve_left (fun w => w (hT j hj))
  refine K U' H' C' ⟨fun n hn hu => ?_, ?_, Nat.le_refl 2, by omega, fun j h h' => by omega, oc_ch_c hc fun n hn => ?_⟩ hV
  · obtain ⟨c1, c2, c3⟩ := hC n hn (hsub n hn hu)
    exact ⟨c1, c2, fun m hm hum => c3 m hm (hsub m hm hum)⟩
  · have := hM.2.2
    rw [oc_cnt_0 512 hT] at this
    omega
  · exact ⟨fun w => w.2, fun w => ⟨(hC n hn (hsub n hn w)).1, w⟩⟩
end
end
section
/-! ===== build ===== -/
section
variable {ff ft fl fr fc fo fp : Int32} {P U H C Z R E M D : Nat → Int32}
variable {P' U' A : Nat → Int32} {g : Nat → Nat}
/-- the solids: each root a valid node whose cells are the plain form's -/
def oc_RO (P U R A : Nat → Int32) : Prop := ∀ r, r < 4 → ∃ n, R r = nI n ∧ oc_V P U 3 n ∧ ∀ c, c < 512 → A (512 * r + c) = nI (oc_dn P n c 3)
theorem oc_RO_X (h : oc_RO P U R A) (X : oc_X P U P' U') : oc_RO P' U' R A := by
  intro r hr
  obtain ⟨n, h1, h2, h3⟩ := h r hr
  exact ⟨n, h1, oc_X_V X h2, fun c hc => by rw [oc_X_dn X h2 3 (by omega)]; exact h3 c hc⟩
theorem oc_p8 {k p : Nat} (h : p < 8 ^ (k + 1)) : p / 8 ^ k < 8 ∧ p % 8 ^ k < 8 ^ k := by
  have h0 : 0 < 8 ^ k := Nat.pow_pos (by decide)
  refine ⟨?_, Nat.mod_lt _ h0⟩
  rw [Nat.div_lt_iff_lt_mul h0, Nat.mul_comm, ← Nat.pow_succ]
  exact h
theorem oc_X_dd (X : oc_X P U P' U') : ∀ (k n p : Nat), oc_V P U k n → p < 8 ^ k → oc_dd P' k n p = oc_dd P k n p := by
  intro k
  induction k with
  | zero => intro n p _ _; rfl
  | succ k ih =>
    intro n p hV hp
    obtain ⟨h1, h2⟩ := oc_p8 hp
    show oc_dd P' k (oc_st P' n (p / 8 ^ k)) (p % 8 ^ k) = oc_dd P k (oc_st P n (p / 8 ^ k)) (p % 8 ^ k)
    rw [oc_X_st X hV h1]
    exact ih _ _ (oc_V_st hV h1) h2
/-- n is a node of order k whose cells are those of g from the block b on -/
def oc_T (P U : Nat → Int32) (g : Nat → Nat) (k n b : Nat) : Prop := oc_V P U k n ∧ ∀ p, p < 8 ^ k → oc_dd P k n p = g (oc_ct (b * 8 ^ k + p))
def oc_S (P U : Nat → Int32) (g : Nat → Nat) (k : Nat) (M : Nat → Int32) (q : Nat) : Prop := ∀ j, j < q → ∃ n, M j = nI n ∧ oc_T P U g k n j
theorem oc_T_X {k n b : Nat} (h : oc_T P U g k n b) (X : oc_X P U P' U') : oc_T P' U' g k n b := ⟨oc_X_V X h.1, fun p hp => by rw [oc_X_dd X k n p h.1 hp]; exact h.2 p hp⟩
theorem oc_S_X {k q : Nat} (h : oc_S P U g k M q) (X : oc_X P U P' U') : oc_S P' U' g k M q := by
  intro j hj
  obtain ⟨n, e, h1⟩ := h j hj
  exact ⟨n, e, oc_T_X h1 X⟩
theorem oc_S_u {k q n : Nat} (h : oc_S P U g k M q) (ht : oc_T P U g k n q) : oc_S P U g k (upd M q (nI n)) (q + 1) := by
  intro j hj
  by_cases z : j = q
  · subst z; exact ⟨n, pk_us, ht⟩
  · obtain ⟨m, e, h1⟩ := h j (by omega)
    exact ⟨m, (pk_un z).trans e, h1⟩
theorem oc_T_mk {k n b : Nat} {e : Nat → Nat} (X : oc_X P U P' U') (hn : n < 512) (h : n < 2 ∧ (∀ i, i < 8 → e i = n) ∨ 2 ≤ n ∧ U' n ≠ 0 ∧ ∀ i, i < 8 → P' (8 * n + i) = nI (e i)) (ht : ∀ i, i < 8 → oc_T P U g k (e i) (8 * b + i)) : oc_T P' U' g (k + 1) n b := by
  obtain ⟨h1, h2⟩ := oc_made X hn h fun i hi => (ht i hi).1
  refine ⟨h1, fun p hp => ?_⟩
  obtain ⟨h3, h4⟩ := oc_p8 hp
  show oc_dd P' k (oc_st P' n (p / 8 ^ k)) (p % 8 ^ k) = _
  have h5 := ht _ h3
  rw [h2 _ h3, oc_X_dd X _ _ _ h5.1 h4, h5.2 _ h4]
  have e1 := Nat.div_add_mod p (8 ^ k)
  have e2 : (8 * b + p / 8 ^ k) * 8 ^ k + p % 8 ^ k = b * 8 ^ (k + 1) + p := by
    rw [Nat.add_mul, Nat.pow_succ, Nat.mul_comm 8 b, Nat.mul_assoc, Nat.mul_comm 8 (8 ^ k), Nat.mul_comm (p / 8 ^ k)]
    omega
  rw [e2]
theorem oc_T_dn {n c : Nat} (h : oc_T P U g 3 n 0) (hc : c < 512) : oc_dn P n c 3 = g c := by
  rw [oc_val P n c (o := 3) (by omega)]
  show oc_dd P 3 n (oc_mo c % 512) = g c
  have h5 := oc_mo512 c
  rw [Nat.mod_eq_of_lt h5, h.2 _ h5, show 0 * 8 ^ 3 + oc_mo c = oc_mo c from by omega, oc_cm c hc]
/-- the question at hand gives the cells g -/
def oc_Q (ft fl fr fc fo fp : Int32) (R A : Nat → Int32) (g : Nat → Nat) : Prop := ∀ (ff : Int32) (P U H C Z E M D : Nat → Int32), oc_RO P U R A → ∀ c, c < 512 → ∀ post : Int32 → Prop, post (nI (g c)) → wpX_cellOf post (ff, ft, fl, fr, fc, fo, fp, P, U, H, C, Z, R, E, M, D) (nI c)
theorem oc_b14 {post : SX → Prop} {J : Int32 → Int32 → Int32 → Int32 → Int32 → Int32 → Int32 → Int32 → (Nat → Int32) → (Nat → Int32) → (Nat → Int32) → (Nat → Int32) → (Nat → Int32) → (Nat → Int32) → (Nat → Int32) → (Nat → Int32) → (Nat → Int32) → Prop} {x1 : Int32} {q f B : Nat} (hq : q < 64) (hQ : oc_Q ft fl fr fc fo fp R A g) (hg : ∀ c, c < 512 → g c < 2) (hR : oc_RO P U R A) (I : oc_MI P U H C f B) (hB : B < 500) (K : ∀ n P' U' H' C' f' E', oc_MI P' U' H' C' f' (B + 1) → oc_X P U P' U' → n < 512 → oc_T P' U' g 1 n q → J (nI (q + 1)) (nI f') ft fl fr fc fo fp P' U' H' C' Z R E' (upd M q (nI n)) D) : ∀ (k i : Nat) (E : Nat → Int32), i + k = 8 → (∀ j, j < i → E j = nI (g (oc_ct (8 * q + j)))) → wX_build_14 post J x1 (nI q) (nI f) ft fl fr fc fo fp (k + 1) (nI i) P U H C Z R E M D := by
  intro k
  induction k with
  | zero =>
    intro i E hi hE
    refine br_t (nI_le (a := 8) (by omega) (by omega)) ?_
    have hE' : ∀ i, i < 8 → g (oc_ct (8 * q + i)) < 512 ∧ E i = nI (g (oc_ct (8 * q + i))) := fun j hj => ⟨by have := hg _ (oc_ct512 (8 * q + j)); omega, hE j (by omega)⟩
    refine oc_make (e := fun i => g (oc_ct (8 * q + i))) I hB hE' (fun n P' U' H' C' f' m1 m2 m3 m4 => (And.intro (vp_in_nI hq (by omega)) ?_))
    rw [nI_clamp (by omega), oc_sh2 m3]
    refine nm_e (nm_r (nI_1 q) (K n P' U' H' C' f' E m1 m2 m3 (oc_T_mk m2 m3 m4 fun i hi => ⟨hg _ (oc_ct512 _), fun p hp => ?_⟩)))
    have : p = 0 := by
      have : p < 1 := hp
      omega
    subst this
    show g (oc_ct (8 * q + i)) = g (oc_ct ((8 * q + i) * 1 + 0))
    rw [Nat.mul_one, Nat.add_zero]
  | succ k ih =>
    intro i E hi hE
    refine br_f (nI_ge (b := 8) (by omega) (by omega)) ?_
    rw [oc_m8, nI_add]
    refine oc_cellAt (by omega) (hQ _ P U H C Z E M D hR _ (oc_ct512 _) _ (And.intro (vp_in_nI (by omega) (by omega)) ?_))
    rw [nI_clamp (by omega), oc_sh2 (by have := hg _ (oc_ct512 (8 * q + i)); omega)]
    refine nm_e (nm_r (nI_1 i) (ih (i + 1) _ (by omega) fun j hj => ?_))
    by_cases z : j = i
    · rw [z]; exact pk_us
    · rw [pk_un z]; exact hE j (by omega)
theorem oc_b6 {post : SX → Prop} {x1 : Int32} (hQ : oc_Q ft fl fr fc fo fp R A g) (hg : ∀ c, c < 512 → g c < 2) (K : ∀ P U H C E M f, oc_RO P U R A → oc_MI P U H C f 356 → oc_S P U g 1 M 64 → ∃ n, wX_build_69 post x1 n 0 (nI f) ft fl fr fc fo fp P U H C Z R E M D) : ∀ (k q f : Nat) (P U H C E M : Nat → Int32), q + k = 64 → oc_RO P U R A → oc_MI P U H C f (292 + q) → oc_S P U g 1 M q → wX_build_6 post x1 (k + 1) (nI q) (nI f) ft fl fr fc fo fp P U H C Z R E M D := by
  intro k
  induction k with
  | zero =>
    intro q f P U H C E M hq hR I hS
    have : q = 64 := by omega
    subst this
    exact br_t (nI_le (a := 64) (b := 64) (by omega) (by omega)) (K P U H C E M f hR I hS)
  | succ k ih =>
    intro q f P U H C E M hq hR I hS
    refine br_f (nI_ge (b := 64) (by omega) (by omega)) (Exists.intro 9 ?_)
    refine oc_b14 (B := 292 + q) (by omega) hQ hg hR I (by omega) (fun n P' U' H' C' f' E' m1 m2 m3 m4 => ?_) 8 0 E rfl (fun j hj => absurd hj (Nat.not_lt_zero j))
    exact ih (q + 1) f' P' U' H' C' E' _ (by omega) (oc_RO_X hR m2) m1 (oc_S_u (oc_S_X hS m2) m4)
theorem oc_b77 {post : SX → Prop} {J : Int32 → Int32 → Int32 → Int32 → Int32 → Int32 → Int32 → Int32 → (Nat → Int32) → (Nat → Int32) → (Nat → Int32) → (Nat → Int32) → (Nat → Int32) → (Nat → Int32) → (Nat → Int32) → (Nat → Int32) → (Nat → Int32) → Prop} {x1 : Int32} {q f B : Nat} (hq : q < 8) (hS : oc_S P U g 1 M 64) (I : oc_MI P U H C f B) (hB : B < 500) (K : ∀ n P' U' H' C' f' E', oc_MI P' U' H' C' f' (B + 1) → oc_X P U P' U' → n < 512 → oc_T P' U' g 2 n q → J (nI (q + 1)) (nI f') ft fl fr fc fo fp P' U' H' C' Z R E' M (upd D q (nI n))) : ∀ (k i : Nat) (E : Nat → Int32), i + k = 8 → (∀ j, j < i → E j = M (8 * q + j)) → wX_build_77 post J x1 (nI q) (nI f) ft fl fr fc fo fp (k + 1) (nI i) P U H C Z R E M D := by
  intro k
  induction k with
  | zero =>
    intro i E hi hE
    refine br_t (nI_le (a := 8) (by omega) (by omega)) ?_
    have hM : ∀ i, i < 8 → oc_T P U g 1 (M (8 * q + i)).toNatClampNeg (8 * q + i) ∧ M (8 * q + i) = nI (M (8 * q + i)).toNatClampNeg := by
      intro j hj
      obtain ⟨n, e, h1⟩ := hS (8 * q + j) (by omega)
      have := oc_V_512 h1.1
      rw [e, nI_clamp (by omega)]
      exact ⟨h1, rfl⟩
    have hE' : ∀ i, i < 8 → (M (8 * q + i)).toNatClampNeg < 512 ∧ E i = nI (M (8 * q + i)).toNatClampNeg := fun j hj => ⟨oc_V_512 (hM j hj).1.1, (hE j (by omega)).trans (hM j hj).2⟩
    refine oc_make (e := fun i => (M (8 * q + i)).toNatClampNeg) I hB hE' (fun n P' U' H' C' f' m1 m2 m3 m4 => (And.intro (vp_in_nI hq (by omega)) ?_))
    rw [nI_clamp (by omega), oc_sh2 m3]
    exact nm_e (nm_r (nI_1 q) (K n P' U' H' C' f' E m1 m2 m3 (oc_T_mk m2 m3 m4 fun i hi => (hM i hi).1)))
  | succ k ih =>
    intro i E hi hE
    obtain ⟨n, e, h1⟩ := hS (8 * q + i) (by omega)
    refine br_f (nI_ge (b := 8) (by omega) (by omega)) ?_
    rw [oc_m8, nI_add]
    refine (And.intro (vp_in_nI (by omega) (by omega)) (And.intro (vp_in_nI (by omega) (by omega)) ?_))
    rw [nI_clamp (by omega), nI_clamp (by omega), e, oc_sh (oc_V_512 h1.1), ← e]
    refine nm_e (nm_r (nI_1 i) (ih (i + 1) _ (by omega) fun j hj => ?_))
    by_cases z : j = i
    · rw [z]; exact pk_us
    · rw [pk_un z]; exact hE j (by omega)
theorem oc_b69 {post : SX → Prop} {x1 : Int32} (K : ∀ P U H C E D f, oc_RO P U R A → oc_MI P U H C f 364 → oc_S P U g 2 D 8 → ∃ n, wX_build_125 post x1 (nI f) ft fl fr fc fo fp n 0 P U H C Z R E M D) : ∀ (k q f : Nat) (P U H C E D : Nat → Int32), q + k = 8 → oc_RO P U R A → oc_MI P U H C f (356 + q) → oc_S P U g 1 M 64 → oc_S P U g 2 D q → wX_build_69 post x1 (k + 1) (nI q) (nI f) ft fl fr fc fo fp P U H C Z R E M D := by
  intro k
  induction k with
  | zero =>
    intro q f P U H C E D hq hR I hS hS2
    have : q = 8 := by omega
    subst this
    exact br_t (nI_le (a := 8) (b := 8) (by omega) (by omega)) (K P U H C E D f hR I hS2)
  | succ k ih =>
    intro q f P U H C E D hq hR I hS hS2
    refine br_f (nI_ge (b := 8) (by omega) (by omega)) (Exists.intro 9 ?_)
    refine oc_b77 (B := 356 + q) (by omega) hS I (by omega) (fun n P' U' H' C' f' E' m1 m2 m3 m4 => ?_) 8 0 E rfl (fun j hj => absurd hj (Nat.not_lt_zero j))
    exact ih (q + 1) f' P' U' H' C' E' _ (by omega) (oc_RO_X hR m2) m1 (oc_S_X hS m2) (oc_S_u (oc_S_X hS2 m2) m4)
theorem oc_b125 {post : SX → Prop} {r f B : Nat} (hr : r < 4) (hR : oc_RO P U R A) (hS : oc_S P U g 2 D 8) (I : oc_MI P U H C f B) (hB : B < 500) (K : ∀ n P' U' H' C' ff' E', oc_C P' U' → oc_RO P' U' R A → oc_T P' U' g 3 n 0 → post (ff', ft, fl, fr, fc, fo, fp, P', U', H', C', Z, upd R r (nI n), E', M, D)) : ∀ (k i : Nat) (E : Nat → Int32), i + k = 8 → (∀ j, j < i → E j = D j) → wX_build_125 post (nI r) (nI f) ft fl fr fc fo fp (k + 1) (nI i) P U H C Z R E M D := by
  intro k
  induction k with
  | zero =>
    intro i E hi hE
    refine br_t (nI_le (a := 8) (by omega) (by omega)) ?_
    have hM : ∀ i, i < 8 → oc_T P U g 2 (D i).toNatClampNeg i ∧ D i = nI (D i).toNatClampNeg := by
      intro j hj
      obtain ⟨n, e, h1⟩ := hS j hj
      have := oc_V_512 h1.1
      rw [e, nI_clamp (by omega)]
      exact ⟨h1, rfl⟩
    have hE' : ∀ i, i < 8 → (D i).toNatClampNeg < 512 ∧ E i = nI (D i).toNatClampNeg := fun j hj => ⟨oc_V_512 (hM j hj).1.1, (hE j (by omega)).trans (hM j hj).2⟩
    refine oc_make (e := fun i => (D i).toNatClampNeg) I hB hE' (fun n P' U' H' C' f' m1 m2 m3 m4 => (And.intro (vp_in_nI hr (by omega)) ?_))
    rw [nI_clamp (by omega), oc_sh2 m3]
    refine nm_e (K n P' U' H' C' (nI f') E m1.1 (oc_RO_X hR m2) (oc_T_mk m2 m3 m4 fun i hi => ?_))
    rw [show 8 * 0 + i = i from by omega]
    exact (hM i hi).1
  | succ k ih =>
    intro i E hi hE
    obtain ⟨n, e, h1⟩ := hS i (by omega)
    refine br_f (nI_ge (b := 8) (by omega) (by omega)) (And.intro (vp_in_nI (by omega) (by omega)) (And.intro (vp_in_nI (by omega) (by omega)) ?_))
    rw [nI_clamp (by omega), e, oc_sh (oc_V_512 h1.1), ← e]
    refine nm_e (nm_r (nI_1 i) (ih (i + 1) _ (by omega) fun j hj => ?_))
    by_cases z : j = i
    · rw [z]; exact pk_us
    · rw [pk_un z]; exact hE j (by omega)
/-- build: solid r becomes g, the others stay -/
theorem oc_build {post : SX → Prop} {r : Nat} (hr : r < 4) (hC : oc_C P U) (hR : oc_RO P U R A) (hQ : oc_Q ft fl fr fc fo fp R A g) (hg : ∀ c, c < 512 → g c < 2) (K : ∀ n P' U' H' C' ff' E' M' D', oc_C P' U' → oc_RO P' U' R A → oc_V P' U' 3 n → (∀ c, c < 512 → oc_dn P' n c 3 = g c) → post (ff', ft, fl, fr, fc, fo, fp, P', U', H', C', Z, upd R r (nI n), E', M', D')) : wpX_build post (ff, ft, fl, fr, fc, fo, fp, P, U, H, C, Z, R, E, M, D) (nI r) := by
  have hro : ∀ q, q < 4 → R q = nI (R q).toNatClampNeg ∧ oc_V P U 3 (R q).toNatClampNeg := by
    intro q hq
    obtain ⟨n, e, h1, _⟩ := hR q hq
    have := oc_V_512 h1
    rw [e, nI_clamp (by omega)]
    exact ⟨rfl, h1⟩
  refine oc_sweep (ro := fun q => (R q).toNatClampNeg) hC hro (fun U' H' C' I hv => (Exists.intro 65 ?_))
  have hR' : oc_RO P U' R A := by
    intro q hq
    obtain ⟨n, e, h1, h2⟩ := hR q hq
    have := hv q hq
    have h5 := oc_V_512 h1
    rw [e, nI_clamp (by omega)] at this
    exact ⟨n, e, this, h2⟩
  refine oc_b6 hQ hg (fun P U H C E M f hR I hS => (Exists.intro 9 ?_)) 64 0 2 P U' H' C' E M rfl hR' I (fun j hj => absurd hj (Nat.not_lt_zero j))
  refine oc_b69 (fun P U H C E D f hR I hS2 => (Exists.intro 9 ?_)) 8 0 f P U H C E D rfl hR I hS (fun j hj => absurd hj (Nat.not_lt_zero j))
  exact oc_b125 hr hR hS2 I (by omega) (fun n P' U' H' C' ff' E' c1 c2 c3 => K n P' U' H' C' ff' E' M D c1 c2 c3.1 fun c hc => oc_T_dn c3 hc) 8 0 E rfl (fun j hj => absurd hj (Nat.not_lt_zero j))
end
end
section
/-! ===== the plain form's making methods ===== -/
section
variable {A A' B : Nat → Int32} {g x y : Nat → Nat} {r : Nat}
theorem oc_isS_t {post : Int32 → Prop} {r : Nat} (hr : r < 4) (h : post 1) : wpX_isSolid post (nI r) := oc_isSolid (fun z => absurd ⟨r, hr, rfl⟩ z) (fun _ _ _ => h)
theorem oc_isS_f {post : Int32 → Prop} {x : Int32} (hx : ¬ ∃ r, r < 4 ∧ x = nI r) (h : post 0) : wpX_isSolid post x := oc_isSolid (fun _ => h) (fun r hr e => absurd ⟨r, hr, e⟩ hx)
theorem oc_isC_t {post : Int32 → Prop} {r : Nat} (hr : r < 512) (h : post 1) : wpX_isCell post (nI r) := oc_isCell (fun z => absurd ⟨r, hr, rfl⟩ z) (fun _ _ _ => h)
theorem oc_isC_f {post : Int32 → Prop} {x : Int32} (hx : ¬ ∃ r, r < 512 ∧ x = nI r) (h : post 0) : wpX_isCell post x := oc_isCell (fun _ => h) (fun r hr e => absurd ⟨r, hr, e⟩ hx)
theorem oc_yS_t {post : Int32 → Prop} {v : SY} {r : Nat} (hr : r < 4) (h : post 1) : wpY_solid post v (nI r) := oc_solid (fun z => absurd ⟨r, hr, rfl⟩ z) (fun _ _ _ => h)
theorem oc_yS_f {post : Int32 → Prop} {v : SY} {x : Int32} (hx : ¬ ∃ r, r < 4 ∧ x = nI r) (h : post 0) : wpY_solid post v x := oc_solid (fun _ => h) (fun r hr e => absurd ⟨r, hr, e⟩ hx)
theorem oc_yC_t {post : Int32 → Prop} {v : SY} {r : Nat} (hr : r < 512) (h : post 1) : wpY_cell post v (nI r) := oc_cell (fun z => absurd ⟨r, hr, rfl⟩ z) (fun _ _ _ => h)
theorem oc_yC_f {post : Int32 → Prop} {v : SY} {x : Int32} (hx : ¬ ∃ r, r < 512 ∧ x = nI r) (h : post 0) : wpY_cell post v x := oc_cell (fun _ => h) (fun r hr e => absurd ⟨r, hr, e⟩ hx)
/-- the first e cells of solid r are g's, all else is A's -/
def oc_W (A A' : Nat → Int32) (r : Nat) (g : Nat → Nat) (e : Nat) : Prop := (∀ j, j < e → A' (512 * r + j) = nI (g j)) ∧ (∀ j, (j < 512 * r ∨ 512 * r + e ≤ j) → A' j = A j)
theorem oc_W_0 : oc_W A A r g 0 := ⟨fun j hj => absurd hj (Nat.not_lt_zero j), fun _ _ => rfl⟩
theorem oc_W_s {e : Nat} (h : oc_W A A' r g e) : oc_W A (upd A' (512 * r + e) (nI (g e))) r g (e + 1) := by
  refine ⟨fun j hj => ?_, fun j hj => ?_⟩
  · by_cases z : j = e
    · rw [z]; exact pk_us
    · rw [pk_un (by omega)]; exact h.1 j (by omega)
  · rw [pk_un (by omega)]; exact h.2 j (by omega)
theorem oc_keep2 {post : SY → Prop} (hr : r < 4) (hm : ∀ j, j < 512 → B j = nI (g j) ∧ g j < 2) (K : ∀ A', oc_W A A' r g 512 → post (A', B)) : ∀ (k e : Nat) (A' : Nat → Int32), e + k = 512 → oc_W A A' r g e → wY_keep_2 post (nI r) (k + 1) (nI e) A' B := by
  intro k
  induction k with
  | zero =>
    intro e A' he h
    have : e = 512 := by omega
    subst this
    exact br_t (nI_le (a := 512) (b := 512) (by omega) (by omega)) (K A' h)
  | succ k ih =>
    intro e A' he h
    obtain ⟨h1, h2⟩ := hm e (by omega)
    refine br_f (nI_ge (b := 512) (by omega) (by omega)) (And.intro (vp_in_nI (by omega) (by omega)) (And.intro (oc_jxi hr (by omega)) ?_))
    rw [oc_jxc hr (by omega), nI_clamp (by omega), h1, oc_bn h2]
    exact nm_e (nm_r (nI_1 e) (ih (e + 1) _ (by omega) (oc_W_s h)))
theorem oc_keep {post : SY → Prop} (hr : r < 4) (hm : ∀ j, j < 512 → B j = nI (g j) ∧ g j < 2) (K : ∀ A', oc_W A A' r g 512 → post (A', B)) : wpY_keep post (A, B) (nI r) := (Exists.intro 513 (oc_keep2 hr hm K 512 0 A rfl oc_W_0))
theorem oc_turn20 {post : Int32 → SY → Prop} {a : Nat} (hr : r < 4) (ha : a < 4) (hx : ∀ j, j < 512 → A (512 * a + j) = nI (x j) ∧ x j < 2) (K : ∀ A' B', oc_W A A' r (fun j => 1 - x j) 512 → post 1 (A', B')) : ∀ (k e : Nat) (B : Nat → Int32), e + k = 512 → (∀ j, j < e → B j = nI (1 - x j)) → wY_turn_20 post (nI r) (nI a) (k + 1) (nI e) A B := by
  intro k
  induction k with
  | zero =>
    intro e B he h
    refine br_t (nI_le (a := 512) (by omega) (by omega)) ?_
    exact oc_keep (g := fun j => 1 - x j) hr (fun j hj => ⟨h j (by omega), by show 1 - x j < 2; omega⟩) (fun A' hA => K A' B hA)
  | succ k ih =>
    intro e B he h
    obtain ⟨h1, h2⟩ := hx e (by omega)
    refine br_f (nI_ge (b := 512) (by omega) (by omega)) (And.intro (oc_jxi ha (by omega)) ?_)
    rw [oc_jxc ha (by omega), h1, nI_clamp (by omega), oc_b0, oc_b1]
    have stp : ∀ v : Int32, v = nI (1 - x e) → ∀ j, j < e + 1 → upd B e v j = nI (1 - x j) := by
      intro v hv j hj
      by_cases z : j = e
      · rw [z, pk_us]; exact hv
      · rw [pk_un z]; exact h j (by omega)
    refine pk_eq (x e) 0 (fun z => (And.intro (vp_in_nI (by omega) (by omega)) (nm_e (nm_r (nI_1 e) (ih (e + 1) _ (by omega) (stp 1 ?_)))))) (fun z => (And.intro (vp_in_nI (by omega) (by omega)) (nm_e (nm_r (nI_1 e) (ih (e + 1) _ (by omega) (stp 0 ?_))))))
    · rw [z]; rfl
    · rw [show x e = 1 from by omega]; rfl
theorem oc_yturn {post : Int32 → SY → Prop} {a : Nat} (hr : r < 4) (ha : a < 4) (hx : ∀ j, j < 512 → A (512 * a + j) = nI (x j) ∧ x j < 2) (K : ∀ A' B', oc_W A A' r (fun j => 1 - x j) 512 → post 1 (A', B')) : wpY_turn post (A, B) (nI r) (nI a) := by
  unfold wpY_turn
  dsimp only
  exact oc_yS_t hr (br_f (by decide) (oc_yS_t ha (br_f (by decide) (Exists.intro 513 (oc_turn20 hr ha hx K 512 0 B rfl (fun j hj => absurd hj (Nat.not_lt_zero j)))))))
theorem oc_mirror30 {post : Int32 → SY → Prop} {a d : Nat} (hr : r < 4) (ha : a < 4) (hd : d < 3) (hx : ∀ j, j < 512 → A (512 * a + j) = nI (x j) ∧ x j < 2) (K : ∀ A' B', oc_W A A' r (fun j => x (j ^^^ (7 * 2 ^ (3 * d)))) 512 → post 1 (A', B')) : ∀ (k e : Nat) (B : Nat → Int32), e + k = 512 → (∀ j, j < e → B j = nI (x (j ^^^ (7 * 2 ^ (3 * d))))) → wY_mirror_30 post (nI r) (nI a) (nI d) (k + 1) (nI e) A B := by
  intro k
  induction k with
  | zero =>
    intro e B he h
    refine br_t (nI_le (a := 512) (by omega) (by omega)) ?_
    exact oc_keep (g := fun j => x (j ^^^ (7 * 2 ^ (3 * d)))) hr (fun j hj => ⟨h j (by omega), (hx _ (oc_x7l hj hd)).2⟩) (fun A' hA => K A' B hA)
  | succ k ih =>
    intro e B he h
    have h7 := oc_x7l (e := e) (by omega) hd
    obtain ⟨h1, h2⟩ := hx _ h7
    refine br_f (nI_ge (b := 512) (by omega) (by omega)) ?_
    rw [oc_x7 hd]
    refine (And.intro (oc_jxi ha h7) (And.intro (vp_in_nI (by omega) (by omega)) ?_))
    rw [oc_jxc ha h7, h1, nI_clamp (by omega), oc_bn h2]
    refine nm_e (nm_r (nI_1 e) (ih (e + 1) _ (by omega) fun j hj => ?_))
    by_cases z : j = e
    · rw [z]; exact pk_us
    · rw [pk_un z]; exact h j (by omega)
theorem oc_ymirror {post : Int32 → SY → Prop} {a d : Nat} (hr : r < 4) (ha : a < 4) (hd : d < 3) (hx : ∀ j, j < 512 → A (512 * a + j) = nI (x j) ∧ x j < 2) (K : ∀ A' B', oc_W A A' r (fun j => x (j ^^^ (7 * 2 ^ (3 * d)))) 512 → post 1 (A', B')) : wpY_mirror post (A, B) (nI r) (nI a) (nI d) := by
  unfold wpY_mirror
  dsimp only
  exact oc_yS_t hr (br_f (by decide) (oc_yS_t ha (br_f (by decide) (br_f (nI_pos (by omega)) (br_t (nI_le (b := 2) (by omega) (by omega)) (Exists.intro 513 (oc_mirror30 hr ha hd hx K 512 0 B rfl (fun j hj => absurd hj (Nat.not_lt_zero j)))))))))
theorem oc_comb39 {post : Int32 → SY → Prop} {o a b : Nat} (ho : o < 4) (hr : r < 4) (ha : a < 4) (hb : b < 4) (hx : ∀ j, j < 512 → A (512 * a + j) = nI (x j) ∧ x j < 2) (hy : ∀ j, j < 512 → A (512 * b + j) = nI (y j) ∧ y j < 2) (K : ∀ A' B', oc_W A A' r (fun j => oc_op o (x j) (y j)) 512 → post 1 (A', B')) : ∀ (k e : Nat) (B : Nat → Int32), e + k = 512 → (∀ j, j < e → B j = nI (oc_op o (x j) (y j))) → wY_combine_39 post (nI r) (nI o) (nI a) (nI b) (k + 1) (nI e) A B := by
  intro k
  induction k with
  | zero =>
    intro e B he h
    refine br_t (nI_le (a := 512) (by omega) (by omega)) ?_
    exact oc_keep (g := fun j => oc_op o (x j) (y j)) hr (fun j hj => ⟨h j (by omega), oc_op2 o ho _ (hx j hj).2 _ (hy j hj).2⟩) (fun A' hA => K A' B hA)
  | succ k ih =>
    intro e B he h
    obtain ⟨h1, h2⟩ := hx e (by omega)
    obtain ⟨h3, h4⟩ := hy e (by omega)
    refine br_f (nI_ge (b := 512) (by omega) (by omega)) (And.intro (oc_jxi ha (by omega)) ?_)
    rw [oc_jxc ha (by omega), h1, oc_jxc hb (by omega), h3, oc_b0, oc_b1]
    have stp : ∀ (w : Nat) (v : Int32), v = nI w → oc_op o (x e) (y e) = w → vp_in (nI e) 512 ∧ ∀ a_made : Nat → Int32, a_made = upd B (nI e).toNatClampNeg v → ∀ x5 : Int32, x5 = nI e + 1 → wY_combine_39 post (nI r) (nI o) (nI a) (nI b) (k + 1) x5 A a_made := by
      intro w v hv hw
      refine (And.intro (vp_in_nI (by omega) (by omega)) (nm_e (nm_r (nI_1 e) (ih (e + 1) _ (by omega) fun j hj => ?_))))
      rw [nI_clamp (by omega)]
      by_cases z : j = e
      · rw [z, pk_us, hw]; exact hv
      · rw [pk_un z]; exact h j (by omega)
    have xe : x e = 0 ∨ x e = 1 := by omega
    have ye : y e = 0 ∨ y e = 1 := by omega
    refine nm_e (And.intro (oc_jxi hb (by omega)) (nm_e ?_))
    generalize x e = p at stp xe h1 h2 ⊢
    generalize y e = q at stp ye h3 h4 ⊢
    refine pk_eq o 0 (fun zo => ?_) (fun zo => pk_eq o 1 (fun zo1 => ?_) (fun zo1 => pk_eq o 2 (fun zo2 => ?_) (fun zo2 => ?_)))
    · refine pk_eq p 0 (fun zp => pk_eq q 0 (fun zq => stp 0 0 rfl ?_) (fun zq => stp 1 1 rfl ?_)) (fun zp => stp 1 1 rfl ?_)
      · subst zo zp zq; rfl
      · subst zo zp; rw [show q = 1 from by omega]; rfl
      · subst zo; rw [show p = 1 from by omega]; rfl
    · refine pk_eq p 0 (fun zp => stp 0 0 rfl ?_) (fun zp => pk_eq q 0 (fun zq => stp 0 0 rfl ?_) (fun zq => stp 1 1 rfl ?_))
      · subst zo1 zp; rfl
      · subst zo1 zq; rw [show p = 1 from by omega]; rfl
      · subst zo1; rw [show p = 1 from by omega, show q = 1 from by omega]; rfl
    · refine pk_eq p 0 (fun zp => stp 0 0 rfl ?_) (fun zp => pk_eq q 0 (fun zq => stp 1 1 rfl ?_) (fun zq => stp 0 0 rfl ?_))
      · subst zo2 zp; rfl
      · subst zo2 zq; rw [show p = 1 from by omega]; rfl
      · subst zo2; rw [show p = 1 from by omega, show q = 1 from by omega]; rfl
    · have o3 : o = 3 := by omega
      refine pk_eq p q (fun zp => stp 0 0 rfl ?_) (fun zp => stp 1 1 rfl ?_)
      · rw [o3, zp]; exact if_pos rfl
      · rw [o3]; exact if_neg zp
theorem oc_ycomb {post : Int32 → SY → Prop} {o a b : Nat} (ho : o < 4) (hr : r < 4) (ha : a < 4) (hb : b < 4) (hx : ∀ j, j < 512 → A (512 * a + j) = nI (x j) ∧ x j < 2) (hy : ∀ j, j < 512 → A (512 * b + j) = nI (y j) ∧ y j < 2) (K : ∀ A' B', oc_W A A' r (fun j => oc_op o (x j) (y j)) 512 → post 1 (A', B')) : wpY_combine post (A, B) (nI r) (nI o) (nI a) (nI b) := by
  unfold wpY_combine
  dsimp only
  exact oc_yS_t hr (br_f (by decide) (oc_yS_t ha (br_f (by decide) (oc_yS_t hb (br_f (by decide) (br_f (nI_pos (by omega)) (br_t (nI_le (b := 3) (by omega) (by omega)) (Exists.intro 513 (oc_comb39 ho hr ha hb hx hy K 512 0 B rfl (fun j hj => absurd hj (Nat.not_lt_zero j)))))))))))
theorem oc_btw {post : Int32 → Prop} {v : SY} {e c d a : Nat} (he : e < 512) (hc : c < 512) (hd : d < 512) (ha : a < 3) (h0 : oc_bw (oc_co e a) (oc_co c a) (oc_co d a) = false → post 0) (h1 : oc_bw (oc_co e a) (oc_co c a) (oc_co d a) = true → post 1) : wpY_between post v (nI e) (nI c) (nI d) (nI a) := by
  obtain ⟨ya, yb⟩ := v
  unfold wpY_between
  dsimp only
  refine oc_part he ha (oc_part hc ha (oc_part hd ha ?_))
  have b1 := oc_co8 c a
  have b2 := oc_co8 d a
  have b3 := oc_co8 e a
  have g0 : ¬ ((oc_co c a ≤ oc_co e a ∧ oc_co e a ≤ oc_co d a) ∨ (oc_co d a ≤ oc_co e a ∧ oc_co e a ≤ oc_co c a)) → post 0 := by
    intro z
    refine h0 ?_
    cases q : oc_bw (oc_co e a) (oc_co c a) (oc_co d a) with
    | false => rfl
    | true => exact absurd (oc_bw_t.mp q) z
  have g1 : ((oc_co c a ≤ oc_co e a ∧ oc_co e a ≤ oc_co d a) ∨ (oc_co d a ≤ oc_co e a ∧ oc_co e a ≤ oc_co c a)) → post 1 := fun z => h1 (oc_bw_t.mpr z)
  have k41 : ¬ (oc_co c a ≤ oc_co e a ∧ oc_co e a ≤ oc_co d a) → wY_between_41 post (nI (oc_co e a)) (nI (oc_co c a)) (nI (oc_co d a)) ya yb := by
    intro z
    refine pk_lt (oc_co e a) (oc_co d a) (fun w => g0 (by omega)) (fun w => pk_lt (oc_co c a) (oc_co e a) (fun w' => g0 (by omega)) (fun w' => g1 (by omega)))
  refine pk_lt (oc_co e a) (oc_co c a) (fun w => k41 (by omega)) (fun w => pk_le (oc_co e a) (oc_co d a) (fun w' => g1 (by omega)) (fun w' => k41 (by omega)))
theorem oc_box40 {post : Int32 → SY → Prop} {c d w : Nat} (hr : r < 4) (hc : c < 512) (hd : d < 512) (hw : w < 2) (hx : ∀ j, j < 512 → A (512 * r + j) = nI (x j) ∧ x j < 2) (K : ∀ A', oc_W A A' r (fun j => if oc_bx c d j = true then w else x j) 512 → post 1 (A', B)) : ∀ (k e : Nat) (A' : Nat → Int32), e + k = 512 → oc_W A A' r (fun j => if oc_bx c d j = true then w else x j) e → wY_box_40 post (nI r) (nI c) (nI d) (nI w) (k + 1) (nI e) A' B := by
  intro k
  induction k with
  | zero =>
    intro e A' he h
    have : e = 512 := by omega
    subst this
    exact br_t (nI_le (a := 512) (b := 512) (by omega) (by omega)) (K A' h)
  | succ k ih =>
    intro e A' he h
    obtain ⟨h1, h2⟩ := hx e (by omega)
    have e5 : e < 512 := by omega
    refine br_f (nI_ge (b := 512) (by omega) (by omega)) ?_
    have hold : A' (512 * r + e) = nI (x e) := (h.2 _ (by omega)).trans h1
    have hs := oc_W_s h
    have f0 : oc_bx c d e ≠ true → wY_box_88 post (wY_box_40 post (nI r) (nI c) (nI d) (nI w) (k + 1)) (nI r) (nI c) (nI d) (nI w) (nI e) A' B := by
      intro z
      unfold wY_box_88 wY_box_89
      refine br_t rfl (And.intro (oc_jxi hr e5) (And.intro (oc_jxi hr e5) ?_))
      rw [oc_jxc hr e5, hold, oc_bn h2]
      rw [if_neg z] at hs
      exact nm_e (nm_r (nI_1 e) (ih (e + 1) _ (by omega) hs))
    have f1 : oc_bx c d e = true → wY_box_89 post (wY_box_40 post (nI r) (nI c) (nI d) (nI w) (k + 1)) (nI r) (nI c) (nI d) (nI w) (nI e) 1 A' B := by
      intro z
      rw [if_pos z] at hs
      unfold wY_box_89
      refine br_f (by decide) ?_
      rw [oc_b0, oc_b1]
      have w01 : w = 0 ∨ w = 1 := by omega
      rcases w01 with rfl | rfl
      · refine br_f (by decide) (And.intro (oc_jxi hr e5) ?_)
        rw [oc_jxc hr e5]
        exact nm_e (nm_r (nI_1 e) (ih (e + 1) _ (by omega) hs))
      · refine br_t rfl (And.intro (oc_jxi hr e5) ?_)
        rw [oc_jxc hr e5]
        exact nm_e (nm_r (nI_1 e) (ih (e + 1) _ (by omega) hs))
    have fb : ∀ a, a < 3 → oc_bw (oc_co e a) (oc_co c a) (oc_co d a) = false → oc_bx c d e ≠ true := by
      intro a ha z q
      rw [oc_bx_t.mp q a ha] at z
      exact absurd z (by decide)
    refine oc_btw (a := 0) e5 hc hd (by omega) (fun z => br_t rfl (f0 (fb 0 (by omega) z))) (fun z0 => br_f (by decide) ?_)
    refine oc_btw (a := 1) e5 hc hd (by omega) (fun z => br_t rfl (f0 (fb 1 (by omega) z))) (fun z1 => br_f (by decide) ?_)
    refine oc_btw (a := 2) e5 hc hd (by omega) (fun z => br_t rfl (f0 (fb 2 (by omega) z))) (fun z2 => br_f (by decide) (f1 ?_))
    unfold oc_bx
    rw [z0, z1, z2]; rfl
theorem oc_ybox {post : Int32 → SY → Prop} {c d w : Nat} (hr : r < 4) (hc : c < 512) (hd : d < 512) (hw : w < 2) (hx : ∀ j, j < 512 → A (512 * r + j) = nI (x j) ∧ x j < 2) (K : ∀ A', oc_W A A' r (fun j => if oc_bx c d j = true then w else x j) 512 → post 1 (A', B)) : wpY_box post (A, B) (nI r) (nI c) (nI d) (nI w) := by
  unfold wpY_box
  dsimp only
  have k0 : ∃ n40, wY_box_40 post (nI r) (nI c) (nI d) (nI w) n40 0 A B := (Exists.intro 513 (oc_box40 hr hc hd hw hx K 512 0 A rfl oc_W_0))
  exact oc_yS_t hr (br_f (by decide) (oc_yC_t hc (br_f (by decide) (oc_yC_t hd (br_f (by decide) (pk_eq w 0 (fun _ => k0) (fun z => pk_eq w 1 (fun _ => k0) (fun z' => absurd hw (by omega)))))))))
end
end
section
/-! ===== the relation, and the making methods ===== -/
/-- k is not needed: nodes in use are canonical, and each solid's tree has the plain form's cells -/
def i_Rel (k : Nat) (u : SX) (v : SY) : Prop := match u, v with
  | (ff, ft, fl, fr, fc, fo, fp, P, U, H, C, Z, R, E, M, D), (A, B) => oc_C P U ∧ oc_RO P U R A
theorem i_up {k : Nat} {u : SX} {v : SY} (h : i_Rel k u v) : i_Rel (k + 5) u v := h
section
variable {ff ft fl fr fc fo fp : Int32} {P U H C Z R E M D : Nat → Int32}
variable {A A' B : Nat → Int32}
theorem oc_rel {k : Nat} (hC : oc_C P U) (hR : oc_RO P U R A) : i_Rel k (ff, ft, fl, fr, fc, fo, fp, P, U, H, C, Z, R, E, M, D) (A, B) := ⟨hC, hR⟩
theorem oc_lre {k : Nat} (h : i_Rel k (ff, ft, fl, fr, fc, fo, fp, P, U, H, C, Z, R, E, M, D) (A, B)) : oc_C P U ∧ oc_RO P U R A := h
theorem i_vc0 : wpX_init (fun u => wpY_init (fun v => i_Rel 0 u v)) := by
  unfold wpX_init
  refine oc_clear fun H' _ => ?_
  show oc_C (fun _ => 0) (fun _ => 0) ∧ oc_RO (fun _ => 0) (fun _ => 0) (fun _ => 0) (fun _ => 0)
  refine ⟨fun n _ h => absurd rfl h, fun r _ => ⟨0, rfl, oc_V_e 3 (by decide), fun c _ => ?_⟩⟩
  rw [show oc_dn (fun _ => 0) 0 c 3 = 0 from rfl]; rfl
/-- cell j of solid a as a number -/
def oc_aN (A : Nat → Int32) (a j : Nat) : Nat := (A (512 * a + j)).toNatClampNeg
theorem oc_aN_d {n a : Nat} (hV : oc_V P U 3 n) (hA : ∀ c, c < 512 → A (512 * a + c) = nI (oc_dn P n c 3)) {c : Nat} (hc : c < 512) : oc_aN A a c = oc_dn P n c 3 := by
  have := oc_dn2 (c := c) hV
  unfold oc_aN
  rw [hA c hc, nI_clamp (by omega)]
theorem oc_aN_x (hR : oc_RO P U R A) {a : Nat} (ha : a < 4) : ∀ j, j < 512 → A (512 * a + j) = nI (oc_aN A a j) ∧ oc_aN A a j < 2 := by
  intro j hj
  obtain ⟨n, e, hV, hA⟩ := hR a ha
  rw [oc_aN_d hV hA hj]
  exact ⟨hA j hj, oc_dn2 hV⟩
theorem oc_RO_W {n r : Nat} {g : Nat → Nat} (hR : oc_RO P U R A) (hr : r < 4) (hV : oc_V P U 3 n) (hd : ∀ c, c < 512 → oc_dn P n c 3 = g c) (hW : oc_W A A' r g 512) : oc_RO P U (upd R r (nI n)) A' := by
  intro q hq
  by_cases z : q = r
  · subst z
    exact ⟨n, pk_us, hV, fun c hc => by rw [hd c hc]; exact hW.1 c hc⟩
  · obtain ⟨m, e, h1, h2⟩ := hR q hq
    exact ⟨m, (pk_un z).trans e, h1, fun c hc => (hW.2 _ (by omega)).trans (h2 c hc)⟩
theorem oc_big {x : Int32} {n : Nat} (hn : n + 1 < 2 ^ 31) (h : nI (n + 1) ≤ x) : ¬ x ≤ nI n ∧ ¬ x < 0 := by
  refine ⟨Int32.not_le.mpr ((oc_lt_le hn).mpr h), Int32.not_lt.mpr (Int32.le_trans (nI_pos' hn) h)⟩
theorem oc_Q_turn {a : Nat} (ha : a < 4) : oc_Q 5 (R a) fr fc fo fp R A (fun j => 1 - oc_aN A a j) := by
  intro ff P U H C Z E M D hR c hc post h
  obtain ⟨n, e, hV, hA⟩ := hR a ha
  rw [e]
  refine oc_cell_turn hV hc ?_
  rw [← oc_aN_d hV hA hc]; exact h
theorem oc_Q_mirror {a d : Nat} (ha : a < 4) (hd : d < 3) : oc_Q 6 (R a) fr fc fo (nI d) R A (fun j => oc_aN A a (j ^^^ (7 * 2 ^ (3 * d)))) := by
  intro ff P U H C Z E M D hR c hc post h
  obtain ⟨n, e, hV, hA⟩ := hR a ha
  rw [e]
  refine oc_cell_mirror hV hc hd ?_
  rw [← oc_aN_d hV hA (oc_x7l hc hd)]; exact h
theorem oc_Q_op {o a b : Nat} (ho : o < 4) (ha : a < 4) (hb : b < 4) : oc_Q (nI o) (R a) (R b) fc fo fp R A (fun j => oc_op o (oc_aN A a j) (oc_aN A b j)) := by
  intro ff P U H C Z E M D hR c hc post h
  obtain ⟨n, e, hV, hA⟩ := hR a ha
  obtain ⟨m, e', hV', hA'⟩ := hR b hb
  rw [e, e']
  refine oc_cell_op ho hV hV' hc ?_
  rw [← oc_aN_d hV hA hc, ← oc_aN_d hV' hA' hc]; exact h
theorem oc_Q_box {a c d w : Nat} (ha : a < 4) (hc : c < 512) (hd : d < 512) : oc_Q 4 (R a) fr (nI c) (nI d) (nI w) R A (fun j => if oc_bx c d j = true then w else oc_aN A a j) := by
  intro ff P U H C Z E M D hR e he post h
  obtain ⟨n, er, hV, hA⟩ := hR a ha
  rw [er]
  refine oc_cell_box hV hc hd he ?_
  rw [← oc_aN_d hV hA he]; exact h
end
theorem i_vc_turn {k : Nat} {u : SX} {v : SY} (I : i_Rel k u v) (hk : k + 5 ≤ 2560) (v1 : Int32) (v2 : Int32) : wpX_turn (fun r u' => wpY_turn (fun r' v' => r' = r ∧ i_Rel (k + 5) u' v') v v1 v2) u v1 v2 := by
  obtain ⟨ff, ft, fl, fr, fc, fo, fp, P, U, H, C, Z, R, E, M, D⟩ := u
  obtain ⟨A, B⟩ := v
  obtain ⟨hC, hR⟩ := oc_lre I
  unfold wpX_turn
  dsimp only
  by_cases h1 : ∃ r, r < 4 ∧ v1 = nI r
  · obtain ⟨r, hr, rfl⟩ := h1
    refine oc_isS_t hr (br_f (by decide) ?_)
    by_cases h2 : ∃ r, r < 4 ∧ v2 = nI r
    · obtain ⟨a, ha, rfl⟩ := h2
      refine oc_isS_t ha (br_f (by decide) (And.intro (vp_in_nI ha (by omega)) ?_))
      rw [nI_clamp (by omega)]
      refine nm_e (oc_build hr hC hR (oc_Q_turn ha) (fun c hc => by show 1 - oc_aN A a c < 2; omega) (fun n P' U' H' C' ff' E' M' D' c1 c2 c3 c4 => ?_))
      dsimp only
      exact oc_yturn hr ha (oc_aN_x hR ha) fun A' B' hW => ⟨rfl, oc_rel c1 (oc_RO_W c2 hr c3 c4 hW)⟩
    · refine oc_isS_f h2 (br_t rfl ?_)
      unfold wpY_turn
      dsimp only
      exact oc_yS_t hr (br_f (by decide) (oc_yS_f h2 (br_t rfl ⟨rfl, I⟩)))
  · refine oc_isS_f h1 (br_t rfl ?_)
    unfold wpY_turn
    dsimp only
    exact oc_yS_f h1 (br_t rfl ⟨rfl, I⟩)
theorem i_vc_mirror {k : Nat} {u : SX} {v : SY} (I : i_Rel k u v) (hk : k + 5 ≤ 2560) (v1 : Int32) (v2 : Int32) (v3 : Int32) : wpX_mirror (fun r u' => wpY_mirror (fun r' v' => r' = r ∧ i_Rel (k + 5) u' v') v v1 v2 v3) u v1 v2 v3 := by
  obtain ⟨ff, ft, fl, fr, fc, fo, fp, P, U, H, C, Z, R, E, M, D⟩ := u
  obtain ⟨A, B⟩ := v
  obtain ⟨hC, hR⟩ := oc_lre I
  unfold wpX_mirror
  dsimp only
  by_cases h1 : ∃ r, r < 4 ∧ v1 = nI r
  · obtain ⟨r, hr, rfl⟩ := h1
    refine oc_isS_t hr (br_f (by decide) ?_)
    by_cases h2 : ∃ r, r < 4 ∧ v2 = nI r
    · obtain ⟨a, ha, rfl⟩ := h2
      refine oc_isS_t ha (br_f (by decide) ?_)
      have bad : (v3 < 0 ∨ ¬ v3 < 0 ∧ ¬ v3 ≤ 2) → wpY_mirror (fun r' v' => r' = 0 ∧ i_Rel (k + 5) (ff, ft, fl, fr, fc, fo, fp, P, U, H, C, Z, R, E, M, D) v') (A, B) (nI r) (nI a) v3 := by
        intro z
        unfold wpY_mirror
        dsimp only
        refine oc_yS_t hr (br_f (by decide) (oc_yS_t ha (br_f (by decide) ?_)))
        rcases z with z | ⟨z, z'⟩
        · exact br_t z ⟨rfl, I⟩
        · exact br_f z (br_f z' ⟨rfl, I⟩)
      rcases pk_ix v3 (n := 3) (by decide) with z | z | ⟨d, hd, rfl⟩
      · exact br_t z (bad (Or.inl z))
      · obtain ⟨z1, z2⟩ := oc_big (n := 2) (by decide) z
        exact br_f z2 (br_f z1 (bad (Or.inr ⟨z2, z1⟩)))
      · refine br_f (nI_pos (by omega)) (br_t (nI_le (b := 2) (by omega) (by omega)) (And.intro (vp_in_nI ha (by omega)) ?_))
        rw [nI_clamp (by omega)]
        refine nm_e (oc_build hr hC hR (oc_Q_mirror ha hd) (fun c hc => (oc_aN_x hR ha _ (oc_x7l hc hd)).2) (fun n P' U' H' C' ff' E' M' D' c1 c2 c3 c4 => ?_))
        dsimp only
        exact oc_ymirror hr ha hd (oc_aN_x hR ha) fun A' B' hW => ⟨rfl, oc_rel c1 (oc_RO_W c2 hr c3 c4 hW)⟩
    · refine oc_isS_f h2 (br_t rfl ?_)
      unfold wpY_mirror
      dsimp only
      exact oc_yS_t hr (br_f (by decide) (oc_yS_f h2 (br_t rfl ⟨rfl, I⟩)))
  · refine oc_isS_f h1 (br_t rfl ?_)
    unfold wpY_mirror
    dsimp only
    exact oc_yS_f h1 (br_t rfl ⟨rfl, I⟩)
theorem i_vc_combine {k : Nat} {u : SX} {v : SY} (I : i_Rel k u v) (hk : k + 5 ≤ 2560) (v1 : Int32) (v2 : Int32) (v3 : Int32) (v4 : Int32) : wpX_combine (fun r u' => wpY_combine (fun r' v' => r' = r ∧ i_Rel (k + 5) u' v') v v1 v2 v3 v4) u v1 v2 v3 v4 := by
  obtain ⟨ff, ft, fl, fr, fc, fo, fp, P, U, H, C, Z, R, E, M, D⟩ := u
  obtain ⟨A, B⟩ := v
  obtain ⟨hC, hR⟩ := oc_lre I
  unfold wpX_combine
  dsimp only
  by_cases h1 : ∃ r, r < 4 ∧ v1 = nI r
  · obtain ⟨r, hr, rfl⟩ := h1
    refine oc_isS_t hr (br_f (by decide) ?_)
    by_cases h2 : ∃ r, r < 4 ∧ v3 = nI r
    · obtain ⟨a, ha, rfl⟩ := h2
      refine oc_isS_t ha (br_f (by decide) ?_)
      by_cases h3 : ∃ r, r < 4 ∧ v4 = nI r
      · obtain ⟨b, hb, rfl⟩ := h3
        refine oc_isS_t hb (br_f (by decide) ?_)
        have bad : (v2 < 0 ∨ ¬ v2 < 0 ∧ ¬ v2 ≤ 3) → wpY_combine (fun r' v' => r' = 0 ∧ i_Rel (k + 5) (ff, ft, fl, fr, fc, fo, fp, P, U, H, C, Z, R, E, M, D) v') (A, B) (nI r) v2 (nI a) (nI b) := by
          intro z
          unfold wpY_combine
          dsimp only
          refine oc_yS_t hr (br_f (by decide) (oc_yS_t ha (br_f (by decide) (oc_yS_t hb (br_f (by decide) ?_)))))
          rcases z with z | ⟨z, z'⟩
          · exact br_t z ⟨rfl, I⟩
          · exact br_f z (br_f z' ⟨rfl, I⟩)
        rcases pk_ix v2 (n := 4) (by decide) with z | z | ⟨o, ho, rfl⟩
        · exact br_t z (bad (Or.inl z))
        · obtain ⟨z1, z2⟩ := oc_big (n := 3) (by decide) z
          exact br_f z2 (br_f z1 (bad (Or.inr ⟨z2, z1⟩)))
        · refine br_f (nI_pos (by omega)) (br_t (nI_le (b := 3) (by omega) (by omega)) (And.intro (vp_in_nI ha (by omega)) ?_))
          rw [nI_clamp (n := a) (by omega), nI_clamp (n := b) (by omega)]
          refine nm_e (And.intro (vp_in_nI hb (by omega)) (nm_e (oc_build hr hC hR (oc_Q_op ho ha hb) (fun c hc => oc_op2 o ho _ (oc_aN_x hR ha c hc).2 _ (oc_aN_x hR hb c hc).2) (fun n P' U' H' C' ff' E' M' D' c1 c2 c3 c4 => ?_))))
          dsimp only
          exact oc_ycomb ho hr ha hb (oc_aN_x hR ha) (oc_aN_x hR hb) fun A' B' hW => ⟨rfl, oc_rel c1 (oc_RO_W c2 hr c3 c4 hW)⟩
      · refine oc_isS_f h3 (br_t rfl ?_)
        unfold wpY_combine
        dsimp only
        exact oc_yS_t hr (br_f (by decide) (oc_yS_t ha (br_f (by decide) (oc_yS_f h3 (br_t rfl ⟨rfl, I⟩)))))
    · refine oc_isS_f h2 (br_t rfl ?_)
      unfold wpY_combine
      dsimp only
      exact oc_yS_t hr (br_f (by decide) (oc_yS_f h2 (br_t rfl ⟨rfl, I⟩)))
  · refine oc_isS_f h1 (br_t rfl ?_)
    unfold wpY_combine
    dsimp only
    exact oc_yS_f h1 (br_t rfl ⟨rfl, I⟩)
theorem i_vc_box {k : Nat} {u : SX} {v : SY} (I : i_Rel k u v) (hk : k + 5 ≤ 2560) (v1 : Int32) (v2 : Int32) (v3 : Int32) (v4 : Int32) : wpX_box (fun r u' => wpY_box (fun r' v' => r' = r ∧ i_Rel (k + 5) u' v') v v1 v2 v3 v4) u v1 v2 v3 v4 := by
  obtain ⟨ff, ft, fl, fr, fc, fo, fp, P, U, H, C, Z, R, E, M, D⟩ := u
  obtain ⟨A, B⟩ := v
  obtain ⟨hC, hR⟩ := oc_lre I
  unfold wpX_box
  dsimp only
  by_cases h1 : ∃ r, r < 4 ∧ v1 = nI r
  · obtain ⟨r, hr, rfl⟩ := h1
    refine oc_isS_t hr (br_f (by decide) ?_)
    by_cases h2 : ∃ r, r < 512 ∧ v2 = nI r
    · obtain ⟨c, hc, rfl⟩ := h2
      refine oc_isC_t hc (br_f (by decide) ?_)
      by_cases h3 : ∃ r, r < 512 ∧ v3 = nI r
      · obtain ⟨d, hd, rfl⟩ := h3
        refine oc_isC_t hd (br_f (by decide) ?_)
        have bad : (¬ v4 = 0 ∧ ¬ v4 = 1) → wpY_box (fun r' v' => r' = 0 ∧ i_Rel (k + 5) (ff, ft, fl, fr, fc, fo, fp, P, U, H, C, Z, R, E, M, D) v') (A, B) (nI r) (nI c) (nI d) v4 := by
          intro z
          unfold wpY_box
          dsimp only
          exact oc_yS_t hr (br_f (by decide) (oc_yC_t hc (br_f (by decide) (oc_yC_t hd (br_f (by decide) (br_f z.1 (br_f z.2 ⟨rfl, I⟩)))))))
        rcases pk_ix v4 (n := 2) (by decide) with z | z | ⟨w, hw, rfl⟩
        · refine br_t z (bad ⟨fun q => ?_, fun q => ?_⟩)
          · subst q; exact absurd z (by decide)
          · subst q; exact absurd z (by decide)
        · obtain ⟨z1, z2⟩ := oc_big (n := 1) (by decide) z
          refine br_f z2 (br_f z1 (bad ⟨fun q => ?_, fun q => ?_⟩))
          · subst q; exact z1 (by decide)
          · subst q; exact z1 (by decide)
        · refine br_f (nI_pos (by omega)) (br_t (nI_le (b := 1) (by omega) (by omega)) (And.intro (vp_in_nI hr (by omega)) ?_))
          rw [nI_clamp (n := r) (by omega)]
          refine nm_e (oc_build hr hC hR (oc_Q_box hr hc hd) (fun j hj => ?_) (fun n P' U' H' C' ff' E' M' D' c1 c2 c3 c4 => ?_))
          · have := (oc_aN_x hR hr j hj).2
            show (if oc_bx c d j = true then w else oc_aN A r j) < 2
            split <;> omega
          · dsimp only
            exact oc_ybox hr hc hd hw (oc_aN_x hR hr) fun A' hW => ⟨rfl, oc_rel c1 (oc_RO_W c2 hr c3 c4 hW)⟩
      · refine oc_isC_f h3 (br_t rfl ?_)
        unfold wpY_box
        dsimp only
        exact oc_yS_t hr (br_f (by decide) (oc_yC_t hc (br_f (by decide) (oc_yC_f h3 (br_t rfl ⟨rfl, I⟩)))))
    · refine oc_isC_f h2 (br_t rfl ?_)
      unfold wpY_box
      dsimp only
      exact oc_yS_t hr (br_f (by decide) (oc_yC_f h2 (br_t rfl ⟨rfl, I⟩)))
  · refine oc_isS_f h1 (br_t rfl ?_)
    unfold wpY_box
    dsimp only
    exact oc_yS_f h1 (br_t rfl ⟨rfl, I⟩)
end
section
/-! ===== volume, has, same, inside, next ===== -/
section
variable {ff ft fl fr fc fo fp : Int32} {P U H C Z R E M D : Nat → Int32}
variable {A B : Nat → Int32} {x y : Nat → Nat}
def oc_sum (f : Nat → Nat) : Nat → Nat
  | 0 => 0
  | n + 1 => oc_sum f n + f n
theorem oc_sum_l (f : Nat → Nat) : ∀ n, oc_sum f n = ((List.range n).map f).sum := by
  intro n
  induction n with
  | zero => rfl
  | succ n ih =>
    show oc_sum f n + f n = _
    rw [List.range_succ, List.map_append, List.sum_append_nat, ih]
    simp
theorem oc_sum_c {f g : Nat → Nat} : ∀ n, (∀ i, i < n → f i = g i) → oc_sum f n = oc_sum g n := by
  intro n
  induction n with
  | zero => intro _; rfl
  | succ n ih =>
    intro h
    show oc_sum f n + f n = oc_sum g n + g n
    rw [ih fun i hi => h i (by omega), h n (by omega)]
theorem oc_perm : ((List.range 512).map oc_ct).Perm (List.range 512) := by
  refine (List.perm_ext_iff_of_nodup ?_ List.nodup_range).mpr fun c => ?_
  · refine List.pairwise_map.mpr (List.Pairwise.imp_of_mem ?_ List.nodup_range)
    intro a b ha hb hab e
    refine hab ?_
    rw [← oc_mc a (List.mem_range.mp ha), e, oc_mc b (List.mem_range.mp hb)]
  · rw [List.mem_map, List.mem_range]
    constructor
    · rintro ⟨m, _, rfl⟩
      exact oc_ct512 m
    · intro hc
      exact ⟨oc_mo c, List.mem_range.mpr (oc_mo512 c), oc_cm c hc⟩
/-- a sum over the cells in Morton order -/
theorem oc_sum_p (f : Nat → Nat) : oc_sum (fun m => f (oc_ct m)) 512 = oc_sum f 512 := by
  rw [oc_sum_l, oc_sum_l, ← List.Perm.sum_nat (oc_perm.map f), List.map_map]
  rfl
theorem oc_xvol {post : Int32 → Prop} {n r : Nat} (hr : r < 4) (hR : R r = nI n) (hV : oc_V P U 3 n) (h : post (nI (oc_sum (fun m => oc_dn P n (oc_ct m) 3) 512))) : ∀ (k m : Nat), m + k = 512 → wX_volume_13 post (nI r) ff ft fl fr fc fo fp P U H C Z R E M D (k + 1) (nI (oc_sum (fun m => oc_dn P n (oc_ct m) 3) m)) (nI m) := by
  intro k
  induction k with
  | zero =>
    intro m hm
    have : m = 512 := by omega
    subst this
    exact br_t (nI_le (a := 512) (b := 512) (by omega) (by omega)) h
  | succ k ih =>
    intro m hm
    refine br_f (nI_ge (b := 512) (by omega) (by omega)) (oc_cellAt (by omega) (And.intro (vp_in_nI hr (by omega)) ?_))
    rw [nI_clamp (by omega), hR]
    exact oc_cube0 hV (oc_ct512 _) (nm_r (nI_add _ _) (nm_r (nI_1 m) (ih (m + 1) (by omega))))
theorem oc_yvol {post : Int32 → Prop} {r : Nat} (hr : r < 4) (hx : ∀ j, j < 512 → A (512 * r + j) = nI (x j) ∧ x j < 2) (h : post (nI (oc_sum x 512))) : ∀ (k e : Nat), e + k = 512 → wY_volume_4 post (nI r) A B (k + 1) (nI (oc_sum x e)) (nI e) := by
  intro k
  induction k with
  | zero =>
    intro e he
    have : e = 512 := by omega
    subst this
    refine br_t (nI_le (a := 512) (b := 512) (by omega) (by omega)) ?_
    exact oc_yS_t hr (br_f (by decide) h)
  | succ k ih =>
    intro e he
    obtain ⟨h1, h2⟩ := hx e (by omega)
    have ihe := ih (e + 1) (by omega)
    refine br_f (nI_ge (b := 512) (by omega) (by omega)) (oc_yS_t hr (br_f (by decide) (And.intro (oc_jxi hr (by omega)) ?_)))
    rw [oc_jxc hr (by omega), h1]
    refine pk_eq (x e) 0 (fun z => nm_r (nI_1 e) ?_) (fun z => nm_r (nI_1 _) (nm_r (nI_1 e) ?_))
    · rw [show oc_sum x (e + 1) = oc_sum x e from by show oc_sum x e + x e = _; omega] at ihe
      exact ihe
    · rw [show oc_sum x (e + 1) = oc_sum x e + 1 from by show oc_sum x e + x e = _; omega] at ihe
      exact ihe
theorem oc_xhas {post : Int32 → Prop} {n r c : Nat} (hr : r < 4) (hR : R r = nI n) (hV : oc_V P U 3 n) (hc : c < 512) (h : post (nI (oc_dn P n c 3))) : wpX_has post (ff, ft, fl, fr, fc, fo, fp, P, U, H, C, Z, R, E, M, D) (nI r) (nI c) := by
  unfold wpX_has
  dsimp only
  refine oc_isS_t hr (br_f (by decide) (oc_isC_t hc (br_f (by decide) (And.intro (vp_in_nI hr (by omega)) ?_))))
  rw [nI_clamp (by omega), hR]
  have h2 := oc_dn2 (c := c) hV
  refine oc_cube0 hV hc (pk_eq (oc_dn P n c 3) 1 (fun z => ?_) (fun z => ?_))
  · rw [z] at h; exact h
  · rw [show oc_dn P n c 3 = 0 from by omega] at h; exact h
theorem oc_xin {post : Int32 → Prop} {n m a b : Nat} (ha : a < 4) (hb : b < 4) (hRa : R a = nI n) (hRb : R b = nI m) (hV : oc_V P U 3 n) (hV' : oc_V P U 3 m) (h1 : (∀ e, e < 512 → oc_dn P n e 3 = 0 ∨ oc_dn P m e 3 ≠ 0) → post 1) (h0 : ¬ (∀ e, e < 512 → oc_dn P n e 3 = 0 ∨ oc_dn P m e 3 ≠ 0) → post 0) : ∀ (k e : Nat), e + k = 512 → (∀ j, j < e → oc_dn P n j 3 = 0 ∨ oc_dn P m j 3 ≠ 0) → wX_inside_18 post (nI a) (nI b) ff ft fl fr fc fo fp P U H C Z R E M D (k + 1) (nI e) := by
  intro k
  induction k with
  | zero =>
    intro e he h
    exact br_t (nI_le (a := 512) (by omega) (by omega)) (h1 fun j hj => h j (by omega))
  | succ k ih =>
    intro e he h
    have stp : (oc_dn P n e 3 = 0 ∨ oc_dn P m e 3 ≠ 0) → wX_inside_18 post (nI a) (nI b) ff ft fl fr fc fo fp P U H C Z R E M D (k + 1) (nI (e + 1)) := by
      intro z
      refine ih (e + 1) (by omega) fun j hj => ?_
      by_cases q : j = e
      · rw [q]; exact z
      · exact h j (by omega)
    have b1 := oc_dn2 (c := e) hV
    have b2 := oc_dn2 (c := e) hV'
    refine br_f (nI_ge (b := 512) (by omega) (by omega)) (And.intro (vp_in_nI ha (by omega)) ?_)
    rw [nI_clamp (n := a) (by omega), hRa]
    refine oc_cube0 hV (by omega) (pk_eq (oc_dn P n e 3) 1 (fun z => (And.intro (vp_in_nI hb (by omega)) ?_)) (fun z => nm_r (nI_1 e) (stp (by omega))))
    rw [nI_clamp (n := b) (by omega), hRb]
    refine oc_cube0 hV' (by omega) (pk_eq (oc_dn P m e 3) 0 (fun w => h0 fun q => ?_) (fun w => nm_r (nI_1 e) (stp (Or.inr w))))
    have := q e (by omega)
    omega
theorem oc_yin25 {post : Int32 → Prop} {a b : Nat} (ha : a < 4) (hb : b < 4) (hx : ∀ j, j < 512 → A (512 * a + j) = nI (x j) ∧ x j < 2) (hy : ∀ j, j < 512 → A (512 * b + j) = nI (y j) ∧ y j < 2) (h1 : (∀ e, e < 512 → x e = 0 ∨ y e ≠ 0) → post 1) (h0 : ¬ (∀ e, e < 512 → x e = 0 ∨ y e ≠ 0) → post 0) : ∀ (k e : Nat), e + k = 512 → (∀ j, j < e → x j = 0 ∨ y j ≠ 0) → wY_inside_25 post (nI a) (nI b) A B (k + 2) 1 (nI e) := by
  intro k
  induction k with
  | zero =>
    intro e he h
    exact br_t (nI_le (a := 512) (by omega) (by omega)) (And.intro (oc_nb (n := 1) (by omega)) (h1 fun j hj => h j (by omega)))
  | succ k ih =>
    intro e he h
    have stp : (x e = 0 ∨ y e ≠ 0) → wY_inside_25 post (nI a) (nI b) A B (k + 2) 1 (nI (e + 1)) := by
      intro z
      refine ih (e + 1) (by omega) fun j hj => ?_
      by_cases q : j = e
      · rw [q]; exact z
      · exact h j (by omega)
    obtain ⟨h2, h3⟩ := hx e (by omega)
    obtain ⟨h4, h5⟩ := hy e (by omega)
    refine br_f (nI_ge (b := 512) (by omega) (by omega)) (br_f (by decide) (And.intro (oc_jxi ha (by omega)) ?_))
    rw [oc_jxc ha (by omega), h2]
    refine pk_eq (x e) 0 (fun z => nm_r (nI_1 e) (stp (Or.inl z))) (fun z => (And.intro (oc_jxi hb (by omega)) ?_))
    rw [oc_jxc hb (by omega), h4]
    refine pk_eq (y e) 0 (fun w => nm_r (nI_1 e) ?_) (fun w => nm_r (nI_1 e) (stp (Or.inr w)))
    have hp : post 0 := h0 fun q => by have := q e (by omega); omega
    exact br_c (fun _ => (And.intro (oc_nb (n := 0) (by omega)) hp)) (fun _ => br_t rfl (And.intro (oc_nb (n := 0) (by omega)) hp))
theorem oc_yinside {post : Int32 → Prop} {a b : Nat} (ha : a < 4) (hb : b < 4) (hx : ∀ j, j < 512 → A (512 * a + j) = nI (x j) ∧ x j < 2) (hy : ∀ j, j < 512 → A (512 * b + j) = nI (y j) ∧ y j < 2) (h1 : (∀ e, e < 512 → x e = 0 ∨ y e ≠ 0) → post 1) (h0 : ¬ (∀ e, e < 512 → x e = 0 ∨ y e ≠ 0) → post 0) : wpY_inside post (A, B) (nI a) (nI b) := by
  unfold wpY_inside
  dsimp only
  exact oc_yS_t ha (br_f (by decide) (oc_yS_t hb (br_f (by decide) (Exists.intro 514 (oc_yin25 ha hb hx hy h1 h0 512 0 rfl (fun j hj => absurd hj (Nat.not_lt_zero j)))))))
theorem oc_yin0 {post : Int32 → Prop} {v1 v2 : Int32} (h : post 0) : ∃ n25, wY_inside_25 post v1 v2 A B n25 0 0 := (Exists.intro 1 (br_f (by decide) (br_t rfl (And.intro (oc_nb (n := 0) (by omega)) h))))
theorem oc_yinside_f {post : Int32 → Prop} {v1 v2 : Int32} (hn : (¬ ∃ r, r < 4 ∧ v1 = nI r) ∨ (¬ ∃ r, r < 4 ∧ v2 = nI r)) (h : post 0) : wpY_inside post (A, B) v1 v2 := by
  unfold wpY_inside
  dsimp only
  refine oc_solid (fun _ => br_t rfl (oc_yin0 h)) (fun r hr e => br_f (by decide) ?_)
  exact oc_yS_f (hn.resolve_left (fun z => z ⟨r, hr, e⟩)) (br_t rfl (oc_yin0 h))
end
theorem i_vc_volume {k : Nat} {u : SX} {v : SY} (I : i_Rel k u v) (hk : k + 5 ≤ 2560) (v1 : Int32) : wpX_volume (fun r => wpY_volume (fun r' => r' = r ∧ i_Rel (k + 5) u v) v v1) u v1 := by
  obtain ⟨ff, ft, fl, fr, fc, fo, fp, P, U, H, C, Z, R, E, M, D⟩ := u
  obtain ⟨A, B⟩ := v
  obtain ⟨hC, hR⟩ := oc_lre I
  unfold wpX_volume
  dsimp only
  by_cases h1 : ∃ r, r < 4 ∧ v1 = nI r
  · obtain ⟨r, hr, rfl⟩ := h1
    obtain ⟨n, e, hV, hA⟩ := hR r hr
    refine oc_isS_t hr (br_f (by decide) (Exists.intro 513 (oc_xvol hr e hV ?_ 512 0 rfl)))
    refine (Exists.intro 513 (oc_yvol (x := fun c => oc_dn P n c 3) hr (fun j hj => ⟨hA j hj, oc_dn2 hV⟩) ?_ 512 0 rfl))
    exact ⟨congrArg nI (oc_sum_p (fun c => oc_dn P n c 3)).symm, I⟩
  · refine oc_isS_f h1 (br_t rfl (Exists.intro 1 (br_f (by decide) (oc_yS_f h1 (br_t rfl ?_)))))
    exact oc_yS_f h1 (br_t rfl ⟨rfl, I⟩)
theorem i_vc_has {k : Nat} {u : SX} {v : SY} (I : i_Rel k u v) (hk : k + 5 ≤ 2560) (v1 : Int32) (v2 : Int32) : wpX_has (fun r => wpY_has (fun r' => r' = r ∧ i_Rel (k + 5) u v) v v1 v2) u v1 v2 := by
  obtain ⟨ff, ft, fl, fr, fc, fo, fp, P, U, H, C, Z, R, E, M, D⟩ := u
  obtain ⟨A, B⟩ := v
  obtain ⟨hC, hR⟩ := oc_lre I
  by_cases h1 : ∃ r, r < 4 ∧ v1 = nI r
  · obtain ⟨r, hr, rfl⟩ := h1
    by_cases h2 : ∃ r, r < 512 ∧ v2 = nI r
    · obtain ⟨c, hc, rfl⟩ := h2
      obtain ⟨n, e, hV, hA⟩ := hR r hr
      refine oc_xhas hr e hV hc ?_
      unfold wpY_has
      dsimp only
      refine oc_yS_t hr (br_f (by decide) (oc_yC_t hc (br_f (by decide) (And.intro (oc_jxi hr hc) ?_))))
      rw [oc_jxc hr hc, hA c hc]
      have h2 := oc_dn2 (c := c) hV
      refine pk_eq (oc_dn P n c 3) 0 (fun z => ⟨?_, I⟩) (fun z => ⟨?_, I⟩)
      · rw [z]; rfl
      · rw [show oc_dn P n c 3 = 1 from by omega]; rfl
    · unfold wpX_has wpY_has
      dsimp only
      exact oc_isS_t hr (br_f (by decide) (oc_isC_f h2 (br_t rfl (oc_yS_t hr (br_f (by decide) (oc_yC_f h2 (br_t rfl ⟨rfl, I⟩)))))))
  · unfold wpX_has wpY_has
    dsimp only
    exact oc_isS_f h1 (br_t rfl (oc_yS_f h1 (br_t rfl ⟨rfl, I⟩)))
theorem i_vc_inside {k : Nat} {u : SX} {v : SY} (I : i_Rel k u v) (hk : k + 5 ≤ 2560) (v1 : Int32) (v2 : Int32) : wpX_inside (fun r => wpY_inside (fun r' => r' = r ∧ i_Rel (k + 5) u v) v v1 v2) u v1 v2 := by
  obtain ⟨ff, ft, fl, fr, fc, fo, fp, P, U, H, C, Z, R, E, M, D⟩ := u
  obtain ⟨A, B⟩ := v
  obtain ⟨hC, hR⟩ := oc_lre I
  unfold wpX_inside
  dsimp only
  by_cases h1 : ∃ r, r < 4 ∧ v1 = nI r
  · obtain ⟨a, ha, rfl⟩ := h1
    by_cases h2 : ∃ r, r < 4 ∧ v2 = nI r
    · obtain ⟨b, hb, rfl⟩ := h2
      obtain ⟨n, e, hV, hA⟩ := hR a ha
      obtain ⟨m, e', hV', hA'⟩ := hR b hb
      have hx : ∀ j, j < 512 → A (512 * a + j) = nI (oc_dn P n j 3) ∧ oc_dn P n j 3 < 2 := fun j hj => ⟨hA j hj, oc_dn2 hV⟩
      have hy : ∀ j, j < 512 → A (512 * b + j) = nI (oc_dn P m j 3) ∧ oc_dn P m j 3 < 2 := fun j hj => ⟨hA' j hj, oc_dn2 hV'⟩
      refine oc_isS_t ha (br_f (by decide) (oc_isS_t hb (br_f (by decide) (Exists.intro 513 (oc_xin ha hb e e' hV hV' (fun z => ?_) (fun z => ?_) 512 0 rfl (fun j hj => absurd hj (Nat.not_lt_zero j)))))))
      · exact oc_yinside ha hb hx hy (fun _ => ⟨rfl, I⟩) (fun w => absurd z w)
      · exact oc_yinside ha hb hx hy (fun w => absurd w z) (fun _ => ⟨rfl, I⟩)
    · exact oc_isS_t ha (br_f (by decide) (oc_isS_f h2 (br_t rfl (oc_yinside_f (Or.inr h2) ⟨rfl, I⟩))))
  · exact oc_isS_f h1 (br_t rfl (oc_yinside_f (Or.inl h1) ⟨rfl, I⟩))
theorem i_vc_same {k : Nat} {u : SX} {v : SY} (I : i_Rel k u v) (hk : k + 5 ≤ 2560) (v1 : Int32) (v2 : Int32) : wpX_same (fun r => wpY_same (fun r' => r' = r ∧ i_Rel (k + 5) u v) v v1 v2) u v1 v2 := by
  obtain ⟨ff, ft, fl, fr, fc, fo, fp, P, U, H, C, Z, R, E, M, D⟩ := u
  obtain ⟨A, B⟩ := v
  obtain ⟨hC, hR⟩ := oc_lre I
  unfold wpX_same wpY_same
  dsimp only
  by_cases h1 : ∃ r, r < 4 ∧ v1 = nI r
  · obtain ⟨a, ha, rfl⟩ := h1
    by_cases h2 : ∃ r, r < 4 ∧ v2 = nI r
    · obtain ⟨b, hb, rfl⟩ := h2
      obtain ⟨n, e, hV, hA⟩ := hR a ha
      obtain ⟨m, e', hV', hA'⟩ := hR b hb
      have hx : ∀ j, j < 512 → A (512 * a + j) = nI (oc_dn P n j 3) ∧ oc_dn P n j 3 < 2 := fun j hj => ⟨hA j hj, oc_dn2 hV⟩
      have hy : ∀ j, j < 512 → A (512 * b + j) = nI (oc_dn P m j 3) ∧ oc_dn P m j 3 < 2 := fun j hj => ⟨hA' j hj, oc_dn2 hV'⟩
      have hn := oc_V_512 hV
      have hm := oc_V_512 hV'
      refine oc_isS_t ha (br_f (by decide) (oc_isS_t hb (br_f (by decide) (And.intro (vp_in_nI ha (by omega)) (And.intro (vp_in_nI hb (by omega)) ?_)))))
      rw [nI_clamp (n := a) (by omega), nI_clamp (n := b) (by omega), e, e']
      refine pk_eq n m (fun z => ?_) (fun z => ?_)
      · subst z
        have all : ∀ e, e < 512 → oc_dn P n e 3 = 0 ∨ oc_dn P n e 3 ≠ 0 := fun e _ => by omega
        refine oc_yinside ha hb hx hy (fun _ => br_f (by decide) ?_) (fun w => absurd all w)
        exact oc_yinside hb ha hy hx (fun _ => br_f (by decide) ⟨rfl, I⟩) (fun w => absurd all w)
      · refine oc_yinside ha hb hx hy (fun q1 => br_f (by decide) ?_) (fun w => br_t rfl ⟨rfl, I⟩)
        refine oc_yinside hb ha hy hx (fun q2 => ?_) (fun w => br_t rfl ⟨rfl, I⟩)
        refine absurd (oc_inj hC 3 n m hV hV' fun p hp => ?_) z
        have hp5 : p < 512 := hp
        have hc := oc_ct512 p
        have ev : ∀ n, oc_dd P 3 n p = oc_dn P n (oc_ct p) 3 := by
          intro n
          rw [oc_val P n (oc_ct p) (o := 3) (by omega), oc_mc p hp5, Nat.mod_eq_of_lt hp]
          rfl
        rw [ev, ev]
        have a1 := q1 _ hc
        have a2 := q2 _ hc
        have a3 := (hx _ hc).2
        have a4 := (hy _ hc).2
        omega
    · exact oc_isS_t ha (br_f (by decide) (oc_isS_f h2 (br_t rfl (oc_yinside_f (Or.inr h2) (br_t rfl ⟨rfl, I⟩)))))
  · exact oc_isS_f h1 (br_t rfl (oc_yinside_f (Or.inl h1) (br_t rfl ⟨rfl, I⟩)))
end
section
/-! ===== order, cubes ===== -/
section
variable {ff ft fl fr fc fo fp : Int32} {P U H C Z R E M D : Nat → Int32}
variable {A B : Nat → Int32} {x : Nat → Nat}
/-- the three coordinates without their last k digits -/
def oc_tk (c k : Nat) : Nat := oc_co c 0 / 2 ^ k + 8 * (oc_co c 1 / 2 ^ k) + 64 * (oc_co c 2 / 2 ^ k)
theorem oc_tkT1 : ∀ c, c < 512 → ∀ k, k < 4 → oc_tk (oc_ct (oc_mo c / 8 ^ k * 8 ^ k)) k = oc_tk c k := by decide +kernel
theorem oc_tkT2 : ∀ c, c < 512 → ∀ k, k < 4 → oc_mo (oc_tk c k * 2 ^ k) / 8 ^ k = oc_mo c / 8 ^ k := by decide +kernel
theorem oc_tgE {c e k : Nat} (hc : c < 512) (he : e < 512) (hk : k < 4) : (oc_co c 0 / 2 ^ k = oc_co e 0 / 2 ^ k ∧ oc_co c 1 / 2 ^ k = oc_co e 1 / 2 ^ k ∧ oc_co c 2 / 2 ^ k = oc_co e 2 / 2 ^ k) ↔ oc_mo c / 8 ^ k = oc_mo e / 8 ^ k := by
  constructor
  · rintro ⟨h0, h1, h2⟩
    have : oc_tk c k = oc_tk e k := by unfold oc_tk; rw [h0, h1, h2]
    rw [← oc_tkT2 c hc k hk, ← oc_tkT2 e he k hk, this]
  · intro h
    have : oc_tk c k = oc_tk e k := by rw [← oc_tkT1 c hc k hk, ← oc_tkT1 e he k hk, h]
    have l : ∀ d a : Nat, oc_co d a / 2 ^ k < 8 := fun d a => oc_div (oc_co8 d a)
    have l1 := l c 0
    have l2 := l c 1
    have l3 := l e 0
    have l4 := l e 1
    unfold oc_tk at this
    generalize oc_co c 0 / 2 ^ k = c0 at *
    generalize oc_co c 1 / 2 ^ k = c1 at *
    generalize oc_co c 2 / 2 ^ k = c2 at *
    generalize oc_co e 0 / 2 ^ k = e0 at *
    generalize oc_co e 1 / 2 ^ k = e1 at *
    generalize oc_co e 2 / 2 ^ k = e2 at *
    omega
theorem oc_together {post : Int32 → Prop} {v : SY} {c e k : Nat} (hc : c < 512) (he : e < 512) (hk : k < 4) (h1 : oc_mo c / 8 ^ k = oc_mo e / 8 ^ k → post 1) (h0 : ¬ oc_mo c / 8 ^ k = oc_mo e / 8 ^ k → post 0) : wpY_together post v (nI c) (nI e) (nI k) := by
  obtain ⟨ya, yb⟩ := v
  have l : ∀ d a : Nat, oc_co d a / 2 ^ k < 8 := fun d a => oc_div (oc_co8 d a)
  have sh : ∀ d a : Nat, nI (oc_co d a) >>> (nI k &&& 31) = nI (oc_co d a / 2 ^ k) := fun d a => oc_shr (by have := oc_co8 d a; omega) (by omega)
  have t := oc_tgE hc he hk
  unfold wpY_together
  dsimp only
  refine oc_part (a := 0) hc (by omega) (oc_part (a := 0) he (by omega) ?_)
  rw [sh, sh]
  have l1 := l c 0
  have l2 := l e 0
  refine pk_eq (oc_co c 0 / 2 ^ k) (oc_co e 0 / 2 ^ k) (fun z0 => ?_) (fun z => h0 fun q => z (t.mpr q).1)
  refine oc_part (a := 1) hc (by omega) (oc_part (a := 1) he (by omega) ?_)
  rw [sh, sh]
  have l3 := l c 1
  have l4 := l e 1
  refine pk_eq (oc_co c 1 / 2 ^ k) (oc_co e 1 / 2 ^ k) (fun z1 => ?_) (fun z => h0 fun q => z (t.mpr q).2.1)
  refine oc_part (a := 2) hc (by omega) (oc_part (a := 2) he (by omega) ?_)
  rw [sh, sh]
  have l5 := l c 2
  have l6 := l e 2
  exact pk_eq (oc_co c 2 / 2 ^ k) (oc_co e 2 / 2 ^ k) (fun z2 => h1 (t.mp ⟨z0, z1, z2⟩)) (fun z => h0 fun q => z (t.mpr q).2.2)
theorem oc_yev6 {post : Int32 → Prop} {r c k : Nat} (hr : r < 4) (hc : c < 512) (hk : k < 4) (hx : ∀ j, j < 512 → A (512 * r + j) = nI (x j) ∧ x j < 2) (h1 : (∀ e, e < 512 → oc_mo c / 8 ^ k = oc_mo e / 8 ^ k → x e = x c) → post 1) (h0 : ¬ (∀ e, e < 512 → oc_mo c / 8 ^ k = oc_mo e / 8 ^ k → x e = x c) → post 0) : ∀ (d e : Nat) (f : Int32), e + d = 512 → (f = 1 ∧ (∀ j, j < e → oc_mo c / 8 ^ k = oc_mo j / 8 ^ k → x j = x c) ∨ f = 0 ∧ ¬ (∀ e, e < 512 → oc_mo c / 8 ^ k = oc_mo e / 8 ^ k → x e = x c)) → wY_even_6 post (nI r) (nI c) (nI k) A B (d + 1) f (nI e) := by
  intro d
  induction d with
  | zero =>
    intro e f he hf
    have : e = 512 := by omega
    subst this
    refine br_t (nI_le (a := 512) (b := 512) (by omega) (by omega)) ?_
    rcases hf with ⟨rfl, hf⟩ | ⟨rfl, hf⟩
    · exact And.intro (oc_nb (n := 1) (by omega)) (h1 hf)
    · exact And.intro (oc_nb (n := 0) (by omega)) (h0 hf)
  | succ d ih =>
    intro e f he hf
    have e5 : e < 512 := by omega
    refine br_f (nI_ge (b := 512) (by omega) (by omega)) ?_
    rcases hf with ⟨rfl, hf⟩ | ⟨rfl, hf⟩
    · have stp : (oc_mo c / 8 ^ k = oc_mo e / 8 ^ k → x e = x c) → wY_even_6 post (nI r) (nI c) (nI k) A B (d + 1) 1 (nI (e + 1)) := by
        intro z
        refine ih (e + 1) 1 (by omega) (Or.inl ⟨rfl, fun j hj => ?_⟩)
        by_cases q : j = e
        · rw [q]; exact z
        · exact hf j (by omega)
      obtain ⟨a1, a2⟩ := hx e e5
      obtain ⟨a3, a4⟩ := hx c hc
      refine br_f (by decide) (oc_together hc e5 hk (fun t => br_f (by decide) (And.intro (oc_jxi hr e5) (And.intro (oc_jxi hr hc) ?_))) (fun t => br_t rfl (nm_r (nI_1 e) (stp fun q => absurd q t))))
      rw [oc_jxc hr e5, oc_jxc hr hc, a1, a3]
      refine pk_eq (x e) (x c) (fun z => nm_r (nI_1 e) (stp fun _ => z)) (fun z => nm_r (nI_1 e) (ih (e + 1) 0 (by omega) (Or.inr ⟨rfl, fun q => z (q e e5 t)⟩)))
    · exact br_t rfl (nm_r (nI_1 e) (ih (e + 1) 0 (by omega) (Or.inr ⟨rfl, hf⟩)))
theorem oc_yeven {post : Int32 → Prop} {r c k : Nat} (hr : r < 4) (hc : c < 512) (hk : k < 4) (hx : ∀ j, j < 512 → A (512 * r + j) = nI (x j) ∧ x j < 2) (h1 : (∀ e, e < 512 → oc_mo c / 8 ^ k = oc_mo e / 8 ^ k → x e = x c) → post 1) (h0 : ¬ (∀ e, e < 512 → oc_mo c / 8 ^ k = oc_mo e / 8 ^ k → x e = x c) → post 0) : wpY_even post (A, B) (nI r) (nI c) (nI k) := Exists.intro 513 (oc_yev6 hr hc hk hx h1 h0 512 0 1 rfl (Or.inl ⟨rfl, fun j hj => absurd hj (Nat.not_lt_zero j)⟩))
theorem oc_yord20 {post : Int32 → Prop} {n r c : Nat} (hC : oc_C P U) (hV : oc_V P U 3 n) (hr : r < 4) (hc : c < 512) (hA : ∀ c, c < 512 → A (512 * r + c) = nI (oc_dn P n c 3)) : ∀ o, o ≤ 3 → post (nI (oc_or P n c o)) → wY_order_20 post (nI r) (nI c) A B (o + 1) (nI o) := by
  intro o
  induction o with
  | zero => intro _ h; exact br_t (nI_le (a := 0) (b := 0) (by omega) (by omega)) h
  | succ o ih =>
    intro ho h
    have ev := oc_even hC hV hc ho
    unfold oc_or at h
    refine br_f (nI_nle (by omega) (by omega)) (oc_yeven (x := fun c => oc_dn P n c 3) hr hc (by omega) (fun j hj => ⟨hA j hj, oc_dn2 hV⟩) (fun z => br_f (by decide) ?_) (fun z => br_t rfl (nm_r (pk_m1 o) (ih (by omega) ?_))))
    · rw [if_pos (ev.mpr z)] at h; exact h
    · rw [if_neg (fun q => z (ev.mp q))] at h; exact h
theorem oc_yorder {post : Int32 → Prop} {n r c : Nat} (hC : oc_C P U) (hV : oc_V P U 3 n) (hr : r < 4) (hc : c < 512) (hA : ∀ c, c < 512 → A (512 * r + c) = nI (oc_dn P n c 3)) (h : post (nI (oc_or P n c 3))) : wpY_order post (A, B) (nI r) (nI c) := by
  unfold wpY_order
  dsimp only
  exact oc_yS_t hr (br_f (by decide) (oc_yC_t hc (br_f (by decide) (Exists.intro 4 (oc_yord20 hC hV hr hc hA 3 (by omega) h)))))
theorem oc_cnT : ∀ c, c < 512 → ∀ k, k < 4 → ((oc_co c 0 % 2 ^ k = 0 ∧ oc_co c 1 % 2 ^ k = 0 ∧ oc_co c 2 % 2 ^ k = 0) ↔ oc_mo c % 8 ^ k = 0) := by decide +kernel
theorem oc_lowT : ∀ k, k < 4 → ((1 : Int32) <<< (nI k &&& 31)) - 1 = nI (2 ^ k - 1) := by decide +kernel
theorem oc_low8 : ∀ k, k < 4 → ((1 : Int32) <<< ((3 * nI k) &&& 31)) - 1 = nI (2 ^ (3 * k) - 1) := by decide +kernel
theorem oc_msk (v k : Nat) : nI v &&& nI (2 ^ k - 1) = nI (v % 2 ^ k) := by rw [nx_and, Nat.and_two_pow_sub_one_eq_mod]
theorem oc_corner {post : Int32 → Prop} {v : SY} {c k : Nat} (hc : c < 512) (hk : k < 4) (h1 : oc_mo c % 8 ^ k = 0 → post 1) (h0 : ¬ oc_mo c % 8 ^ k = 0 → post 0) : wpY_corner post v (nI c) (nI k) := by
  obtain ⟨ya, yb⟩ := v
  have l : ∀ d a : Nat, oc_co d a % 2 ^ k < 8 := fun d a => Nat.lt_of_le_of_lt (Nat.mod_le _ _) (oc_co8 d a)
  have t := oc_cnT c hc k hk
  unfold wpY_corner
  dsimp only
  refine nm_r (oc_lowT k hk) ?_
  refine oc_part (a := 0) hc (by omega) ?_
  rw [oc_msk]
  have l0 := l c 0
  refine pk_eq (oc_co c 0 % 2 ^ k) 0 (fun z0 => ?_) (fun z => h0 fun q => z (t.mpr q).1)
  refine oc_part (a := 1) hc (by omega) ?_
  rw [oc_msk]
  have l1 := l c 1
  refine pk_eq (oc_co c 1 % 2 ^ k) 0 (fun z1 => ?_) (fun z => h0 fun q => z (t.mpr q).2.1)
  refine oc_part (a := 2) hc (by omega) ?_
  rw [oc_msk]
  have l2 := l c 2
  exact pk_eq (oc_co c 2 % 2 ^ k) 0 (fun z2 => h1 (t.mp ⟨z0, z1, z2⟩)) (fun z => h0 fun q => z (t.mpr q).2.2)
/-- whether c is the first cell of its largest even cube -/
def oc_fc (P : Nat → Int32) (n c : Nat) : Nat := if oc_mo c % 8 ^ oc_or P n c 3 = 0 then 1 else 0
theorem oc_p83 (k : Nat) : 2 ^ (3 * k) = 8 ^ k := by rw [Nat.pow_mul]
theorem oc_xcub {post : Int32 → Prop} {n r : Nat} (hr : r < 4) (hR : R r = nI n) (hV : oc_V P U 3 n) (h : post (nI (oc_sum (fun m => oc_fc P n (oc_ct m)) 512))) : ∀ (k m : Nat), m + k = 512 → wX_cubes_13 post (nI r) ff ft fl fr fc fo fp P U H C Z R E M D (k + 1) (nI (oc_sum (fun m => oc_fc P n (oc_ct m)) m)) (nI m) := by
  intro k
  induction k with
  | zero =>
    intro m hm
    have : m = 512 := by omega
    subst this
    exact br_t (nI_le (a := 512) (b := 512) (by omega) (by omega)) h
  | succ k ih =>
    intro m hm
    have ihe := ih (m + 1) (by omega)
    have hle := oc_or_le P n (oc_ct m) 3
    have es : oc_sum (fun m => oc_fc P n (oc_ct m)) (m + 1) = oc_sum (fun m => oc_fc P n (oc_ct m)) m + oc_fc P n (oc_ct m) := rfl
    refine br_f (nI_ge (b := 512) (by omega) (by omega)) (oc_cellAt (by omega) (And.intro (vp_in_nI hr (by omega)) ?_))
    rw [nI_clamp (by omega), hR]
    refine oc_orderOf hV (oc_ct512 _) ?_
    rw [oc_low8 _ (by omega), oc_msk, oc_p83]
    have hb : m % 8 ^ oc_or P n (oc_ct m) 3 < 512 := Nat.lt_of_le_of_lt (Nat.mod_le _ _) (by omega)
    refine pk_eq (m % 8 ^ oc_or P n (oc_ct m) 3) 0 (fun z => nm_r (nI_1 _) (nm_r (nI_1 m) ?_)) (fun z => nm_r (nI_add _ 0) (nm_r (nI_1 m) ?_))
    · rw [es, show oc_fc P n (oc_ct m) = 1 from by unfold oc_fc; rw [oc_mc m (by omega), if_pos z]] at ihe
      exact ihe
    · rw [es, show oc_fc P n (oc_ct m) = 0 from by unfold oc_fc; rw [oc_mc m (by omega), if_neg z]] at ihe
      exact ihe
theorem oc_ycub {post : Int32 → Prop} {n r : Nat} (hC : oc_C P U) (hV : oc_V P U 3 n) (hr : r < 4) (hA : ∀ c, c < 512 → A (512 * r + c) = nI (oc_dn P n c 3)) (h : post (nI (oc_sum (oc_fc P n) 512))) : ∀ (k e : Nat), e + k = 512 → wY_cubes_4 post (nI r) A B (k + 1) (nI (oc_sum (oc_fc P n) e)) (nI e) := by
  intro k
  induction k with
  | zero =>
    intro e he
    have : e = 512 := by omega
    subst this
    refine br_t (nI_le (a := 512) (b := 512) (by omega) (by omega)) ?_
    exact oc_yS_t hr (br_f (by decide) h)
  | succ k ih =>
    intro e he
    have e5 : e < 512 := by omega
    have ihe := ih (e + 1) (by omega)
    have hle := oc_or_le P n e 3
    have es : oc_sum (oc_fc P n) (e + 1) = oc_sum (oc_fc P n) e + oc_fc P n e := rfl
    refine br_f (nI_ge (b := 512) (by omega) (by omega)) (oc_yS_t hr (br_f (by decide) (oc_yorder hC hV hr e5 hA (oc_corner e5 (by omega) (fun z => br_f (by decide) (nm_r (nI_1 _) (nm_r (nI_1 e) ?_))) (fun z => br_t rfl (nm_r (nI_1 e) ?_))))))
    · rw [es, show oc_fc P n e = 1 from if_pos z] at ihe
      exact ihe
    · rw [es, show oc_fc P n e = 0 from if_neg z] at ihe
      exact ihe
end
theorem i_vc_order {k : Nat} {u : SX} {v : SY} (I : i_Rel k u v) (hk : k + 5 ≤ 2560) (v1 : Int32) (v2 : Int32) : wpX_order (fun r => wpY_order (fun r' => r' = r ∧ i_Rel (k + 5) u v) v v1 v2) u v1 v2 := by
  obtain ⟨ff, ft, fl, fr, fc, fo, fp, P, U, H, C, Z, R, E, M, D⟩ := u
  obtain ⟨A, B⟩ := v
  obtain ⟨hC, hR⟩ := oc_lre I
  unfold wpX_order
  dsimp only
  by_cases h1 : ∃ r, r < 4 ∧ v1 = nI r
  · obtain ⟨r, hr, rfl⟩ := h1
    by_cases h2 : ∃ r, r < 512 ∧ v2 = nI r
    · obtain ⟨c, hc, rfl⟩ := h2
      obtain ⟨n, e, hV, hA⟩ := hR r hr
      refine oc_isS_t hr (br_f (by decide) (oc_isC_t hc (br_f (by decide) (And.intro (vp_in_nI hr (by omega)) ?_))))
      rw [nI_clamp (by omega), e]
      exact oc_orderOf hV hc (oc_yorder hC hV hr hc hA ⟨rfl, I⟩)
    · unfold wpY_order
      dsimp only
      exact oc_isS_t hr (br_f (by decide) (oc_isC_f h2 (br_t rfl (oc_yS_t hr (br_f (by decide) (oc_yC_f h2 (br_t rfl ⟨rfl, I⟩)))))))
  · unfold wpY_order
    dsimp only
    exact oc_isS_f h1 (br_t rfl (oc_yS_f h1 (br_t rfl ⟨rfl, I⟩)))
theorem i_vc_cubes {k : Nat} {u : SX} {v : SY} (I : i_Rel k u v) (hk : k + 5 ≤ 2560) (v1 : Int32) : wpX_cubes (fun r => wpY_cubes (fun r' => r' = r ∧ i_Rel (k + 5) u v) v v1) u v1 := by
  obtain ⟨ff, ft, fl, fr, fc, fo, fp, P, U, H, C, Z, R, E, M, D⟩ := u
  obtain ⟨A, B⟩ := v
  obtain ⟨hC, hR⟩ := oc_lre I
  unfold wpX_cubes wpY_cubes
  dsimp only
  by_cases h1 : ∃ r, r < 4 ∧ v1 = nI r
  · obtain ⟨r, hr, rfl⟩ := h1
    obtain ⟨n, e, hV, hA⟩ := hR r hr
    refine oc_isS_t hr (br_f (by decide) (Exists.intro 513 (oc_xcub hr e hV ?_ 512 0 rfl)))
    refine Exists.intro 513 (oc_ycub hC hV hr hA ?_ 512 0 rfl)
    exact ⟨congrArg nI (oc_sum_p (oc_fc P n)).symm, I⟩
  · refine oc_isS_f h1 (br_t rfl (Exists.intro 1 (br_f (by decide) (oc_yS_f h1 (br_t rfl ?_)))))
    exact oc_yS_f h1 (br_t rfl ⟨rfl, I⟩)
end
section
/-! ===== next, surface ===== -/
section
variable {ff ft fl fr fc fo fp : Int32} {P U H C Z R E M D : Nat → Int32}
variable {A B : Nat → Int32} {x : Nat → Nat}
/-- the first cell from e on, at least s, that is set; k cells are left -/
def oc_ny (x : Nat → Nat) (s : Nat) : Nat → Nat → Int32
  | 0 => fun _ => -1
  | k + 1 => fun e => if s ≤ e ∧ x e ≠ 0 then nI e else oc_ny x s k (e + 1)
theorem oc_ny_k {s : Nat} (k : Nat) : ∀ (d e : Nat), e + d ≤ s → oc_ny x s (k + d) e = oc_ny x s k (e + d) := by
  intro d
  induction d with
  | zero => intro e _; rfl
  | succ d ih =>
    intro e he
    show (if s ≤ e ∧ x e ≠ 0 then nI e else oc_ny x s (k + d) (e + 1)) = _
    rw [if_neg (by omega), ih (e + 1) (by omega), show e + 1 + d = e + (d + 1) from by omega]
theorem oc_xnx {post : Int32 → Prop} {n r s : Nat} (hr : r < 4) (hR : R r = nI n) (hV : oc_V P U 3 n) : ∀ (k e : Nat), e + k = 512 → s ≤ e → post (oc_ny (fun c => oc_dn P n c 3) s k e) → wX_next_10 post (nI r) ff ft fl fr fc fo fp P U H C Z R E M D (k + 1) (nI e) := by
  intro k
  induction k with
  | zero =>
    intro e he hs h
    exact br_t (nI_le (a := 512) (by omega) (by omega)) h
  | succ k ih =>
    intro e he hs h
    have e5 : e < 512 := by omega
    have h2 := oc_dn2 (c := e) hV
    have h' : post (if s ≤ e ∧ oc_dn P n e 3 ≠ 0 then nI e else oc_ny (fun c => oc_dn P n c 3) s k (e + 1)) := h
    refine br_f (nI_ge (b := 512) (by omega) (by omega)) (oc_isS_t hr (br_f (by decide) (oc_xhas hr hR hV e5 ?_)))
    refine pk_eq (oc_dn P n e 3) 0 (fun z => nm_r (nI_1 e) (ih (e + 1) (by omega) (by omega) ?_)) (fun z => ?_)
    · rw [if_neg (fun q => q.2 z)] at h'; exact h'
    · rw [if_pos ⟨hs, z⟩] at h'; exact h'
theorem oc_ynx {post : Int32 → Prop} {r s : Nat} {v : Int32} (hr : r < 4) (hx : ∀ j, j < 512 → A (512 * r + j) = nI (x j) ∧ x j < 2) (hs : ∀ e, e < 512 → (nI e < v ↔ e < s)) : ∀ (k e : Nat), e + k = 512 → post (oc_ny x s k e) → wY_next_2 post (nI r) v A B (k + 1) (nI e) := by
  intro k
  induction k with
  | zero =>
    intro e he h
    exact br_t (nI_le (a := 512) (by omega) (by omega)) h
  | succ k ih =>
    intro e he h
    have e5 : e < 512 := by omega
    obtain ⟨a1, a2⟩ := hx e e5
    have h' : post (if s ≤ e ∧ x e ≠ 0 then nI e else oc_ny x s k (e + 1)) := h
    refine br_f (nI_ge (b := 512) (by omega) (by omega)) (oc_yS_t hr (br_f (by decide) ?_))
    refine br_c (fun z => nm_r (nI_1 e) (ih (e + 1) (by omega) ?_)) (fun z => And.intro (oc_jxi hr e5) ?_)
    · have := (hs e e5).mp z
      rw [if_neg (by omega)] at h'; exact h'
    · have hse : s ≤ e := by
        have : ¬ e < s := fun q => z ((hs e e5).mpr q)
        omega
      rw [oc_jxc hr e5, a1]
      refine pk_eq (x e) 0 (fun w => nm_r (nI_1 e) (ih (e + 1) (by omega) ?_)) (fun w => ?_)
      · rw [if_neg (fun q => q.2 w)] at h'; exact h'
      · rw [if_pos ⟨hse, w⟩] at h'; exact h'
/-- faces of cell c on axis a -/
def oc_lo (x : Nat → Nat) (c a : Nat) : Nat := if oc_co c a = 0 ∨ x (c - 8 ^ a) = 0 then 1 else 0
def oc_hi (x : Nat → Nat) (c a : Nat) : Nat := if oc_co c a = 7 ∨ x (c + 8 ^ a) = 0 then 1 else 0
theorem oc_nbT : ∀ c, c < 512 → ∀ a, a < 3 → (oc_co c a ≠ 0 → 8 ^ a ≤ c) ∧ (oc_co c a ≠ 7 → c + 8 ^ a < 512) := by decide +kernel
theorem oc_unT : ∀ a, a < 3 → (1 : Int32) <<< ((3 * nI a) &&& 31) = nI (8 ^ a) := by decide +kernel
theorem oc_unM : ∀ a, a < 3 → (-1 : Int32) <<< ((3 * nI a) &&& 31) = -nI (8 ^ a) := by decide +kernel
theorem oc_8a : ∀ a, a < 3 → 8 ^ a < 65 := by decide
/-- the faces of cell c -/
def oc_fa (x : Nat → Nat) (c : Nat) : Nat := if x c = 0 then 0 else oc_sum (fun a => oc_lo x c a + oc_hi x c a) 3
theorem oc_xs77 {post : Int32 → Prop} {J13 J23 : Int32 → Int32 → Prop} {n r c a s z : Nat} (hr : r < 4) (hR : R r = nI n) (hV : oc_V P U 3 n) (hc : c < 512) (ha : a < 3) (h : J23 (nI (s + z + oc_hi (fun c => oc_dn P n c 3) c a)) (nI (a + 1))) : wX_surface_77 post J13 J23 (nI r) (nI c) (nI a) (nI (oc_co c a)) (nI (8 ^ a)) (nI z) (nI s) ff ft fl fr fc fo fp P U H C Z R E M D := by
  have c8 := oc_co8 c a
  have hn := oc_nbT c hc a ha
  refine nm_r (nI_add s z) (pk_eq (oc_co c a) 7 (fun w => nm_r (nI_1 _) (nm_r (nI_1 a) ?_)) (fun w => ?_))
  · rw [show oc_hi (fun c => oc_dn P n c 3) c a = 1 from if_pos (Or.inl w)] at h
    exact h
  · rw [nI_add]
    have h2 := oc_dn2 (c := c + 8 ^ a) hV
    refine oc_xhas hr hR hV (hn.2 w) (pk_eq (oc_dn P n (c + 8 ^ a) 3) 0 (fun q => nm_r (nI_1 _) (nm_r (nI_1 a) ?_)) (fun q => nm_r (nI_add _ 0) (nm_r (nI_1 a) ?_)))
    · rw [show oc_hi (fun c => oc_dn P n c 3) c a = 1 from if_pos (Or.inr q)] at h
      exact h
    · rw [show oc_hi (fun c => oc_dn P n c 3) c a = 0 from if_neg (fun t => t.elim w q)] at h
      exact h
theorem oc_xs23 {post : Int32 → Prop} {J13 : Int32 → Int32 → Prop} {n r c s : Nat} (hr : r < 4) (hR : R r = nI n) (hV : oc_V P U 3 n) (hc : c < 512) (hx : oc_dn P n c 3 ≠ 0) (h : J13 (nI (s + oc_sum (fun a => oc_lo (fun c => oc_dn P n c 3) c a + oc_hi (fun c => oc_dn P n c 3) c a) 3)) (nI (c + 1))) : ∀ (k a : Nat), a + k = 3 → wX_surface_23 post J13 (nI r) (nI c) ff ft fl fr fc fo fp P U H C Z R E M D (k + 1) (nI (s + oc_sum (fun a => oc_lo (fun c => oc_dn P n c 3) c a + oc_hi (fun c => oc_dn P n c 3) c a) a)) (nI a) := by
  intro k
  induction k with
  | zero =>
    intro a ha
    have : a = 3 := by omega
    subst this
    exact br_t (nI_le (a := 3) (b := 3) (by omega) (by omega)) (nm_r (nI_1 c) h)
  | succ k ih =>
    intro a ha
    have a3 : a < 3 := by omega
    have ihe := ih (a + 1) (by omega)
    have c8 := oc_co8 c a
    have hn := oc_nbT c hc a a3
    have h2 := oc_dn2 (c := c) hV
    have es : s + oc_sum (fun a => oc_lo (fun c => oc_dn P n c 3) c a + oc_hi (fun c => oc_dn P n c 3) c a) (a + 1) = s + oc_sum (fun a => oc_lo (fun c => oc_dn P n c 3) c a + oc_hi (fun c => oc_dn P n c 3) c a) a + oc_lo (fun c => oc_dn P n c 3) c a + oc_hi (fun c => oc_dn P n c 3) c a := by
      show s + (_ + (_ + _)) = _
      omega
    rw [es] at ihe
    generalize hS : s + oc_sum (fun a => oc_lo (fun c => oc_dn P n c 3) c a + oc_hi (fun c => oc_dn P n c 3) c a) a = S at ihe ⊢
    refine br_f (nI_ge (b := 3) (by omega) (by omega)) (oc_xhas hr hR hV hc (br_f ?_ (oc_coord hc a3 (nm_r (oc_unT a a3) ?_))))
    · exact nI_ne0 (by omega) (by omega)
    · refine pk_eq (oc_co c a) 0 (fun w => ?_) (fun w => ?_)
      · rw [show oc_lo (fun c => oc_dn P n c 3) c a = 1 from if_pos (Or.inl w)] at ihe
        unfold wX_surface_72
        exact oc_xs77 (z := 1) hr hR hV hc a3 ihe
      · rw [pk_sub (hn.1 w)]
        have h3 := oc_dn2 (c := c - 8 ^ a) hV
        refine oc_xhas hr hR hV (Nat.lt_of_le_of_lt (Nat.sub_le _ _) hc) (pk_eq (oc_dn P n (c - 8 ^ a) 3) 0 (fun q => ?_) (fun q => ?_))
        · rw [show oc_lo (fun c => oc_dn P n c 3) c a = 1 from if_pos (Or.inr q)] at ihe
          unfold wX_surface_72
          exact oc_xs77 (z := 1) hr hR hV hc a3 ihe
        · rw [show oc_lo (fun c => oc_dn P n c 3) c a = 0 from if_neg (fun t => t.elim w q)] at ihe
          exact oc_xs77 (z := 0) hr hR hV hc a3 ihe
theorem oc_xsurf {post : Int32 → Prop} {n r : Nat} (hr : r < 4) (hR : R r = nI n) (hV : oc_V P U 3 n) (h : post (nI (oc_sum (oc_fa (fun c => oc_dn P n c 3)) 512))) : ∀ (k c : Nat), c + k = 512 → wX_surface_13 post (nI r) ff ft fl fr fc fo fp P U H C Z R E M D (k + 1) (nI (oc_sum (oc_fa (fun c => oc_dn P n c 3)) c)) (nI c) := by
  intro k
  induction k with
  | zero =>
    intro c hc
    have : c = 512 := by omega
    subst this
    exact br_t (nI_le (a := 512) (b := 512) (by omega) (by omega)) h
  | succ k ih =>
    intro c hc
    have c5 : c < 512 := by omega
    have ihe := ih (c + 1) (by omega)
    have es : oc_sum (oc_fa (fun c => oc_dn P n c 3)) (c + 1) = oc_sum (oc_fa (fun c => oc_dn P n c 3)) c + oc_fa (fun c => oc_dn P n c 3) c := rfl
    rw [es] at ihe
    generalize oc_sum (oc_fa (fun c => oc_dn P n c 3)) c = s at ihe ⊢
    refine br_f (nI_ge (b := 512) (by omega) (by omega)) (Exists.intro 4 ?_)
    by_cases z : oc_dn P n c 3 = 0
    · rw [show oc_fa (fun c => oc_dn P n c 3) c = 0 from if_pos z] at ihe
      refine br_f (by decide) (oc_xhas hr hR hV c5 ?_)
      rw [z]
      exact br_t rfl (nm_r (nI_1 c) ihe)
    · rw [show oc_fa (fun c => oc_dn P n c 3) c = oc_sum (fun a => oc_lo (fun c => oc_dn P n c 3) c a + oc_hi (fun c => oc_dn P n c 3) c a) 3 from if_neg z] at ihe
      exact oc_xs23 hr hR hV c5 z ihe 3 0 rfl
/-- the neighbours, as the plain form asks for them -/
theorem oc_ynb1 {post : Int32 → Prop} {v : SY} {c a : Nat} (hc : c < 512) (ha : a < 3) (h0 : oc_co c a = 7 → post (-1)) (h1 : oc_co c a ≠ 7 → post (nI (c + 8 ^ a))) : wpY_neighbour post v (nI c) (nI a) 1 := by
  obtain ⟨ya, yb⟩ := v
  have c8 := oc_co8 c a
  unfold wpY_neighbour
  dsimp only
  refine oc_part hc ha (nm_r (nI_1 _) (br_f (nI_pos (by omega)) (pk_le (oc_co c a + 1) 7 (fun z => ?_) (fun z => h0 (by omega)))))
  rw [oc_unT a ha, nI_add]
  exact h1 (by omega)
theorem oc_ynbm {post : Int32 → Prop} {v : SY} {c a : Nat} (hc : c < 512) (ha : a < 3) (h0 : oc_co c a = 0 → post (-1)) (h1 : oc_co c a ≠ 0 → post (nI (c - 8 ^ a))) : wpY_neighbour post v (nI c) (nI a) (-1) := by
  obtain ⟨ya, yb⟩ := v
  have c8 := oc_co8 c a
  have hn := oc_nbT c hc a ha
  unfold wpY_neighbour
  dsimp only
  refine oc_part hc ha ?_
  by_cases z : oc_co c a = 0
  · rw [z]
    exact nm_e (br_t (by decide) (h0 z))
  · refine nm_r (e' := nI (oc_co c a - 1)) (sb_m1 (by omega)) (br_f (nI_pos (by omega)) (br_t (nI_le (b := 7) (by omega) (by omega)) ?_))
    rw [oc_unM a ha, ← Int32.sub_eq_add_neg, pk_sub (hn.1 z)]
    exact h1 z
/-- face k of cell c in the plain form's order -/
def oc_fk (x : Nat → Nat) (c k : Nat) : Nat := if x c = 0 then 0 else if k % 2 = 0 then oc_hi x c (k / 2) else oc_lo x c (k / 2)
theorem oc_fk6 (x : Nat → Nat) (c : Nat) : oc_sum (oc_fk x c) 6 = oc_fa x c := by
  unfold oc_fa
  by_cases z : x c = 0
  · rw [if_pos z]
    have : ∀ k, oc_fk x c k = 0 := fun k => if_pos z
    show 0 + oc_fk x c 0 + oc_fk x c 1 + oc_fk x c 2 + oc_fk x c 3 + oc_fk x c 4 + oc_fk x c 5 = 0
    simp only [this]
  · rw [if_neg z]
    have e0 : oc_fk x c 0 = oc_hi x c 0 := if_neg z
    have e1 : oc_fk x c 1 = oc_lo x c 0 := if_neg z
    have e2 : oc_fk x c 2 = oc_hi x c 1 := if_neg z
    have e3 : oc_fk x c 3 = oc_lo x c 1 := if_neg z
    have e4 : oc_fk x c 4 = oc_hi x c 2 := if_neg z
    have e5 : oc_fk x c 5 = oc_lo x c 2 := if_neg z
    show 0 + oc_fk x c 0 + oc_fk x c 1 + oc_fk x c 2 + oc_fk x c 3 + oc_fk x c 4 + oc_fk x c 5 = 0 + (oc_lo x c 0 + oc_hi x c 0) + (oc_lo x c 1 + oc_hi x c 1) + (oc_lo x c 2 + oc_hi x c 2)
    rw [e0, e1, e2, e3, e4, e5]
    omega
theorem oc_ys22 {post : Int32 → Prop} {J4 : Int32 → Int32 → Prop} {r c s : Nat} (hr : r < 4) (hc : c < 512) (hx : ∀ j, j < 512 → A (512 * r + j) = nI (x j) ∧ x j < 2) (h : J4 (nI (s + oc_sum (oc_fk x c) 6)) (nI (c + 1))) : ∀ (d k : Nat), k + d = 6 → wY_surface_22 post J4 (nI r) (nI c) A B (d + 1) (nI (s + oc_sum (oc_fk x c) k)) (nI k) := by
  intro d
  induction d with
  | zero =>
    intro k hk
    have : k = 6 := by omega
    subst this
    exact br_t (nI_le (a := 6) (b := 6) (by omega) (by omega)) (nm_r (nI_1 c) h)
  | succ d ih =>
    intro k hk
    have k3 : k / 2 < 3 := by omega
    have ihe := ih (k + 1) (by omega)
    have es : s + oc_sum (oc_fk x c) (k + 1) = s + oc_sum (oc_fk x c) k + oc_fk x c k := by
      show s + (_ + _) = _
      omega
    rw [es] at ihe
    generalize s + oc_sum (oc_fk x c) k = S at ihe ⊢
    obtain ⟨a1, a2⟩ := hx c hc
    have hn := oc_nbT c hc (k / 2) k3
    have c8 := oc_co8 c (k / 2)
    have e2 : nI k / 2 = nI (k / 2) := pk_div (d := 2) (by omega) (by omega) (by omega)
    have e3 : nI k - nI k / 2 * 2 = nI (k % 2) := pk_rem (d := 2) (by omega) (by omega) (by omega)
    refine br_f (nI_ge (b := 6) (by omega) (by omega)) (And.intro (by decide) (And.intro (by decide) ?_))
    rw [e3, e2]
    have out : x c ≠ 0 → oc_fk x c k = 1 → wY_surface_22 post J4 (nI r) (nI c) A B (d + 1) (nI (S + 1)) (nI (k + 1)) := by
      intro _ q
      rw [q] at ihe; exact ihe
    have non : oc_fk x c k = 0 → wY_surface_22 post J4 (nI r) (nI c) A B (d + 1) (nI S) (nI (k + 1)) := by
      intro q
      rw [q] at ihe; exact ihe
    -- an inner neighbour at cell e, or none
    have inn : ∀ e, e < 512 → (x c ≠ 0 → x e = 0 → oc_fk x c k = 1) → (x c ≠ 0 → x e ≠ 0 → oc_fk x c k = 0) → vp_in (512 * nI r + nI c) 2048 ∧ ((A (512 * nI r + nI c).toNatClampNeg = 0 → ∀ x4 : Int32, x4 = nI k + 1 → wY_surface_22 post J4 (nI r) (nI c) A B (d + 1) (nI S) x4) ∧ (¬ A (512 * nI r + nI c).toNatClampNeg = 0 → ((nI e < 0 → ∀ x2 : Int32, x2 = nI S + 1 → ∀ x4 : Int32, x4 = nI k + 1 → wY_surface_22 post J4 (nI r) (nI c) A B (d + 1) x2 x4) ∧ (¬ nI e < 0 → vp_in (512 * nI r + nI e) 2048 ∧ ((A (512 * nI r + nI e).toNatClampNeg = 0 → ∀ x2 : Int32, x2 = nI S + 1 → ∀ x4 : Int32, x4 = nI k + 1 → wY_surface_22 post J4 (nI r) (nI c) A B (d + 1) x2 x4) ∧ (¬ A (512 * nI r + nI e).toNatClampNeg = 0 → ∀ x4 : Int32, x4 = nI k + 1 → wY_surface_22 post J4 (nI r) (nI c) A B (d + 1) (nI S) x4)))))) := by
      intro e he h1 h0
      obtain ⟨b1, b2⟩ := hx e he
      refine And.intro (oc_jxi hr hc) ?_
      rw [oc_jxc hr hc, oc_jxc hr he, a1, b1]
      refine pk_eq (x c) 0 (fun z => nm_r (nI_1 k) (non (if_pos z))) (fun z => br_f (nI_pos (by omega)) (And.intro (oc_jxi hr he) (pk_eq (x e) 0 (fun w => nm_r (nI_1 S) (nm_r (nI_1 k) (out z (h1 z w)))) (fun w => nm_r (nI_1 k) (non (h0 z w))))))
    have off : (x c ≠ 0 → oc_fk x c k = 1) → vp_in (512 * nI r + nI c) 2048 ∧ ((A (512 * nI r + nI c).toNatClampNeg = 0 → ∀ x4 : Int32, x4 = nI k + 1 → wY_surface_22 post J4 (nI r) (nI c) A B (d + 1) (nI S) x4) ∧ (¬ A (512 * nI r + nI c).toNatClampNeg = 0 → (((-1 : Int32) < 0 → ∀ x2 : Int32, x2 = nI S + 1 → ∀ x4 : Int32, x4 = nI k + 1 → wY_surface_22 post J4 (nI r) (nI c) A B (d + 1) x2 x4) ∧ (¬ (-1 : Int32) < 0 → vp_in (512 * nI r + (-1)) 2048 ∧ ((A (512 * nI r + (-1)).toNatClampNeg = 0 → ∀ x2 : Int32, x2 = nI S + 1 → ∀ x4 : Int32, x4 = nI k + 1 → wY_surface_22 post J4 (nI r) (nI c) A B (d + 1) x2 x4) ∧ (¬ A (512 * nI r + (-1)).toNatClampNeg = 0 → ∀ x4 : Int32, x4 = nI k + 1 → wY_surface_22 post J4 (nI r) (nI c) A B (d + 1) (nI S) x4)))))) := by
      intro h1
      refine And.intro (oc_jxi hr hc) ?_
      rw [oc_jxc hr hc, a1]
      refine pk_eq (x c) 0 (fun z => nm_r (nI_1 k) (non (if_pos z))) (fun z => br_t (by decide) (nm_r (nI_1 S) (nm_r (nI_1 k) (out z (h1 z)))))
    refine pk_eq (k % 2) 0 (fun w => ?_) (fun w => ?_)
    · have fk : x c ≠ 0 → oc_fk x c k = oc_hi x c (k / 2) := fun z => (if_neg z).trans (if_pos w)
      unfold wY_surface_47
      refine oc_ynb1 hc k3 (fun z => off fun q => (fk q).trans (if_pos (Or.inl z))) (fun z => inn _ (hn.2 z) (fun q q' => (fk q).trans (if_pos (Or.inr q'))) (fun q q' => (fk q).trans (if_neg fun t => t.elim z q')))
    · have fk : x c ≠ 0 → oc_fk x c k = oc_lo x c (k / 2) := fun z => (if_neg z).trans (if_neg w)
      unfold wY_surface_47
      refine oc_ynbm hc k3 (fun z => off fun q => (fk q).trans (if_pos (Or.inl z))) (fun z => inn _ (Nat.lt_of_le_of_lt (Nat.sub_le _ _) hc) (fun q q' => (fk q).trans (if_pos (Or.inr q'))) (fun q q' => (fk q).trans (if_neg fun t => t.elim z q')))
theorem oc_ysurf {post : Int32 → Prop} {r : Nat} (hr : r < 4) (hx : ∀ j, j < 512 → A (512 * r + j) = nI (x j) ∧ x j < 2) (h : post (nI (oc_sum (oc_fa x) 512))) : ∀ (k c : Nat), c + k = 512 → wY_surface_4 post (nI r) A B (k + 1) (nI (oc_sum (oc_fa x) c)) (nI c) := by
  intro k
  induction k with
  | zero =>
    intro c hc
    have : c = 512 := by omega
    subst this
    refine br_t (nI_le (a := 512) (b := 512) (by omega) (by omega)) ?_
    exact oc_yS_t hr (br_f (by decide) h)
  | succ k ih =>
    intro c hc
    have ihe := ih (c + 1) (by omega)
    have es : oc_sum (oc_fa x) (c + 1) = oc_sum (oc_fa x) c + oc_sum (oc_fk x c) 6 := by rw [oc_fk6]; rfl
    rw [es] at ihe
    generalize oc_sum (oc_fa x) c = s at ihe ⊢
    refine br_f (nI_ge (b := 512) (by omega) (by omega)) (oc_yS_t hr (br_f (by decide) (Exists.intro 7 ?_)))
    exact oc_ys22 hr (by omega) hx ihe 6 0 rfl
end
theorem i_vc_surface {k : Nat} {u : SX} {v : SY} (I : i_Rel k u v) (hk : k + 5 ≤ 2560) (v1 : Int32) : wpX_surface (fun r => wpY_surface (fun r' => r' = r ∧ i_Rel (k + 5) u v) v v1) u v1 := by
  obtain ⟨ff, ft, fl, fr, fc, fo, fp, P, U, H, C, Z, R, E, M, D⟩ := u
  obtain ⟨A, B⟩ := v
  obtain ⟨hC, hR⟩ := oc_lre I
  unfold wpX_surface wpY_surface
  dsimp only
  by_cases h1 : ∃ r, r < 4 ∧ v1 = nI r
  · obtain ⟨r, hr, rfl⟩ := h1
    obtain ⟨n, e, hV, hA⟩ := hR r hr
    refine oc_isS_t hr (br_f (by decide) (Exists.intro 513 (oc_xsurf hr e hV ?_ 512 0 rfl)))
    refine Exists.intro 513 (oc_ysurf (x := fun c => oc_dn P n c 3) hr (fun j hj => ⟨hA j hj, oc_dn2 hV⟩) ?_ 512 0 rfl)
    exact ⟨rfl, I⟩
  · refine oc_isS_f h1 (br_t rfl (Exists.intro 1 (br_f (by decide) (oc_yS_f h1 (br_t rfl ?_)))))
    exact oc_yS_f h1 (br_t rfl ⟨rfl, I⟩)
theorem i_vc_next {k : Nat} {u : SX} {v : SY} (I : i_Rel k u v) (hk : k + 5 ≤ 2560) (v1 : Int32) (v2 : Int32) : wpX_next (fun r => wpY_next (fun r' => r' = r ∧ i_Rel (k + 5) u v) v v1 v2) u v1 v2 := by
  obtain ⟨ff, ft, fl, fr, fc, fo, fp, P, U, H, C, Z, R, E, M, D⟩ := u
  obtain ⟨A, B⟩ := v
  obtain ⟨hC, hR⟩ := oc_lre I
  unfold wpX_next wpY_next
  dsimp only
  by_cases h1 : ∃ r, r < 4 ∧ v1 = nI r
  · obtain ⟨r, hr, rfl⟩ := h1
    obtain ⟨n, e, hV, hA⟩ := hR r hr
    have hx : ∀ j, j < 512 → A (512 * r + j) = nI (oc_dn P n j 3) ∧ oc_dn P n j 3 < 2 := fun j hj => ⟨hA j hj, oc_dn2 hV⟩
    by_cases z : v2 < 0
    · have hs : ∀ e, e < 512 → (nI e < v2 ↔ e < 0) := by
        intro e he
        refine ⟨fun q => ?_, fun q => absurd q (Nat.not_lt_zero e)⟩
        exact absurd (Int32.lt_trans q z) (nI_pos (by omega))
      refine br_f (Int32.not_le.mpr z) (Exists.intro 513 (oc_xnx (s := 0) hr e hV 512 0 rfl (by omega) ?_))
      exact Exists.intro 513 (oc_ynx (s := 0) hr hx hs 512 0 rfl ⟨rfl, I⟩)
    · obtain ⟨s, hs31, rfl⟩ := nI_of z
      have hs : ∀ e, e < 512 → (nI e < nI s ↔ e < s) := fun e he => nI_ltI (by omega) hs31
      refine br_t (nI_pos' hs31) ?_
      by_cases w : s < 512
      · refine Exists.intro (512 - s + 1) (oc_xnx (s := s) hr e hV (512 - s) s (by omega) (by omega) ?_)
        refine Exists.intro 513 (oc_ynx (s := s) hr hx hs 512 0 rfl ⟨?_, I⟩)
        have := oc_ny_k (x := fun c => oc_dn P n c 3) (s := s) (512 - s) s 0 (by omega)
        rw [show 512 - s + s = 512 from by omega, Nat.zero_add] at this
        exact this
      · refine Exists.intro 1 (br_t (nI_le (a := 512) (by omega) hs31) ?_)
        refine Exists.intro 513 (oc_ynx (s := s) hr hx hs 512 0 rfl ⟨?_, I⟩)
        exact oc_ny_k (x := fun c => oc_dn P n c 3) (s := s) 0 512 0 (by omega)
  · have yy : ∃ n2, wY_next_2 (fun r' => r' = -1 ∧ i_Rel (k + 5) (ff, ft, fl, fr, fc, fo, fp, P, U, H, C, Z, R, E, M, D) (A, B)) v1 v2 A B n2 0 := Exists.intro 1 (br_f (by decide) (oc_yS_f h1 (br_t rfl ⟨rfl, I⟩)))
    refine br_c (fun z => Exists.intro 1 (br_c (fun _ => yy) (fun _ => oc_isS_f h1 (br_t rfl yy)))) (fun z => Exists.intro 1 (br_c (fun _ => yy) (fun _ => oc_isS_f h1 (br_t rfl yy))))
end
section
/-! ===== kinds ===== -/
section
variable {ff ft fl fr fc fo fp : Int32} {P U H C Z R E M D : Nat → Int32}
variable {A B : Nat → Int32}
/-- the place of cell e of a cube of order k -/
def oc_at (k e : Nat) : Nat := e % 2 ^ k + 8 * (e / 2 ^ k % 2 ^ k) + 64 * (e / 2 ^ (2 * k))
def oc_av (k p : Nat) : Nat := oc_co (oc_ct p) 0 + 2 ^ k * oc_co (oc_ct p) 1 + 2 ^ (2 * k) * oc_co (oc_ct p) 2
theorem oc_atT : ∀ k, k < 4 → ∀ q, q < 8 ^ (3 - k) → ∀ e, e < 8 ^ k → oc_ct (q * 8 ^ k) + oc_at k e < 512 ∧ oc_mo (oc_ct (q * 8 ^ k) + oc_at k e) = q * 8 ^ k + oc_mo (oc_at k e) ∧ oc_mo (oc_at k e) < 8 ^ k := by decide +kernel
theorem oc_avT : ∀ k, k < 4 → ∀ p, p < 8 ^ k → oc_av k p < 8 ^ k ∧ oc_mo (oc_at k (oc_av k p)) = p := by decide +kernel
theorem oc_8k : ∀ k, k < 4 → (8 ^ k ≤ 512 ∧ 8 ^ (3 - k) * 8 ^ k = 512 ∧ 0 < 8 ^ k ∧ 8 ^ (3 - k) ≤ 512 ∧ 2 ^ k < 9) := by decide
theorem oc_8kI : ∀ k, k < 4 → (1 : Int32) <<< ((3 * nI k) &&& 31) = nI (8 ^ k) := by decide +kernel
/-- a first cell is ct (q * 8 ^ k) -/
theorem oc_fq {c k : Nat} (hc : c < 512) (hk : k < 4) (h : oc_mo c % 8 ^ k = 0) : oc_mo c / 8 ^ k < 8 ^ (3 - k) ∧ oc_ct (oc_mo c / 8 ^ k * 8 ^ k) = c ∧ oc_mo c / 8 ^ k * 8 ^ k = oc_mo c := by
  obtain ⟨_, h2, h3, _⟩ := oc_8k k hk
  have h5 := oc_mo512 c
  have e : oc_mo c / 8 ^ k * 8 ^ k = oc_mo c := by
    have := Nat.div_add_mod (oc_mo c) (8 ^ k)
    rw [h, Nat.mul_comm] at this
    omega
  refine ⟨?_, ?_, e⟩
  · rw [Nat.div_lt_iff_lt_mul h3, h2]; exact h5
  · rw [e]; exact oc_cm c hc
theorem oc_qf {q k : Nat} (hk : k < 4) (hq : q < 8 ^ (3 - k)) : q * 8 ^ k < 512 ∧ oc_mo (oc_ct (q * 8 ^ k)) % 8 ^ k = 0 := by
  obtain ⟨_, h2, h3, _⟩ := oc_8k k hk
  have h : q * 8 ^ k < 512 := by
    rw [← h2]
    exact Nat.mul_lt_mul_of_pos_right hq h3
  refine ⟨h, ?_⟩
  rw [oc_mc _ h, Nat.mul_mod_left]
theorem oc_fat {c k e : Nat} (hc : c < 512) (hk : k < 4) (h : oc_mo c % 8 ^ k = 0) (he : e < 8 ^ k) : c + oc_at k e < 512 ∧ oc_mo (c + oc_at k e) = oc_mo c + oc_mo (oc_at k e) ∧ oc_mo (oc_at k e) < 8 ^ k := by
  obtain ⟨h1, h2, h3⟩ := oc_fq hc hk h
  have := oc_atT k hk _ h1 e he
  rw [h2, h3] at this
  exact this
theorem oc_fval (P : Nat → Int32) (n : Nat) {c k e : Nat} (hc : c < 512) (hk : k < 4) (h : oc_mo c % 8 ^ k = 0) (he : e < 8 ^ k) : oc_dn P n (c + oc_at k e) 3 = oc_dd P k (oc_dn P n c (3 - k)) (oc_mo (oc_at k e)) := by
  obtain ⟨h1, h2, h3⟩ := oc_fat hc hk h he
  obtain ⟨_, _, h0, _⟩ := oc_8k k hk
  have e1 : (oc_mo c + oc_mo (oc_at k e)) % 8 ^ k = oc_mo (oc_at k e) := by
    rw [Nat.add_mod, h, Nat.zero_add, Nat.mod_mod, Nat.mod_eq_of_lt h3]
  have e2 : oc_mo c / 8 ^ k = oc_mo (c + oc_at k e) / 8 ^ k := by
    obtain ⟨_, _, q⟩ := oc_fq hc hk h
    rw [h2]
    generalize oc_mo c / 8 ^ k = t at q ⊢
    rw [← q, Nat.add_comm, Nat.add_mul_div_right _ _ h0, Nat.div_eq_of_lt h3, Nat.zero_add]
  rw [oc_val P n (c + oc_at k e) (o := k) (by omega), h2, e1, ← oc_tog P n (o := k) (by omega) e2]
/-- cubes are alike exactly if their nodes are the same -/
theorem oc_alk (hC : oc_C P U) {n c d k : Nat} (hV : oc_V P U 3 n) (hc : c < 512) (hd : d < 512) (hk : k < 4) (h : oc_mo c % 8 ^ k = 0) (h' : oc_mo d % 8 ^ k = 0) : (∀ e, e < 8 ^ k → oc_dn P n (c + oc_at k e) 3 = oc_dn P n (d + oc_at k e) 3) ↔ oc_dn P n c (3 - k) = oc_dn P n d (3 - k) := by
  constructor
  · intro q
    have v1 := oc_V_dn (c := c) hV (3 - k) (by omega)
    have v2 := oc_V_dn (c := d) hV (3 - k) (by omega)
    rw [show 3 - (3 - k) = k from by omega] at v1 v2
    refine oc_inj hC k _ _ v1 v2 fun p hp => ?_
    obtain ⟨a1, a2⟩ := oc_avT k hk p hp
    have := q _ a1
    rw [oc_fval P n hc hk h a1, oc_fval P n hd hk h' a1, a2] at this
    exact this
  · intro q e he
    rw [oc_fval P n hc hk h he, oc_fval P n hd hk h' he, q]
theorem oc_xk52 {post : Int32 → SX → Prop} {n r k : Nat} (hr : r < 4) (hk : k < 4) (hR : R r = nI n) (hV : oc_V P U 3 n) (K : ∀ Z', (∀ v, v < 512 → (Z' v ≠ 0 ↔ ∃ q, q < 8 ^ (3 - k) ∧ oc_dn P n (oc_ct (q * 8 ^ k)) (3 - k) = v)) → post (nI (oc_cnt Z' 512)) (ff, ft, fl, fr, fc, fo, fp, P, U, H, C, Z', R, E, M, D)) : ∀ (d q : Nat) (Z : Nat → Int32), q + d = 8 ^ (3 - k) → (∀ v, v < 512 → (Z v ≠ 0 ↔ ∃ p, p < q ∧ oc_dn P n (oc_ct (p * 8 ^ k)) (3 - k) = v)) → wX_kinds_52 post (nI r) (nI k) (nI (8 ^ k)) ff ft fl fr fc fo fp (d + 1) (nI (oc_cnt Z 512)) (nI (q * 8 ^ k)) P U H C Z R E M D := by
  intro d
  obtain ⟨k1, k2, k3, k4, _⟩ := oc_8k k hk
  induction d with
  | zero =>
    intro q Z hq hZ
    have : q = 8 ^ (3 - k) := by omega
    subst this
    rw [k2]
    exact br_t (nI_le (a := 512) (b := 512) (by omega) (by omega)) (K Z hZ)
  | succ d ih =>
    intro q Z hq hZ
    have hq' : q < 8 ^ (3 - k) := by omega
    have hq5 := (oc_qf hk hq').1
    have v5 := oc_V_512 (oc_V_dn (c := oc_ct (q * 8 ^ k)) hV (3 - k) (by omega))
    refine br_f (nI_ge (b := 512) hq5 (by omega)) (oc_cellAt hq5 (And.intro (vp_in_nI hr (by omega)) ?_))
    rw [nI_clamp (by omega), hR]
    refine oc_cubeAt hV (oc_ct512 _) (by omega) (And.intro (vp_in_nI v5 (by omega)) ?_)
    rw [nI_clamp (by omega)]
    have hb : nI (q * 8 ^ k) + nI (8 ^ k) = nI ((q + 1) * 8 ^ k) := by rw [nI_add, Nat.succ_mul]
    have stp : ∀ w, oc_cnt (upd Z (oc_dn P n (oc_ct (q * 8 ^ k)) (3 - k)) 1) 512 = oc_cnt Z 512 + w → wX_kinds_98 post (wX_kinds_52 post (nI r) (nI k) (nI (8 ^ k)) ff ft fl fr fc fo fp (d + 1)) (nI r) (nI k) (nI (8 ^ k)) (nI (q * 8 ^ k)) (nI (oc_dn P n (oc_ct (q * 8 ^ k)) (3 - k))) (nI w) (nI (oc_cnt Z 512)) ff ft fl fr fc fo fp P U H C Z R E M D := by
      intro w hw
      refine nm_r (nI_add _ _) (And.intro (vp_in_nI v5 (by omega)) ?_)
      rw [nI_clamp (by omega), oc_b1, ← hw]
      refine nm_e (nm_r hb (ih (q + 1) _ (by omega) fun v hv => ?_))
      by_cases z : v = oc_dn P n (oc_ct (q * 8 ^ k)) (3 - k)
      · rw [z, pk_us]
        exact ⟨fun _ => ⟨q, by omega, rfl⟩, fun _ => by decide⟩
      · rw [pk_un z, hZ v hv]
        constructor
        · rintro ⟨p, hp, e⟩
          exact ⟨p, by omega, e⟩
        · rintro ⟨p, hp, e⟩
          refine ⟨p, ?_, e⟩
          have : p ≠ q := fun t => z (by rw [← e, t])
          omega
    refine br_c (fun z => stp 1 ?_) (fun z => stp 0 ?_)
    · rw [oc_cnt_s z (by decide), if_pos v5]
    · rw [Nat.add_zero]
      refine oc_cnt_c 512 fun j _ => ?_
      by_cases q' : j = oc_dn P n (oc_ct (q * 8 ^ k)) (3 - k)
      · rw [q', pk_us]
        exact ⟨fun t => absurd t (by decide), fun t => absurd t z⟩
      · rw [pk_un q']
theorem oc_xk20 {post : Int32 → SX → Prop} {x1 : Int32} {k : Nat} (hk : k < 4) (K : ∀ Z', (∀ v, v < 512 → Z' v = 0) → ∃ n, wX_kinds_52 post x1 (nI k) (nI (8 ^ k)) ff ft fl fr fc fo fp n 0 0 P U H C Z' R E M D) : ∀ (d i : Nat) (Z : Nat → Int32), i + d = 512 → (∀ v, v < i → Z v = 0) → wX_kinds_20 post x1 (nI k) ff ft fl fr fc fo fp (d + 1) (nI i) P U H C Z R E M D := by
  intro d
  induction d with
  | zero =>
    intro i Z hi h
    exact br_t (nI_le (a := 512) (by omega) (by omega)) (nm_r (oc_8kI k hk) (K Z fun v hv => h v (by omega)))
  | succ d ih =>
    intro i Z hi h
    refine br_f (nI_ge (b := 512) (by omega) (by omega)) (And.intro (vp_in_nI (by omega) (by omega)) ?_)
    rw [nI_clamp (by omega), oc_b0]
    refine nm_e (nm_r (nI_1 i) (ih (i + 1) _ (by omega) fun j hj => ?_))
    by_cases q : j = i
    · rw [q]; exact pk_us
    · rw [pk_un q]; exact h j (by omega)
theorem oc_atE {k e : Nat} (hk : k < 4) (he : e < 512) : ((nI e &&& nI (2 ^ k - 1)) + (8 * ((nI e >>> (nI k &&& 31)) &&& nI (2 ^ k - 1)))) + (64 * (nI e >>> ((2 * nI k) &&& 31))) = nI (oc_at k e) := by
  rw [oc_m2, oc_shr (by omega) (by omega), oc_shr (by omega) (by omega), oc_msk, oc_msk, oc_m8, oc_m64, nI_add, nI_add]
  rfl
theorem oc_yal6 {post : Int32 → Prop} {x : Nat → Nat} {r c d k : Nat} (hr : r < 4) (hk : k < 4) (hc : ∀ e, e < 8 ^ k → c + oc_at k e < 512) (hd : ∀ e, e < 8 ^ k → d + oc_at k e < 512) (hx : ∀ j, j < 512 → A (512 * r + j) = nI (x j) ∧ x j < 2) (h1 : (∀ e, e < 8 ^ k → x (c + oc_at k e) = x (d + oc_at k e)) → post 1) (h0 : ¬ (∀ e, e < 8 ^ k → x (c + oc_at k e) = x (d + oc_at k e)) → post 0) : ∀ (g e : Nat) (f : Int32), e + g = 8 ^ k → (f = 1 ∧ (∀ j, j < e → x (c + oc_at k j) = x (d + oc_at k j)) ∨ f = 0 ∧ ¬ (∀ e, e < 8 ^ k → x (c + oc_at k e) = x (d + oc_at k e))) → wY_alike_6 post (nI r) (nI c) (nI d) (nI k) A B (g + 1) f (nI e) := by
  obtain ⟨k1, k2, k3, k4, k5⟩ := oc_8k k hk
  intro g
  induction g with
  | zero =>
    intro e f he hf
    have : e = 8 ^ k := by omega
    subst this
    refine br_t (by rw [oc_8kI k hk]; exact nI_le (Nat.le_refl _) (by omega)) ?_
    rcases hf with ⟨rfl, hf⟩ | ⟨rfl, hf⟩
    · exact And.intro (oc_nb (n := 1) (by omega)) (h1 hf)
    · exact And.intro (oc_nb (n := 0) (by omega)) (h0 hf)
  | succ g ih =>
    intro e f he hf
    have e5 : e < 8 ^ k := by omega
    refine br_f (by rw [oc_8kI k hk]; exact nI_ge e5 (by omega)) (nm_r (oc_lowT k hk) (nm_r (oc_atE hk (by omega)) ?_))
    rcases hf with ⟨rfl, hf⟩ | ⟨rfl, hf⟩
    · have c5 := hc e e5
      have d5 := hd e e5
      obtain ⟨a1, a2⟩ := hx _ c5
      obtain ⟨a3, a4⟩ := hx _ d5
      have ec : 512 * nI r + nI c + nI (oc_at k e) = nI (512 * r + (c + oc_at k e)) := by rw [oc_jx, nI_add, Nat.add_assoc]
      have ed : 512 * nI r + nI d + nI (oc_at k e) = nI (512 * r + (d + oc_at k e)) := by rw [oc_jx, nI_add, Nat.add_assoc]
      refine br_f (by decide) ?_
      rw [ec, ed]
      refine And.intro (vp_in_nI (by omega) (by omega)) (And.intro (vp_in_nI (by omega) (by omega)) ?_)
      rw [pk_cl (x := nI (512 * r + (c + oc_at k e))) _, pk_cl (x := nI (512 * r + (d + oc_at k e))) _, a1, a3]
      refine pk_eq (x (c + oc_at k e)) (x (d + oc_at k e)) (fun z => nm_r (nI_1 e) (ih (e + 1) 1 (by omega) (Or.inl ⟨rfl, fun j hj => ?_⟩))) (fun z => nm_r (nI_1 e) (ih (e + 1) 0 (by omega) (Or.inr ⟨rfl, fun q => z (q e e5)⟩)))
      by_cases q : j = e
      · rw [q]; exact z
      · exact hf j (by omega)
    · exact br_t rfl (nm_r (nI_1 e) (ih (e + 1) 0 (by omega) (Or.inr ⟨rfl, hf⟩)))
theorem oc_yalike {post : Int32 → Prop} {n r c d k : Nat} (hC : oc_C P U) (hV : oc_V P U 3 n) (hr : r < 4) (hA : ∀ c, c < 512 → A (512 * r + c) = nI (oc_dn P n c 3)) (hk : k < 4) (hc : c < 512) (hd : d < 512) (mc : oc_mo c % 8 ^ k = 0) (md : oc_mo d % 8 ^ k = 0) (h1 : oc_dn P n c (3 - k) = oc_dn P n d (3 - k) → post 1) (h0 : ¬ oc_dn P n c (3 - k) = oc_dn P n d (3 - k) → post 0) : wpY_alike post (A, B) (nI r) (nI c) (nI d) (nI k) := by
  have t := oc_alk hC hV hc hd hk mc md
  refine Exists.intro (8 ^ k + 1) ?_
  exact oc_yal6 (x := fun c => oc_dn P n c 3) hr hk (fun e he => (oc_fat hc hk mc he).1) (fun e he => (oc_fat hd hk md he).1) (fun j hj => ⟨hA j hj, oc_dn2 hV⟩) (fun z => h1 (t.mp z)) (fun z => h0 fun q => z (t.mpr q)) (8 ^ k) 0 1 (by omega) (Or.inl ⟨rfl, fun j hj => absurd hj (Nat.not_lt_zero j)⟩)
theorem oc_yk44 {post : Int32 → Prop} {J : Int32 → Int32 → Prop} {x3 : Int32} {n r c k : Nat} (hC : oc_C P U) (hV : oc_V P U 3 n) (hr : r < 4) (hA : ∀ c, c < 512 → A (512 * r + c) = nI (oc_dn P n c 3)) (hk : k < 4) (hc : c < 512) (mc : oc_mo c % 8 ^ k = 0) (h1 : (∀ d, d < c → oc_mo d % 8 ^ k = 0 → oc_dn P n c (3 - k) ≠ oc_dn P n d (3 - k)) → wY_kinds_92 post J (nI r) (nI k) x3 (nI c) 1 A B) (h0 : ¬ (∀ d, d < c → oc_mo d % 8 ^ k = 0 → oc_dn P n c (3 - k) ≠ oc_dn P n d (3 - k)) → wY_kinds_92 post J (nI r) (nI k) x3 (nI c) 0 A B) : ∀ (g d : Nat), d + g = c → (∀ j, j < d → oc_mo j % 8 ^ k = 0 → oc_dn P n c (3 - k) ≠ oc_dn P n j (3 - k)) → wY_kinds_44 post J (nI r) (nI k) x3 (nI c) A B (g + 2) 1 (nI d) := by
  intro g
  induction g with
  | zero =>
    intro d hd h
    have : d = c := by omega
    subst this
    exact br_t (nI_le (Nat.le_refl d) (by omega)) (h1 h)
  | succ g ih =>
    intro d hd h
    have stp : (oc_mo d % 8 ^ k = 0 → oc_dn P n c (3 - k) ≠ oc_dn P n d (3 - k)) → wY_kinds_44 post J (nI r) (nI k) x3 (nI c) A B (g + 2) 1 (nI (d + 1)) := by
      intro z
      refine ih (d + 1) (by omega) fun j hj => ?_
      by_cases q : j = d
      · rw [q]; exact z
      · exact h j (by omega)
    refine br_f (nI_ge (by omega) (by omega)) (br_f (by decide) (oc_corner (by omega) hk (fun md => br_f (by decide) ?_) (fun md => br_t rfl (nm_r (nI_1 d) (stp fun q => absurd q md)))))
    refine oc_yalike hC hV hr hA hk hc (by omega) mc md (fun z => br_f (by decide) (nm_r (nI_1 d) ?_)) (fun z => br_t rfl (nm_r (nI_1 d) (stp fun _ => z)))
    have hh := h0 fun q => q d (by omega) md z
    exact br_c (fun _ => hh) (fun _ => br_t rfl hh)
theorem oc_yk24 {post : Int32 → Prop} {n r k : Nat} (hC : oc_C P U) (hV : oc_V P U 3 n) (hr : r < 4) (hA : ∀ c, c < 512 → A (512 * r + c) = nI (oc_dn P n c 3)) (hk : k < 4) (K : ∀ S : Nat → Int32, (∀ v, v < 512 → (S v ≠ 0 ↔ ∃ d, d < 512 ∧ oc_mo d % 8 ^ k = 0 ∧ oc_dn P n d (3 - k) = v)) → post (nI (oc_cnt S 512))) : ∀ (g c : Nat) (S : Nat → Int32), c + g = 512 → (∀ v, v < 512 → (S v ≠ 0 ↔ ∃ d, d < c ∧ oc_mo d % 8 ^ k = 0 ∧ oc_dn P n d (3 - k) = v)) → wY_kinds_24 post (nI r) (nI k) A B (g + 1) (nI (oc_cnt S 512)) (nI c) := by
  intro g
  induction g with
  | zero =>
    intro c S hc hS
    have : c = 512 := by omega
    subst this
    exact br_t (nI_le (a := 512) (b := 512) (by omega) (by omega)) (K S hS)
  | succ g ih =>
    intro c S hc hS
    have c5 : c < 512 := by omega
    have v5 := oc_V_512 (oc_V_dn (c := c) hV (3 - k) (by omega))
    have same : (oc_mo c % 8 ^ k = 0 → ∃ d, d < c ∧ oc_mo d % 8 ^ k = 0 ∧ oc_dn P n d (3 - k) = oc_dn P n c (3 - k)) → wY_kinds_24 post (nI r) (nI k) A B (g + 1) (nI (oc_cnt S 512)) (nI (c + 1)) := by
      intro z
      refine ih (c + 1) S (by omega) fun v hv => ?_
      rw [hS v hv]
      constructor
      · rintro ⟨d, hd, q⟩
        exact ⟨d, by omega, q⟩
      · rintro ⟨d, hd, q1, q2⟩
        by_cases w : d = c
        · subst w
          obtain ⟨d', hd', q1', q2'⟩ := z q1
          exact ⟨d', hd', q1', q2'.trans q2⟩
        · exact ⟨d, by omega, q1, q2⟩
    refine br_f (nI_ge (b := 512) (by omega) (by omega)) (oc_corner c5 hk (fun mc => Exists.intro (c + 2) ?_) (fun mc => Exists.intro 1 ?_))
    · refine oc_yk44 hC hV hr hA hk c5 mc (fun z => ?_) (fun z => ?_) c 0 (by omega) (fun j hj => absurd hj (Nat.not_lt_zero j))
      · have s0 : S (oc_dn P n c (3 - k)) = 0 := by
          have t : ¬ (S (oc_dn P n c (3 - k)) ≠ 0) := by
            rw [hS _ v5]
            rintro ⟨d, hd, q1, q2⟩
            exact z d hd q1 q2.symm
          exact Decidable.not_not.mp t
        have ec := oc_cnt_s s0 (x := 1) (by decide) 512
        rw [if_pos v5] at ec
        refine br_f (by decide) (nm_r (nI_1 _) (nm_r (nI_1 c) ?_))
        rw [← ec]
        refine ih (c + 1) _ (by omega) fun v hv => ?_
        by_cases w : v = oc_dn P n c (3 - k)
        · rw [w, pk_us]
          exact ⟨fun _ => ⟨c, by omega, mc, rfl⟩, fun _ => by decide⟩
        · rw [pk_un w, hS v hv]
          constructor
          · rintro ⟨d, hd, q⟩
            exact ⟨d, by omega, q⟩
          · rintro ⟨d, hd, q1, q2⟩
            refine ⟨d, ?_, q1, q2⟩
            have : d ≠ c := fun t => w (by rw [← q2, t])
            omega
      · refine br_t rfl (nm_r (nI_1 c) (same fun _ => ?_))
        refine Classical.byContradiction fun q => z fun d hd md e => q ⟨d, hd, md, e.symm⟩
    · have hh : wY_kinds_92 post (wY_kinds_24 post (nI r) (nI k) A B (g + 1)) (nI r) (nI k) (nI (oc_cnt S 512)) (nI c) 0 A B := br_t rfl (nm_r (nI_1 c) (same fun q => absurd q mc))
      exact br_c (fun _ => hh) (fun _ => br_t rfl hh)
end
theorem i_vc_kinds {k : Nat} {u : SX} {v : SY} (I : i_Rel k u v) (hk : k + 5 ≤ 2560) (v1 : Int32) (v2 : Int32) : wpX_kinds (fun r u' => wpY_kinds (fun r' => r' = r ∧ i_Rel (k + 5) u' v) v v1 v2) u v1 v2 := by
  obtain ⟨ff, ft, fl, fr, fc, fo, fp, P, U, H, C, Z, R, E, M, D⟩ := u
  obtain ⟨A, B⟩ := v
  obtain ⟨hC, hR⟩ := oc_lre I
  unfold wpX_kinds wpY_kinds
  dsimp only
  by_cases h1 : ∃ r, r < 4 ∧ v1 = nI r
  · obtain ⟨r, hr, rfl⟩ := h1
    refine oc_isS_t hr (br_f (by decide) ?_)
    rcases pk_ix v2 (n := 4) (by decide) with z | z | ⟨o, ho, rfl⟩
    · exact br_t z (oc_yS_t hr (br_f (by decide) (br_t z ⟨rfl, I⟩)))
    · obtain ⟨z1, z2⟩ := oc_big (n := 3) (by decide) z
      exact br_f z2 (br_f z1 (oc_yS_t hr (br_f (by decide) (br_f z2 (br_f z1 ⟨rfl, I⟩)))))
    · obtain ⟨n, e, hV, hA⟩ := hR r hr
      have h0 := nI_pos (n := o) (by omega)
      have h3 : nI o ≤ 3 := nI_le (b := 3) (by omega) (by omega)
      refine br_f h0 (br_t h3 (Exists.intro 513 (oc_xk20 ho (fun Z' hZ => Exists.intro (8 ^ (3 - o) + 1) ?_) 512 0 Z rfl (fun j hj => absurd hj (Nat.not_lt_zero j)))))
      have st : wX_kinds_52 (fun r_1 u' => wpY_solid (fun r_2 => ((r_2 = 0 → (-1 = r_1 ∧ i_Rel (k + 5) u' (A, B))) ∧ (¬ r_2 = 0 → ((nI o < 0 → (-1 = r_1 ∧ i_Rel (k + 5) u' (A, B))) ∧ (¬ nI o < 0 → ((nI o ≤ 3 → (∃ n24 : Nat, wY_kinds_24 (fun r' => r' = r_1 ∧ i_Rel (k + 5) u' (A, B)) (nI r) (nI o) A B n24 0 0)) ∧ (¬ nI o ≤ 3 → (-1 = r_1 ∧ i_Rel (k + 5) u' (A, B))))))))) (A, B) (nI r)) (nI r) (nI o) (nI (8 ^ o)) ff ft fl fr fc fo fp (8 ^ (3 - o) + 1) (nI (oc_cnt Z' 512)) (nI (0 * 8 ^ o)) P U H C Z' R E M D := by
        refine oc_xk52 hr ho e hV (fun Z2 hZ2 => ?_) (8 ^ (3 - o)) 0 Z' (by omega) (fun v hv => ?_)
        · refine oc_yS_t hr (br_f (by decide) (br_f h0 (br_t h3 (Exists.intro 513 ?_))))
          refine oc_yk24 hC hV hr hA ho (fun S hS => ⟨?_, oc_rel hC hR⟩) 512 0 (fun _ => 0) rfl (fun v hv => ?_)
          · constructor
            · intro q; exact absurd rfl q
            · rintro ⟨d, hd, _⟩
              exact absurd hd (Nat.not_lt_zero d)
          · refine congrArg nI (oc_cnt_c 512 fun v hv => ?_)
            have t : (S v ≠ 0 ↔ Z2 v ≠ 0) := by
              rw [hS v hv, hZ2 v hv]
              constructor
              · rintro ⟨d, hd, md, q⟩
                obtain ⟨a1, a2, a3⟩ := oc_fq hd ho md
                exact ⟨oc_mo d / 8 ^ o, a1, by rw [a2]; exact q⟩
              · rintro ⟨q, hq, w⟩
                obtain ⟨a1, a2⟩ := oc_qf ho hq
                exact ⟨oc_ct (q * 8 ^ o), oc_ct512 _, a2, w⟩
            constructor
            · intro q
              exact Decidable.not_not.mp fun w => (t.mpr w) q
            · intro q
              exact Decidable.not_not.mp fun w => (t.mp w) q
        · constructor
          · intro q; exact absurd (hZ v hv) q
          · rintro ⟨d, hd, _⟩
            exact absurd hd (Nat.not_lt_zero d)
      rw [oc_cnt_0 512 hZ, Nat.zero_mul] at st
      exact st
  · exact oc_isS_f h1 (br_t rfl (oc_yS_f h1 (br_t rfl ⟨rfl, I⟩)))
end
