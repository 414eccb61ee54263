section
/-! pure rows to paste: stores, nI and lN arithmetic, masks, shifts, narrowing, branches by naturals (pk_le, pk_lt, pk_eq), loops (lp1 .. lp16: the measure of the state; rp1 ..: recursion), negatives. Take what you need -/
theorem pk_us {f : Nat → Int32} {k : Nat} {x : Int32} : upd f k x k = x := if_pos rfl
theorem pk_un {f : Nat → Int32} {k j : Nat} {x : Int32} (h : j ≠ k) : upd f k x j = f j := if_neg h
theorem pk_uLs {f : Nat → Int64} {k : Nat} {x : Int64} : vp_updL f k x k = x := if_pos rfl
theorem pk_uLn {f : Nat → Int64} {k j : Nat} {x : Int64} (h : j ≠ k) : vp_updL f k x j = f j := if_neg h
theorem pk_sub {a b : Nat} (h : b ≤ a) : nI a - nI b = nI (a - b) := by
  obtain ⟨c, rfl⟩ : ∃ c, a = c + b := ⟨a - b, by omega⟩
  rw [← nI_add, Int32.add_sub_cancel, Nat.add_sub_cancel]
theorem pk_m1 (n : Nat) : nI (n + 1) + (-1) = nI n := by
  rw [← nI_1, Int32.add_assoc, show (1 : Int32) + (-1) = 0 from rfl, Int32.add_zero]
theorem pk_mul (a b : Nat) : nI a * nI b = nI (a * b) := (Int32.ofNat_mul a b).symm
theorem pk_div {a d : Nat} (ha : a < 2 ^ 31) (h0 : 0 < d) (hd : d < 2 ^ 31) : nI a / nI d = nI (a / d) := by
  apply Int32.toInt_inj.mp
  rw [lg_idiv_nonneg (by rw [nI_toInt ha]; omega) (by rw [nI_toInt hd]; omega), nI_toInt ha, nI_toInt hd, nI_toInt (Nat.lt_of_le_of_lt (Nat.div_le_self a d) ha)]
  first | rfl | exact (Int.natCast_ediv _ _).symm
theorem pk_rem {a d : Nat} (ha : a < 2 ^ 31) (h0 : 0 < d) (hd : d < 2 ^ 31) : nI a - nI a / nI d * nI d = nI (a % d) := by
  rw [pk_div ha h0 hd, pk_mul, pk_sub (Nat.div_mul_le_self a d)]
  exact congrArg nI (by have := Nat.div_add_mod' a d; omega)
theorem pk_sub_toInt {a b : Nat} (ha : a < 2 ^ 30) (hb : b < 2 ^ 30) : (nI a - nI b).toInt = (a : Int) - b := by
  rw [Int32.toInt_sub, nI_toInt (by omega), nI_toInt (by omega)]
  exact Int.bmod_eq_of_le (by omega) (by omega)
theorem pk_sneg {a b : Nat} (hb : b < 2 ^ 30) (h : a < b) : nI a - nI b < 0 := by
  rw [Int32.lt_iff_toInt_lt, pk_sub_toInt (by omega) hb, show (0 : Int32).toInt = 0 from by decide]
  omega
theorem pk_ix (x : Int32) {n : Nat} (hn : n < 2 ^ 31) : x < 0 ∨ nI n ≤ x ∨ ∃ j : Nat, j < n ∧ x = nI j := by
  by_cases h : x < 0
  · exact Or.inl h
  · obtain ⟨j, hj, rfl⟩ := nI_of h
    by_cases h2 : j < n
    · exact Or.inr (Or.inr ⟨j, h2, rfl⟩)
    · exact Or.inr (Or.inl (nI_le (by omega) hj))
theorem pk_le {x y : Int32} {A B : Prop} (a b : Nat) (f : a ≤ b → A) (g : b < a → B) (hx : x = nI a := by rfl) (hy : y = nI b := by rfl) (ha : a < 2 ^ 31 := by omega) (hb : b < 2 ^ 31 := by omega) : (x ≤ y → A) ∧ (¬ x ≤ y → B) := by
  subst hx hy
  rw [nI_leI ha hb]
  exact ⟨f, fun z => g (by omega)⟩
theorem pk_lt {x y : Int32} {A B : Prop} (a b : Nat) (f : a < b → A) (g : b ≤ a → B) (hx : x = nI a := by rfl) (hy : y = nI b := by rfl) (ha : a < 2 ^ 31 := by omega) (hb : b < 2 ^ 31 := by omega) : (x < y → A) ∧ (¬ x < y → B) := by
  subst hx hy
  rw [nI_ltI ha hb]
  exact ⟨f, fun z => g (by omega)⟩
theorem pk_eq {x y : Int32} {A B : Prop} (a b : Nat) (f : a = b → A) (g : a ≠ b → B) (hx : x = nI a := by rfl) (hy : y = nI b := by rfl) (ha : a < 2 ^ 31 := by omega) (hb : b < 2 ^ 31 := by omega) : (x = y → A) ∧ (¬ x = y → B) := by
  subst hx hy
  rw [nI_eq ha hb]
  exact ⟨f, g⟩
theorem pk_in {x : Int32} (n N : Nat) (h : n < N) (hx : x = nI n := by rfl) (hN : N < 2 ^ 31 := by omega) : vp_in x N := by
  subst hx
  exact vp_in_nI h hN
theorem pk_cl {x : Int32} (n : Nat) (hx : x = nI n := by rfl) (h : n < 2 ^ 31 := by omega) : x.toNatClampNeg = n := by
  subst hx
  exact nI_clamp h
theorem pk_tn {n : Nat} (h : n < 2 ^ 32) : (nI n).toBitVec.toNat = n := Nat.mod_eq_of_lt h
theorem pk_and (x : Int32) {m : Int32} (k : Nat) (hm : m.toBitVec.toNat = 2 ^ k - 1) : x &&& m = nI (x.toBitVec.toNat % 2 ^ k) := by
  apply Int32.toBitVec_inj.mp
  apply BitVec.eq_of_toNat_eq
  rw [Int32.toBitVec_and, BitVec.toNat_and, hm, Nat.and_two_pow_sub_one_eq_mod]
  show _ = (BitVec.ofNat 32 _).toNat
  rw [BitVec.toNat_ofNat]
  exact (Nat.mod_eq_of_lt (Nat.lt_of_le_of_lt (Nat.mod_le _ _) x.toBitVec.isLt)).symm
theorem pk_andN {n : Nat} (h : n < 2 ^ 32) {m : Int32} (k : Nat) (hm : m.toBitVec.toNat = 2 ^ k - 1) : nI n &&& m = nI (n % 2 ^ k) := by
  rw [pk_and _ k hm, pk_tn h]
theorem pk_andE (x : Int32) {m : Int32} (k : Nat) (hm : m.toBitVec.toNat = 2 ^ k - 1) : ∃ j : Nat, j < 2 ^ k ∧ x &&& m = nI j := ⟨_, Nat.mod_lt _ (Nat.two_pow_pos k), pk_and x k hm⟩
theorem pk_andIn (x : Int32) {m : Int32} (k : Nat) (hm : m.toBitVec.toNat = 2 ^ k - 1) (hk : k ≤ 30) : vp_in (x &&& m) (2 ^ k) := by
  obtain ⟨j, hj, e⟩ := pk_andE x k hm
  rw [e]
  exact vp_in_nI hj (Nat.lt_of_le_of_lt (Nat.pow_le_pow_right (by decide) hk) (by decide))
theorem pk_shl (a s : Int32) (k : Nat) (hs : (s.toBitVec.smod 32).toNat = k) : (a <<< s).toBitVec.toNat = a.toBitVec.toNat * 2 ^ k % 2 ^ 32 := by
  show (a.toBitVec <<< (s.toBitVec.smod 32).toNat).toNat = _
  rw [hs, BitVec.toNat_shiftLeft, Nat.shiftLeft_eq]
theorem pk_shlN {n : Nat} (s : Int32) (k : Nat) (hs : (s.toBitVec.smod 32).toNat = k) (h : n * 2 ^ k < 2 ^ 32) : nI n <<< s = nI (n * 2 ^ k) := by
  apply Int32.toBitVec_inj.mp
  apply BitVec.eq_of_toNat_eq
  have hn : n < 2 ^ 32 := Nat.lt_of_le_of_lt (Nat.le_mul_of_pos_right n (Nat.two_pow_pos k)) h
  rw [pk_shl _ _ k hs, pk_tn hn, pk_tn h, Nat.mod_eq_of_lt h]
theorem pk_shr (a s : Int32) (k : Nat) (hs : (s.toBitVec.smod 32).toNat = k) : (a >>> s).toInt = a.toInt >>> k := by
  show (a.toBitVec.sshiftRight (s.toBitVec.smod 32).toNat).toInt = _
  rw [hs, BitVec.toInt_sshiftRight]
  rfl
theorem pk_shrN {n : Nat} (h : n < 2 ^ 31) (s : Int32) (k : Nat) (hs : (s.toBitVec.smod 32).toNat = k) : nI n >>> s = nI (n / 2 ^ k) := by
  apply Int32.toInt_inj.mp
  have h2 : n / 2 ^ k ≤ n := Nat.div_le_self _ _
  rw [pk_shr _ _ k hs, nI_toInt h, nI_toInt (by omega), Int.shiftRight_eq_div_pow]
  rfl
theorem pk_ushr (x s : Int32) (k : Nat) (hs : ((s.toUInt32 &&& Int32.toUInt32 31).toBitVec % 32).toNat = k) : (x.toUInt32 >>> (s.toUInt32 &&& Int32.toUInt32 31)).toInt32.toBitVec.toNat = x.toBitVec.toNat / 2 ^ k := by
  have e : (x.toUInt32 >>> (s.toUInt32 &&& Int32.toUInt32 31)).toInt32.toBitVec = x.toBitVec >>> k := by
    rw [← hs]
    exact UInt32.toBitVec_shiftRight _ _
  rw [e, BitVec.toNat_ushiftRight, Nat.shiftRight_eq_div_pow]
theorem pk_ushrN {n : Nat} (hn : n < 2 ^ 32) (s : Int32) (k : Nat) (hs : ((s.toUInt32 &&& Int32.toUInt32 31).toBitVec % 32).toNat = k) : ((nI n).toUInt32 >>> (s.toUInt32 &&& Int32.toUInt32 31)).toInt32 = nI (n / 2 ^ k) := by
  apply Int32.toBitVec_inj.mp
  apply BitVec.eq_of_toNat_eq
  rw [pk_ushr _ s k hs, pk_tn hn, pk_tn (Nat.lt_of_le_of_lt (Nat.div_le_self _ _) hn)]
theorem pk_nb (z : Int32) : narrow .byte (.int z.toInt8.toInt32) = .int z.toInt8.toInt32 := congrArg Value.int (by simp)
theorem pk_ns (z : Int32) : narrow .short (.int z.toInt16.toInt32) = .int z.toInt16.toInt32 := congrArg Value.int (by simp)
theorem pk_fb (r : Int32) : fits .byte (.int r.toInt8.toInt32) = true := by
  have ⟨a, b⟩ := lg_i2b_range r
  have h1 : (-128 : Int32).toInt = -128 := by decide
  have h2 : (127 : Int32).toInt = 127 := by decide
  simp only [fits, Bool.and_eq_true, decide_eq_true_eq, Int32.le_iff_toInt_le, h1, h2]
  omega
theorem pk_fs (r : Int32) : fits .short (.int r.toInt16.toInt32) = true := by
  have ⟨a, b⟩ := lg_i2s_range r
  have h1 : (-32768 : Int32).toInt = -32768 := by decide
  have h2 : (32767 : Int32).toInt = 32767 := by decide
  simp only [fits, Bool.and_eq_true, decide_eq_true_eq, Int32.le_iff_toInt_le, h1, h2]
  omega
theorem pk_charN {q : Nat} (hq : q < 65536) : narrow .char (.int (nI q)) = .int (nI q) ∧ fits .char (.int (nI q)) = true := by
  constructor
  · have e : (nI q).toUInt32.toUInt16.toUInt32.toInt32 = nI q := by
      apply Int32.toBitVec_inj.mp
      apply BitVec.eq_of_toNat_eq
      show (nI q).toUInt32.toUInt16.toUInt32.toNat = q % 2 ^ 32
      rw [UInt16.toNat_toUInt32, UInt32.toNat_toUInt16, show (nI q).toUInt32.toNat = q % 2 ^ 32 from rfl]
      omega
    exact congrArg Value.int e
  · have a : (0 : Int32) ≤ nI q := nI_pos' (by omega)
    have b : nI q ≤ 65535 := nI_le (b := 65535) (by omega) (by decide)
    show (decide ((0 : Int32) ≤ nI q) && decide (nI q ≤ 65535)) = true
    rw [decide_eq_true a, decide_eq_true b]
    rfl
theorem pk_char (x : Int32) : (x.toUInt32 % 65536).toInt32 = nI (x.toBitVec.toNat % 65536) := by
  apply Int32.toBitVec_inj.mp
  apply BitVec.eq_of_toNat_eq
  rw [pk_tn (by omega)]
  show (x.toUInt32 % 65536).toNat = _
  rw [UInt32.toNat_mod]
  rfl
theorem pk_nc (x : Int32) : narrow .char (.int (x.toUInt32 % 65536).toInt32) = .int (x.toUInt32 % 65536).toInt32 := by
  rw [pk_char]
  exact (pk_charN (Nat.mod_lt _ (by decide))).1
theorem pk_fc (x : Int32) : fits .char (.int (x.toUInt32 % 65536).toInt32) = true := by
  rw [pk_char]
  exact (pk_charN (Nat.mod_lt _ (by decide))).2
theorem pk_vb (z : Int32) : vp_nar .byte z.toInt8.toInt32 = z.toInt8.toInt32 := by rw [vp_nar_byte]; simp
theorem pk_vs (z : Int32) : vp_nar .short z.toInt16.toInt32 = z.toInt16.toInt32 := by rw [vp_nar_short]; simp
theorem pk_vc (z : Int32) : vp_nar .char (z.toUInt32 % 65536).toInt32 = (z.toUInt32 % 65536).toInt32 := Value.int.inj (pk_nc z)
theorem pk_lT {n : Nat} (h : n < 2 ^ 63) : (lN n).toInt = (n : Int) := lg_ofNat_toInt h
theorem pk_lLT {a b : Nat} (ha : a < 2 ^ 63) (hb : b < 2 ^ 63) : lN a < lN b ↔ a < b := by
  rw [Int64.lt_iff_toInt_lt, pk_lT ha, pk_lT hb]; omega
theorem pk_lLE {a b : Nat} (ha : a < 2 ^ 63) (hb : b < 2 ^ 63) : lN a ≤ lN b ↔ a ≤ b := by
  rw [Int64.le_iff_toInt_le, pk_lT ha, pk_lT hb]; omega
theorem pk_lEQ {a b : Nat} (ha : a < 2 ^ 63) (hb : b < 2 ^ 63) : lN a = lN b ↔ a = b := by
  rw [← Int64.toInt_inj, pk_lT ha, pk_lT hb]; omega
theorem pk_lOf {x : Int64} (h : ¬ x < 0) : ∃ k : Nat, k < 2 ^ 63 ∧ x = lN k := by
  rw [Int64.lt_iff_toInt_lt] at h
  have h0 : (0 : Int64).toInt = 0 := by decide
  have hx := Int64.toInt_lt x
  refine ⟨x.toInt.toNat, by omega, Int64.toInt_inj.mp ?_⟩
  rw [pk_lT (by omega)]
  omega
theorem pk_lDiv {a b : Nat} (ha : a < 2 ^ 63) (h0 : 0 < b) (hb : b < 2 ^ 63) : lN a / lN b = lN (a / b) := by
  apply Int64.toInt_inj.mp
  rw [lg_ldiv_nonneg (by rw [pk_lT ha]; omega) (by rw [pk_lT hb]; omega), pk_lT ha, pk_lT hb, pk_lT (Nat.lt_of_le_of_lt (Nat.div_le_self a b) ha)]
  rfl
theorem pk_lRem {a b : Nat} (ha : a < 2 ^ 63) (h0 : 0 < b) (hb : b < 2 ^ 63) : lN a - lN a / lN b * lN b = lN (a % b) := by
  rw [pk_lDiv ha h0 hb, lN_mul, lN_sub (Nat.div_mul_le_self a b)]
  exact congrArg lN (by have := Nat.div_add_mod' a b; omega)
theorem pk_loop {σ : Type} (W : Nat → Nat → σ → Prop) (I : Nat → σ → Prop) (e i0 : Nat) (s : σ) (hi : i0 ≤ e) (h0 : I i0 s) (hx : ∀ n s, I e s → W (n + 1) e s)
    (hs : ∀ n i s, i < e → I i s → (∀ s', I (i + 1) s' → W n (i + 1) s') → W (n + 1) i s) : ∃ n, W n i0 s :=
  ⟨e + 1, loop_i W I e hx hs (e + 1) i0 s hi (by omega) h0⟩
theorem pk_loopD {σ : Type} (W : Nat → Nat → σ → Prop) (I : Nat → σ → Prop) (hx : ∀ n s, I 0 s → W (n + 1) 0 s)
    (hs : ∀ n i s, I (i + 1) s → (∀ s', I i s' → W n i s') → W (n + 1) (i + 1) s) : ∀ (e : Nat) (s : σ), I e s → W (e + 1) e s := by
  intro e
  induction e with
  | zero => exact fun s h => hx 0 s h
  | succ e ih => exact fun s h => hs (e + 1) e s h (fun s' h' => ih s' h')
theorem lp1 {A1 : Type} (W : Nat → A1 → Prop) (I : A1 → Prop) (μ : A1 → Nat) (hs : ∀ (n : Nat) (a1 : A1), I a1 → (∀ (b1 : A1), I b1 → μ b1 < μ a1 → W n b1) → W (n + 1) a1) (a1 : A1) (h : I a1) : ∃ n, W n a1 :=
  loop_m (σ := A1) (fun n s => W n s) (fun s => I s) (fun s => μ s) (fun n s hI hk => hs n s hI (fun b1 h9 hm => hk b1 h9 hm)) a1 h
theorem lp2 {A1 A2 : Type} (W : Nat → A1 → A2 → Prop) (I : A1 → A2 → Prop) (μ : A1 → A2 → Nat) (hs : ∀ (n : Nat) (a1 : A1) (a2 : A2), I a1 a2 → (∀ (b1 : A1) (b2 : A2), I b1 b2 → μ b1 b2 < μ a1 a2 → W n b1 b2) → W (n + 1) a1 a2) (a1 : A1) (a2 : A2) (h : I a1 a2) : ∃ n, W n a1 a2 :=
  loop_m (σ := A1 × A2) (fun n s => W n s.1 s.2) (fun s => I s.1 s.2) (fun s => μ s.1 s.2) (fun n s hI hk => hs n s.1 s.2 hI (fun b1 b2 h9 hm => hk (b1, b2) h9 hm)) (a1, a2) h
theorem lp3 {A1 A2 A3 : Type} (W : Nat → A1 → A2 → A3 → Prop) (I : A1 → A2 → A3 → Prop) (μ : A1 → A2 → A3 → Nat) (hs : ∀ (n : Nat) (a1 : A1) (a2 : A2) (a3 : A3), I a1 a2 a3 → (∀ (b1 : A1) (b2 : A2) (b3 : A3), I b1 b2 b3 → μ b1 b2 b3 < μ a1 a2 a3 → W n b1 b2 b3) → W (n + 1) a1 a2 a3) (a1 : A1) (a2 : A2) (a3 : A3) (h : I a1 a2 a3) : ∃ n, W n a1 a2 a3 :=
  loop_m (σ := A1 × A2 × A3) (fun n s => W n s.1 s.2.1 s.2.2) (fun s => I s.1 s.2.1 s.2.2) (fun s => μ s.1 s.2.1 s.2.2) (fun n s hI hk => hs n s.1 s.2.1 s.2.2 hI (fun b1 b2 b3 h9 hm => hk (b1, b2, b3) h9 hm)) (a1, a2, a3) h
theorem lp4 {A1 A2 A3 A4 : Type} (W : Nat → A1 → A2 → A3 → A4 → Prop) (I : A1 → A2 → A3 → A4 → Prop) (μ : A1 → A2 → A3 → A4 → Nat) (hs : ∀ (n : Nat) (a1 : A1) (a2 : A2) (a3 : A3) (a4 : A4), I a1 a2 a3 a4 → (∀ (b1 : A1) (b2 : A2) (b3 : A3) (b4 : A4), I b1 b2 b3 b4 → μ b1 b2 b3 b4 < μ a1 a2 a3 a4 → W n b1 b2 b3 b4) → W (n + 1) a1 a2 a3 a4) (a1 : A1) (a2 : A2) (a3 : A3) (a4 : A4) (h : I a1 a2 a3 a4) : ∃ n, W n a1 a2 a3 a4 :=
  loop_m (σ := A1 × A2 × A3 × A4) (fun n s => W n s.1 s.2.1 s.2.2.1 s.2.2.2) (fun s => I s.1 s.2.1 s.2.2.1 s.2.2.2) (fun s => μ s.1 s.2.1 s.2.2.1 s.2.2.2) (fun n s hI hk => hs n s.1 s.2.1 s.2.2.1 s.2.2.2 hI (fun b1 b2 b3 b4 h9 hm => hk (b1, b2, b3, b4) h9 hm)) (a1, a2, a3, a4) h
theorem lp5 {A1 A2 A3 A4 A5 : Type} (W : Nat → A1 → A2 → A3 → A4 → A5 → Prop) (I : A1 → A2 → A3 → A4 → A5 → Prop) (μ : A1 → A2 → A3 → A4 → A5 → Nat) (hs : ∀ (n : Nat) (a1 : A1) (a2 : A2) (a3 : A3) (a4 : A4) (a5 : A5), I a1 a2 a3 a4 a5 → (∀ (b1 : A1) (b2 : A2) (b3 : A3) (b4 : A4) (b5 : A5), I b1 b2 b3 b4 b5 → μ b1 b2 b3 b4 b5 < μ a1 a2 a3 a4 a5 → W n b1 b2 b3 b4 b5) → W (n + 1) a1 a2 a3 a4 a5) (a1 : A1) (a2 : A2) (a3 : A3) (a4 : A4) (a5 : A5) (h : I a1 a2 a3 a4 a5) : ∃ n, W n a1 a2 a3 a4 a5 :=
  loop_m (σ := A1 × A2 × A3 × A4 × A5) (fun n s => W n s.1 s.2.1 s.2.2.1 s.2.2.2.1 s.2.2.2.2) (fun s => I s.1 s.2.1 s.2.2.1 s.2.2.2.1 s.2.2.2.2) (fun s => μ s.1 s.2.1 s.2.2.1 s.2.2.2.1 s.2.2.2.2) (fun n s hI hk => hs n s.1 s.2.1 s.2.2.1 s.2.2.2.1 s.2.2.2.2 hI (fun b1 b2 b3 b4 b5 h9 hm => hk (b1, b2, b3, b4, b5) h9 hm)) (a1, a2, a3, a4, a5) h
theorem lp6 {A1 A2 A3 A4 A5 A6 : Type} (W : Nat → A1 → A2 → A3 → A4 → A5 → A6 → Prop) (I : A1 → A2 → A3 → A4 → A5 → A6 → Prop) (μ : A1 → A2 → A3 → A4 → A5 → A6 → Nat) (hs : ∀ (n : Nat) (a1 : A1) (a2 : A2) (a3 : A3) (a4 : A4) (a5 : A5) (a6 : A6), I a1 a2 a3 a4 a5 a6 → (∀ (b1 : A1) (b2 : A2) (b3 : A3) (b4 : A4) (b5 : A5) (b6 : A6), I b1 b2 b3 b4 b5 b6 → μ b1 b2 b3 b4 b5 b6 < μ a1 a2 a3 a4 a5 a6 → W n b1 b2 b3 b4 b5 b6) → W (n + 1) a1 a2 a3 a4 a5 a6) (a1 : A1) (a2 : A2) (a3 : A3) (a4 : A4) (a5 : A5) (a6 : A6) (h : I a1 a2 a3 a4 a5 a6) : ∃ n, W n a1 a2 a3 a4 a5 a6 :=
  loop_m (σ := A1 × A2 × A3 × A4 × A5 × A6) (fun n s => W n s.1 s.2.1 s.2.2.1 s.2.2.2.1 s.2.2.2.2.1 s.2.2.2.2.2) (fun s => I s.1 s.2.1 s.2.2.1 s.2.2.2.1 s.2.2.2.2.1 s.2.2.2.2.2) (fun s => μ s.1 s.2.1 s.2.2.1 s.2.2.2.1 s.2.2.2.2.1 s.2.2.2.2.2) (fun n s hI hk => hs n s.1 s.2.1 s.2.2.1 s.2.2.2.1 s.2.2.2.2.1 s.2.2.2.2.2 hI (fun b1 b2 b3 b4 b5 b6 h9 hm => hk (b1, b2, b3, b4, b5, b6) h9 hm)) (a1, a2, a3, a4, a5, a6) h
theorem lp7 {A1 A2 A3 A4 A5 A6 A7 : Type} (W : Nat → A1 → A2 → A3 → A4 → A5 → A6 → A7 → Prop) (I : A1 → A2 → A3 → A4 → A5 → A6 → A7 → Prop) (μ : A1 → A2 → A3 → A4 → A5 → A6 → A7 → Nat) (hs : ∀ (n : Nat) (a1 : A1) (a2 : A2) (a3 : A3) (a4 : A4) (a5 : A5) (a6 : A6) (a7 : A7), I a1 a2 a3 a4 a5 a6 a7 → (∀ (b1 : A1) (b2 : A2) (b3 : A3) (b4 : A4) (b5 : A5) (b6 : A6) (b7 : A7), I b1 b2 b3 b4 b5 b6 b7 → μ b1 b2 b3 b4 b5 b6 b7 < μ a1 a2 a3 a4 a5 a6 a7 → W n b1 b2 b3 b4 b5 b6 b7) → W (n + 1) a1 a2 a3 a4 a5 a6 a7) (a1 : A1) (a2 : A2) (a3 : A3) (a4 : A4) (a5 : A5) (a6 : A6) (a7 : A7) (h : I a1 a2 a3 a4 a5 a6 a7) : ∃ n, W n a1 a2 a3 a4 a5 a6 a7 :=
  loop_m (σ := A1 × A2 × A3 × A4 × A5 × A6 × A7) (fun n s => W n s.1 s.2.1 s.2.2.1 s.2.2.2.1 s.2.2.2.2.1 s.2.2.2.2.2.1 s.2.2.2.2.2.2) (fun s => I s.1 s.2.1 s.2.2.1 s.2.2.2.1 s.2.2.2.2.1 s.2.2.2.2.2.1 s.2.2.2.2.2.2) (fun s => μ s.1 s.2.1 s.2.2.1 s.2.2.2.1 s.2.2.2.2.1 s.2.2.2.2.2.1 s.2.2.2.2.2.2) (fun n s hI hk => hs n s.1 s.2.1 s.2.2.1 s.2.2.2.1 s.2.2.2.2.1 s.2.2.2.2.2.1 s.2.2.2.2.2.2 hI (fun b1 b2 b3 b4 b5 b6 b7 h9 hm => hk (b1, b2, b3, b4, b5, b6, b7) h9 hm)) (a1, a2, a3, a4, a5, a6, a7) h
theorem lp8 {A1 A2 A3 A4 A5 A6 A7 A8 : Type} (W : Nat → A1 → A2 → A3 → A4 → A5 → A6 → A7 → A8 → Prop) (I : A1 → A2 → A3 → A4 → A5 → A6 → A7 → A8 → Prop) (μ : A1 → A2 → A3 → A4 → A5 → A6 → A7 → A8 → Nat) (hs : ∀ (n : Nat) (a1 : A1) (a2 : A2) (a3 : A3) (a4 : A4) (a5 : A5) (a6 : A6) (a7 : A7) (a8 : A8), I a1 a2 a3 a4 a5 a6 a7 a8 → (∀ (b1 : A1) (b2 : A2) (b3 : A3) (b4 : A4) (b5 : A5) (b6 : A6) (b7 : A7) (b8 : A8), I b1 b2 b3 b4 b5 b6 b7 b8 → μ b1 b2 b3 b4 b5 b6 b7 b8 < μ a1 a2 a3 a4 a5 a6 a7 a8 → W n b1 b2 b3 b4 b5 b6 b7 b8) → W (n + 1) a1 a2 a3 a4 a5 a6 a7 a8) (a1 : A1) (a2 : A2) (a3 : A3) (a4 : A4) (a5 : A5) (a6 : A6) (a7 : A7) (a8 : A8) (h : I a1 a2 a3 a4 a5 a6 a7 a8) : ∃ n, W n a1 a2 a3 a4 a5 a6 a7 a8 :=
  loop_m (σ := A1 × A2 × A3 × A4 × A5 × A6 × A7 × A8) (fun n s => W n s.1 s.2.1 s.2.2.1 s.2.2.2.1 s.2.2.2.2.1 s.2.2.2.2.2.1 s.2.2.2.2.2.2.1 s.2.2.2.2.2.2.2) (fun s => I s.1 s.2.1 s.2.2.1 s.2.2.2.1 s.2.2.2.2.1 s.2.2.2.2.2.1 s.2.2.2.2.2.2.1 s.2.2.2.2.2.2.2) (fun s => μ s.1 s.2.1 s.2.2.1 s.2.2.2.1 s.2.2.2.2.1 s.2.2.2.2.2.1 s.2.2.2.2.2.2.1 s.2.2.2.2.2.2.2) (fun n s hI hk => hs n s.1 s.2.1 s.2.2.1 s.2.2.2.1 s.2.2.2.2.1 s.2.2.2.2.2.1 s.2.2.2.2.2.2.1 s.2.2.2.2.2.2.2 hI (fun b1 b2 b3 b4 b5 b6 b7 b8 h9 hm => hk (b1, b2, b3, b4, b5, b6, b7, b8) h9 hm)) (a1, a2, a3, a4, a5, a6, a7, a8) h
theorem lp9 {A1 A2 A3 A4 A5 A6 A7 A8 A9 : Type} (W : Nat → A1 → A2 → A3 → A4 → A5 → A6 → A7 → A8 → A9 → Prop) (I : A1 → A2 → A3 → A4 → A5 → A6 → A7 → A8 → A9 → Prop) (μ : A1 → A2 → A3 → A4 → A5 → A6 → A7 → A8 → A9 → Nat) (hs : ∀ (n : Nat) (a1 : A1) (a2 : A2) (a3 : A3) (a4 : A4) (a5 : A5) (a6 : A6) (a7 : A7) (a8 : A8) (a9 : A9), I a1 a2 a3 a4 a5 a6 a7 a8 a9 → (∀ (b1 : A1) (b2 : A2) (b3 : A3) (b4 : A4) (b5 : A5) (b6 : A6) (b7 : A7) (b8 : A8) (b9 : A9), I b1 b2 b3 b4 b5 b6 b7 b8 b9 → μ b1 b2 b3 b4 b5 b6 b7 b8 b9 < μ a1 a2 a3 a4 a5 a6 a7 a8 a9 → W n b1 b2 b3 b4 b5 b6 b7 b8 b9) → W (n + 1) a1 a2 a3 a4 a5 a6 a7 a8 a9) (a1 : A1) (a2 : A2) (a3 : A3) (a4 : A4) (a5 : A5) (a6 : A6) (a7 : A7) (a8 : A8) (a9 : A9) (h : I a1 a2 a3 a4 a5 a6 a7 a8 a9) : ∃ n, W n a1 a2 a3 a4 a5 a6 a7 a8 a9 :=
  loop_m (σ := A1 × A2 × A3 × A4 × A5 × A6 × A7 × A8 × A9) (fun n s => W n s.1 s.2.1 s.2.2.1 s.2.2.2.1 s.2.2.2.2.1 s.2.2.2.2.2.1 s.2.2.2.2.2.2.1 s.2.2.2.2.2.2.2.1 s.2.2.2.2.2.2.2.2) (fun s => I s.1 s.2.1 s.2.2.1 s.2.2.2.1 s.2.2.2.2.1 s.2.2.2.2.2.1 s.2.2.2.2.2.2.1 s.2.2.2.2.2.2.2.1 s.2.2.2.2.2.2.2.2) (fun s => μ s.1 s.2.1 s.2.2.1 s.2.2.2.1 s.2.2.2.2.1 s.2.2.2.2.2.1 s.2.2.2.2.2.2.1 s.2.2.2.2.2.2.2.1 s.2.2.2.2.2.2.2.2) (fun n s hI hk => hs n s.1 s.2.1 s.2.2.1 s.2.2.2.1 s.2.2.2.2.1 s.2.2.2.2.2.1 s.2.2.2.2.2.2.1 s.2.2.2.2.2.2.2.1 s.2.2.2.2.2.2.2.2 hI (fun b1 b2 b3 b4 b5 b6 b7 b8 b9 h9 hm => hk (b1, b2, b3, b4, b5, b6, b7, b8, b9) h9 hm)) (a1, a2, a3, a4, a5, a6, a7, a8, a9) h
theorem lp10 {A1 A2 A3 A4 A5 A6 A7 A8 A9 A10 : Type} (W : Nat → A1 → A2 → A3 → A4 → A5 → A6 → A7 → A8 → A9 → A10 → Prop) (I : A1 → A2 → A3 → A4 → A5 → A6 → A7 → A8 → A9 → A10 → Prop) (μ : A1 → A2 → A3 → A4 → A5 → A6 → A7 → A8 → A9 → A10 → Nat) (hs : ∀ (n : Nat) (a1 : A1) (a2 : A2) (a3 : A3) (a4 : A4) (a5 : A5) (a6 : A6) (a7 : A7) (a8 : A8) (a9 : A9) (a10 : A10), I a1 a2 a3 a4 a5 a6 a7 a8 a9 a10 → (∀ (b1 : A1) (b2 : A2) (b3 : A3) (b4 : A4) (b5 : A5) (b6 : A6) (b7 : A7) (b8 : A8) (b9 : A9) (b10 : A10), I b1 b2 b3 b4 b5 b6 b7 b8 b9 b10 → μ b1 b2 b3 b4 b5 b6 b7 b8 b9 b10 < μ a1 a2 a3 a4 a5 a6 a7 a8 a9 a10 → W n b1 b2 b3 b4 b5 b6 b7 b8 b9 b10) → W (n + 1) a1 a2 a3 a4 a5 a6 a7 a8 a9 a10) (a1 : A1) (a2 : A2) (a3 : A3) (a4 : A4) (a5 : A5) (a6 : A6) (a7 : A7) (a8 : A8) (a9 : A9) (a10 : A10) (h : I a1 a2 a3 a4 a5 a6 a7 a8 a9 a10) : ∃ n, W n a1 a2 a3 a4 a5 a6 a7 a8 a9 a10 :=
  loop_m (σ := A1 × A2 × A3 × A4 × A5 × A6 × A7 × A8 × A9 × A10) (fun n s => W n s.1 s.2.1 s.2.2.1 s.2.2.2.1 s.2.2.2.2.1 s.2.2.2.2.2.1 s.2.2.2.2.2.2.1 s.2.2.2.2.2.2.2.1 s.2.2.2.2.2.2.2.2.1 s.2.2.2.2.2.2.2.2.2) (fun s => I s.1 s.2.1 s.2.2.1 s.2.2.2.1 s.2.2.2.2.1 s.2.2.2.2.2.1 s.2.2.2.2.2.2.1 s.2.2.2.2.2.2.2.1 s.2.2.2.2.2.2.2.2.1 s.2.2.2.2.2.2.2.2.2) (fun s => μ s.1 s.2.1 s.2.2.1 s.2.2.2.1 s.2.2.2.2.1 s.2.2.2.2.2.1 s.2.2.2.2.2.2.1 s.2.2.2.2.2.2.2.1 s.2.2.2.2.2.2.2.2.1 s.2.2.2.2.2.2.2.2.2) (fun n s hI hk => hs n s.1 s.2.1 s.2.2.1 s.2.2.2.1 s.2.2.2.2.1 s.2.2.2.2.2.1 s.2.2.2.2.2.2.1 s.2.2.2.2.2.2.2.1 s.2.2.2.2.2.2.2.2.1 s.2.2.2.2.2.2.2.2.2 hI (fun b1 b2 b3 b4 b5 b6 b7 b8 b9 b10 h9 hm => hk (b1, b2, b3, b4, b5, b6, b7, b8, b9, b10) h9 hm)) (a1, a2, a3, a4, a5, a6, a7, a8, a9, a10) h
theorem lp11 {A1 A2 A3 A4 A5 A6 A7 A8 A9 A10 A11 : Type} (W : Nat → A1 → A2 → A3 → A4 → A5 → A6 → A7 → A8 → A9 → A10 → A11 → Prop) (I : A1 → A2 → A3 → A4 → A5 → A6 → A7 → A8 → A9 → A10 → A11 → Prop) (μ : A1 → A2 → A3 → A4 → A5 → A6 → A7 → A8 → A9 → A10 → A11 → Nat) (hs : ∀ (n : Nat) (a1 : A1) (a2 : A2) (a3 : A3) (a4 : A4) (a5 : A5) (a6 : A6) (a7 : A7) (a8 : A8) (a9 : A9) (a10 : A10) (a11 : A11), I a1 a2 a3 a4 a5 a6 a7 a8 a9 a10 a11 → (∀ (b1 : A1) (b2 : A2) (b3 : A3) (b4 : A4) (b5 : A5) (b6 : A6) (b7 : A7) (b8 : A8) (b9 : A9) (b10 : A10) (b11 : A11), I b1 b2 b3 b4 b5 b6 b7 b8 b9 b10 b11 → μ b1 b2 b3 b4 b5 b6 b7 b8 b9 b10 b11 < μ a1 a2 a3 a4 a5 a6 a7 a8 a9 a10 a11 → W n b1 b2 b3 b4 b5 b6 b7 b8 b9 b10 b11) → W (n + 1) a1 a2 a3 a4 a5 a6 a7 a8 a9 a10 a11) (a1 : A1) (a2 : A2) (a3 : A3) (a4 : A4) (a5 : A5) (a6 : A6) (a7 : A7) (a8 : A8) (a9 : A9) (a10 : A10) (a11 : A11) (h : I a1 a2 a3 a4 a5 a6 a7 a8 a9 a10 a11) : ∃ n, W n a1 a2 a3 a4 a5 a6 a7 a8 a9 a10 a11 :=
  loop_m (σ := A1 × A2 × A3 × A4 × A5 × A6 × A7 × A8 × A9 × A10 × A11) (fun n s => W n s.1 s.2.1 s.2.2.1 s.2.2.2.1 s.2.2.2.2.1 s.2.2.2.2.2.1 s.2.2.2.2.2.2.1 s.2.2.2.2.2.2.2.1 s.2.2.2.2.2.2.2.2.1 s.2.2.2.2.2.2.2.2.2.1 s.2.2.2.2.2.2.2.2.2.2) (fun s => I s.1 s.2.1 s.2.2.1 s.2.2.2.1 s.2.2.2.2.1 s.2.2.2.2.2.1 s.2.2.2.2.2.2.1 s.2.2.2.2.2.2.2.1 s.2.2.2.2.2.2.2.2.1 s.2.2.2.2.2.2.2.2.2.1 s.2.2.2.2.2.2.2.2.2.2) (fun s => μ s.1 s.2.1 s.2.2.1 s.2.2.2.1 s.2.2.2.2.1 s.2.2.2.2.2.1 s.2.2.2.2.2.2.1 s.2.2.2.2.2.2.2.1 s.2.2.2.2.2.2.2.2.1 s.2.2.2.2.2.2.2.2.2.1 s.2.2.2.2.2.2.2.2.2.2) (fun n s hI hk => hs n s.1 s.2.1 s.2.2.1 s.2.2.2.1 s.2.2.2.2.1 s.2.2.2.2.2.1 s.2.2.2.2.2.2.1 s.2.2.2.2.2.2.2.1 s.2.2.2.2.2.2.2.2.1 s.2.2.2.2.2.2.2.2.2.1 s.2.2.2.2.2.2.2.2.2.2 hI (fun b1 b2 b3 b4 b5 b6 b7 b8 b9 b10 b11 h9 hm => hk (b1, b2, b3, b4, b5, b6, b7, b8, b9, b10, b11) h9 hm)) (a1, a2, a3, a4, a5, a6, a7, a8, a9, a10, a11) h
theorem lp12 {A1 A2 A3 A4 A5 A6 A7 A8 A9 A10 A11 A12 : Type} (W : Nat → A1 → A2 → A3 → A4 → A5 → A6 → A7 → A8 → A9 → A10 → A11 → A12 → Prop) (I : A1 → A2 → A3 → A4 → A5 → A6 → A7 → A8 → A9 → A10 → A11 → A12 → Prop) (μ : A1 → A2 → A3 → A4 → A5 → A6 → A7 → A8 → A9 → A10 → A11 → A12 → Nat) (hs : ∀ (n : Nat) (a1 : A1) (a2 : A2) (a3 : A3) (a4 : A4) (a5 : A5) (a6 : A6) (a7 : A7) (a8 : A8) (a9 : A9) (a10 : A10) (a11 : A11) (a12 : A12), I a1 a2 a3 a4 a5 a6 a7 a8 a9 a10 a11 a12 → (∀ (b1 : A1) (b2 : A2) (b3 : A3) (b4 : A4) (b5 : A5) (b6 : A6) (b7 : A7) (b8 : A8) (b9 : A9) (b10 : A10) (b11 : A11) (b12 : A12), I b1 b2 b3 b4 b5 b6 b7 b8 b9 b10 b11 b12 → μ b1 b2 b3 b4 b5 b6 b7 b8 b9 b10 b11 b12 < μ a1 a2 a3 a4 a5 a6 a7 a8 a9 a10 a11 a12 → W n b1 b2 b3 b4 b5 b6 b7 b8 b9 b10 b11 b12) → W (n + 1) a1 a2 a3 a4 a5 a6 a7 a8 a9 a10 a11 a12) (a1 : A1) (a2 : A2) (a3 : A3) (a4 : A4) (a5 : A5) (a6 : A6) (a7 : A7) (a8 : A8) (a9 : A9) (a10 : A10) (a11 : A11) (a12 : A12) (h : I a1 a2 a3 a4 a5 a6 a7 a8 a9 a10 a11 a12) : ∃ n, W n a1 a2 a3 a4 a5 a6 a7 a8 a9 a10 a11 a12 :=
  loop_m (σ := A1 × A2 × A3 × A4 × A5 × A6 × A7 × A8 × A9 × A10 × A11 × A12) (fun n s => W n s.1 s.2.1 s.2.2.1 s.2.2.2.1 s.2.2.2.2.1 s.2.2.2.2.2.1 s.2.2.2.2.2.2.1 s.2.2.2.2.2.2.2.1 s.2.2.2.2.2.2.2.2.1 s.2.2.2.2.2.2.2.2.2.1 s.2.2.2.2.2.2.2.2.2.2.1 s.2.2.2.2.2.2.2.2.2.2.2) (fun s => I s.1 s.2.1 s.2.2.1 s.2.2.2.1 s.2.2.2.2.1 s.2.2.2.2.2.1 s.2.2.2.2.2.2.1 s.2.2.2.2.2.2.2.1 s.2.2.2.2.2.2.2.2.1 s.2.2.2.2.2.2.2.2.2.1 s.2.2.2.2.2.2.2.2.2.2.1 s.2.2.2.2.2.2.2.2.2.2.2) (fun s => μ s.1 s.2.1 s.2.2.1 s.2.2.2.1 s.2.2.2.2.1 s.2.2.2.2.2.1 s.2.2.2.2.2.2.1 s.2.2.2.2.2.2.2.1 s.2.2.2.2.2.2.2.2.1 s.2.2.2.2.2.2.2.2.2.1 s.2.2.2.2.2.2.2.2.2.2.1 s.2.2.2.2.2.2.2.2.2.2.2) (fun n s hI hk => hs n s.1 s.2.1 s.2.2.1 s.2.2.2.1 s.2.2.2.2.1 s.2.2.2.2.2.1 s.2.2.2.2.2.2.1 s.2.2.2.2.2.2.2.1 s.2.2.2.2.2.2.2.2.1 s.2.2.2.2.2.2.2.2.2.1 s.2.2.2.2.2.2.2.2.2.2.1 s.2.2.2.2.2.2.2.2.2.2.2 hI (fun b1 b2 b3 b4 b5 b6 b7 b8 b9 b10 b11 b12 h9 hm => hk (b1, b2, b3, b4, b5, b6, b7, b8, b9, b10, b11, b12) h9 hm)) (a1, a2, a3, a4, a5, a6, a7, a8, a9, a10, a11, a12) h
theorem lp13 {A1 A2 A3 A4 A5 A6 A7 A8 A9 A10 A11 A12 A13 : Type} (W : Nat → A1 → A2 → A3 → A4 → A5 → A6 → A7 → A8 → A9 → A10 → A11 → A12 → A13 → Prop) (I : A1 → A2 → A3 → A4 → A5 → A6 → A7 → A8 → A9 → A10 → A11 → A12 → A13 → Prop) (μ : A1 → A2 → A3 → A4 → A5 → A6 → A7 → A8 → A9 → A10 → A11 → A12 → A13 → Nat) (hs : ∀ (n : Nat) (a1 : A1) (a2 : A2) (a3 : A3) (a4 : A4) (a5 : A5) (a6 : A6) (a7 : A7) (a8 : A8) (a9 : A9) (a10 : A10) (a11 : A11) (a12 : A12) (a13 : A13), I a1 a2 a3 a4 a5 a6 a7 a8 a9 a10 a11 a12 a13 → (∀ (b1 : A1) (b2 : A2) (b3 : A3) (b4 : A4) (b5 : A5) (b6 : A6) (b7 : A7) (b8 : A8) (b9 : A9) (b10 : A10) (b11 : A11) (b12 : A12) (b13 : A13), I b1 b2 b3 b4 b5 b6 b7 b8 b9 b10 b11 b12 b13 → μ b1 b2 b3 b4 b5 b6 b7 b8 b9 b10 b11 b12 b13 < μ a1 a2 a3 a4 a5 a6 a7 a8 a9 a10 a11 a12 a13 → W n b1 b2 b3 b4 b5 b6 b7 b8 b9 b10 b11 b12 b13) → W (n + 1) a1 a2 a3 a4 a5 a6 a7 a8 a9 a10 a11 a12 a13) (a1 : A1) (a2 : A2) (a3 : A3) (a4 : A4) (a5 : A5) (a6 : A6) (a7 : A7) (a8 : A8) (a9 : A9) (a10 : A10) (a11 : A11) (a12 : A12) (a13 : A13) (h : I a1 a2 a3 a4 a5 a6 a7 a8 a9 a10 a11 a12 a13) : ∃ n, W n a1 a2 a3 a4 a5 a6 a7 a8 a9 a10 a11 a12 a13 :=
  loop_m (σ := A1 × A2 × A3 × A4 × A5 × A6 × A7 × A8 × A9 × A10 × A11 × A12 × A13) (fun n s => W n s.1 s.2.1 s.2.2.1 s.2.2.2.1 s.2.2.2.2.1 s.2.2.2.2.2.1 s.2.2.2.2.2.2.1 s.2.2.2.2.2.2.2.1 s.2.2.2.2.2.2.2.2.1 s.2.2.2.2.2.2.2.2.2.1 s.2.2.2.2.2.2.2.2.2.2.1 s.2.2.2.2.2.2.2.2.2.2.2.1 s.2.2.2.2.2.2.2.2.2.2.2.2) (fun s => I s.1 s.2.1 s.2.2.1 s.2.2.2.1 s.2.2.2.2.1 s.2.2.2.2.2.1 s.2.2.2.2.2.2.1 s.2.2.2.2.2.2.2.1 s.2.2.2.2.2.2.2.2.1 s.2.2.2.2.2.2.2.2.2.1 s.2.2.2.2.2.2.2.2.2.2.1 s.2.2.2.2.2.2.2.2.2.2.2.1 s.2.2.2.2.2.2.2.2.2.2.2.2) (fun s => μ s.1 s.2.1 s.2.2.1 s.2.2.2.1 s.2.2.2.2.1 s.2.2.2.2.2.1 s.2.2.2.2.2.2.1 s.2.2.2.2.2.2.2.1 s.2.2.2.2.2.2.2.2.1 s.2.2.2.2.2.2.2.2.2.1 s.2.2.2.2.2.2.2.2.2.2.1 s.2.2.2.2.2.2.2.2.2.2.2.1 s.2.2.2.2.2.2.2.2.2.2.2.2) (fun n s hI hk => hs n s.1 s.2.1 s.2.2.1 s.2.2.2.1 s.2.2.2.2.1 s.2.2.2.2.2.1 s.2.2.2.2.2.2.1 s.2.2.2.2.2.2.2.1 s.2.2.2.2.2.2.2.2.1 s.2.2.2.2.2.2.2.2.2.1 s.2.2.2.2.2.2.2.2.2.2.1 s.2.2.2.2.2.2.2.2.2.2.2.1 s.2.2.2.2.2.2.2.2.2.2.2.2 hI (fun b1 b2 b3 b4 b5 b6 b7 b8 b9 b10 b11 b12 b13 h9 hm => hk (b1, b2, b3, b4, b5, b6, b7, b8, b9, b10, b11, b12, b13) h9 hm)) (a1, a2, a3, a4, a5, a6, a7, a8, a9, a10, a11, a12, a13) h
theorem lp14 {A1 A2 A3 A4 A5 A6 A7 A8 A9 A10 A11 A12 A13 A14 : Type} (W : Nat → A1 → A2 → A3 → A4 → A5 → A6 → A7 → A8 → A9 → A10 → A11 → A12 → A13 → A14 → Prop) (I : A1 → A2 → A3 → A4 → A5 → A6 → A7 → A8 → A9 → A10 → A11 → A12 → A13 → A14 → Prop) (μ : A1 → A2 → A3 → A4 → A5 → A6 → A7 → A8 → A9 → A10 → A11 → A12 → A13 → A14 → Nat) (hs : ∀ (n : Nat) (a1 : A1) (a2 : A2) (a3 : A3) (a4 : A4) (a5 : A5) (a6 : A6) (a7 : A7) (a8 : A8) (a9 : A9) (a10 : A10) (a11 : A11) (a12 : A12) (a13 : A13) (a14 : A14), I a1 a2 a3 a4 a5 a6 a7 a8 a9 a10 a11 a12 a13 a14 → (∀ (b1 : A1) (b2 : A2) (b3 : A3) (b4 : A4) (b5 : A5) (b6 : A6) (b7 : A7) (b8 : A8) (b9 : A9) (b10 : A10) (b11 : A11) (b12 : A12) (b13 : A13) (b14 : A14), I b1 b2 b3 b4 b5 b6 b7 b8 b9 b10 b11 b12 b13 b14 → μ b1 b2 b3 b4 b5 b6 b7 b8 b9 b10 b11 b12 b13 b14 < μ a1 a2 a3 a4 a5 a6 a7 a8 a9 a10 a11 a12 a13 a14 → W n b1 b2 b3 b4 b5 b6 b7 b8 b9 b10 b11 b12 b13 b14) → W (n + 1) a1 a2 a3 a4 a5 a6 a7 a8 a9 a10 a11 a12 a13 a14) (a1 : A1) (a2 : A2) (a3 : A3) (a4 : A4) (a5 : A5) (a6 : A6) (a7 : A7) (a8 : A8) (a9 : A9) (a10 : A10) (a11 : A11) (a12 : A12) (a13 : A13) (a14 : A14) (h : I a1 a2 a3 a4 a5 a6 a7 a8 a9 a10 a11 a12 a13 a14) : ∃ n, W n a1 a2 a3 a4 a5 a6 a7 a8 a9 a10 a11 a12 a13 a14 :=
  loop_m (σ := A1 × A2 × A3 × A4 × A5 × A6 × A7 × A8 × A9 × A10 × A11 × A12 × A13 × A14) (fun n s => W n s.1 s.2.1 s.2.2.1 s.2.2.2.1 s.2.2.2.2.1 s.2.2.2.2.2.1 s.2.2.2.2.2.2.1 s.2.2.2.2.2.2.2.1 s.2.2.2.2.2.2.2.2.1 s.2.2.2.2.2.2.2.2.2.1 s.2.2.2.2.2.2.2.2.2.2.1 s.2.2.2.2.2.2.2.2.2.2.2.1 s.2.2.2.2.2.2.2.2.2.2.2.2.1 s.2.2.2.2.2.2.2.2.2.2.2.2.2) (fun s => I s.1 s.2.1 s.2.2.1 s.2.2.2.1 s.2.2.2.2.1 s.2.2.2.2.2.1 s.2.2.2.2.2.2.1 s.2.2.2.2.2.2.2.1 s.2.2.2.2.2.2.2.2.1 s.2.2.2.2.2.2.2.2.2.1 s.2.2.2.2.2.2.2.2.2.2.1 s.2.2.2.2.2.2.2.2.2.2.2.1 s.2.2.2.2.2.2.2.2.2.2.2.2.1 s.2.2.2.2.2.2.2.2.2.2.2.2.2) (fun s => μ s.1 s.2.1 s.2.2.1 s.2.2.2.1 s.2.2.2.2.1 s.2.2.2.2.2.1 s.2.2.2.2.2.2.1 s.2.2.2.2.2.2.2.1 s.2.2.2.2.2.2.2.2.1 s.2.2.2.2.2.2.2.2.2.1 s.2.2.2.2.2.2.2.2.2.2.1 s.2.2.2.2.2.2.2.2.2.2.2.1 s.2.2.2.2.2.2.2.2.2.2.2.2.1 s.2.2.2.2.2.2.2.2.2.2.2.2.2) (fun n s hI hk => hs n s.1 s.2.1 s.2.2.1 s.2.2.2.1 s.2.2.2.2.1 s.2.2.2.2.2.1 s.2.2.2.2.2.2.1 s.2.2.2.2.2.2.2.1 s.2.2.2.2.2.2.2.2.1 s.2.2.2.2.2.2.2.2.2.1 s.2.2.2.2.2.2.2.2.2.2.1 s.2.2.2.2.2.2.2.2.2.2.2.1 s.2.2.2.2.2.2.2.2.2.2.2.2.1 s.2.2.2.2.2.2.2.2.2.2.2.2.2 hI (fun b1 b2 b3 b4 b5 b6 b7 b8 b9 b10 b11 b12 b13 b14 h9 hm => hk (b1, b2, b3, b4, b5, b6, b7, b8, b9, b10, b11, b12, b13, b14) h9 hm)) (a1, a2, a3, a4, a5, a6, a7, a8, a9, a10, a11, a12, a13, a14) h
theorem lp15 {A1 A2 A3 A4 A5 A6 A7 A8 A9 A10 A11 A12 A13 A14 A15 : Type} (W : Nat → A1 → A2 → A3 → A4 → A5 → A6 → A7 → A8 → A9 → A10 → A11 → A12 → A13 → A14 → A15 → Prop) (I : A1 → A2 → A3 → A4 → A5 → A6 → A7 → A8 → A9 → A10 → A11 → A12 → A13 → A14 → A15 → Prop) (μ : A1 → A2 → A3 → A4 → A5 → A6 → A7 → A8 → A9 → A10 → A11 → A12 → A13 → A14 → A15 → Nat) (hs : ∀ (n : Nat) (a1 : A1) (a2 : A2) (a3 : A3) (a4 : A4) (a5 : A5) (a6 : A6) (a7 : A7) (a8 : A8) (a9 : A9) (a10 : A10) (a11 : A11) (a12 : A12) (a13 : A13) (a14 : A14) (a15 : A15), I a1 a2 a3 a4 a5 a6 a7 a8 a9 a10 a11 a12 a13 a14 a15 → (∀ (b1 : A1) (b2 : A2) (b3 : A3) (b4 : A4) (b5 : A5) (b6 : A6) (b7 : A7) (b8 : A8) (b9 : A9) (b10 : A10) (b11 : A11) (b12 : A12) (b13 : A13) (b14 : A14) (b15 : A15), I b1 b2 b3 b4 b5 b6 b7 b8 b9 b10 b11 b12 b13 b14 b15 → μ b1 b2 b3 b4 b5 b6 b7 b8 b9 b10 b11 b12 b13 b14 b15 < μ a1 a2 a3 a4 a5 a6 a7 a8 a9 a10 a11 a12 a13 a14 a15 → W n b1 b2 b3 b4 b5 b6 b7 b8 b9 b10 b11 b12 b13 b14 b15) → W (n + 1) a1 a2 a3 a4 a5 a6 a7 a8 a9 a10 a11 a12 a13 a14 a15) (a1 : A1) (a2 : A2) (a3 : A3) (a4 : A4) (a5 : A5) (a6 : A6) (a7 : A7) (a8 : A8) (a9 : A9) (a10 : A10) (a11 : A11) (a12 : A12) (a13 : A13) (a14 : A14) (a15 : A15) (h : I a1 a2 a3 a4 a5 a6 a7 a8 a9 a10 a11 a12 a13 a14 a15) : ∃ n, W n a1 a2 a3 a4 a5 a6 a7 a8 a9 a10 a11 a12 a13 a14 a15 :=
  loop_m (σ := A1 × A2 × A3 × A4 × A5 × A6 × A7 × A8 × A9 × A10 × A11 × A12 × A13 × A14 × A15) (fun n s => W n s.1 s.2.1 s.2.2.1 s.2.2.2.1 s.2.2.2.2.1 s.2.2.2.2.2.1 s.2.2.2.2.2.2.1 s.2.2.2.2.2.2.2.1 s.2.2.2.2.2.2.2.2.1 s.2.2.2.2.2.2.2.2.2.1 s.2.2.2.2.2.2.2.2.2.2.1 s.2.2.2.2.2.2.2.2.2.2.2.1 s.2.2.2.2.2.2.2.2.2.2.2.2.1 s.2.2.2.2.2.2.2.2.2.2.2.2.2.1 s.2.2.2.2.2.2.2.2.2.2.2.2.2.2) (fun s => I s.1 s.2.1 s.2.2.1 s.2.2.2.1 s.2.2.2.2.1 s.2.2.2.2.2.1 s.2.2.2.2.2.2.1 s.2.2.2.2.2.2.2.1 s.2.2.2.2.2.2.2.2.1 s.2.2.2.2.2.2.2.2.2.1 s.2.2.2.2.2.2.2.2.2.2.1 s.2.2.2.2.2.2.2.2.2.2.2.1 s.2.2.2.2.2.2.2.2.2.2.2.2.1 s.2.2.2.2.2.2.2.2.2.2.2.2.2.1 s.2.2.2.2.2.2.2.2.2.2.2.2.2.2) (fun s => μ s.1 s.2.1 s.2.2.1 s.2.2.2.1 s.2.2.2.2.1 s.2.2.2.2.2.1 s.2.2.2.2.2.2.1 s.2.2.2.2.2.2.2.1 s.2.2.2.2.2.2.2.2.1 s.2.2.2.2.2.2.2.2.2.1 s.2.2.2.2.2.2.2.2.2.2.1 s.2.2.2.2.2.2.2.2.2.2.2.1 s.2.2.2.2.2.2.2.2.2.2.2.2.1 s.2.2.2.2.2.2.2.2.2.2.2.2.2.1 s.2.2.2.2.2.2.2.2.2.2.2.2.2.2) (fun n s hI hk => hs n s.1 s.2.1 s.2.2.1 s.2.2.2.1 s.2.2.2.2.1 s.2.2.2.2.2.1 s.2.2.2.2.2.2.1 s.2.2.2.2.2.2.2.1 s.2.2.2.2.2.2.2.2.1 s.2.2.2.2.2.2.2.2.2.1 s.2.2.2.2.2.2.2.2.2.2.1 s.2.2.2.2.2.2.2.2.2.2.2.1 s.2.2.2.2.2.2.2.2.2.2.2.2.1 s.2.2.2.2.2.2.2.2.2.2.2.2.2.1 s.2.2.2.2.2.2.2.2.2.2.2.2.2.2 hI (fun b1 b2 b3 b4 b5 b6 b7 b8 b9 b10 b11 b12 b13 b14 b15 h9 hm => hk (b1, b2, b3, b4, b5, b6, b7, b8, b9, b10, b11, b12, b13, b14, b15) h9 hm)) (a1, a2, a3, a4, a5, a6, a7, a8, a9, a10, a11, a12, a13, a14, a15) h
theorem lp16 {A1 A2 A3 A4 A5 A6 A7 A8 A9 A10 A11 A12 A13 A14 A15 A16 : Type} (W : Nat → A1 → A2 → A3 → A4 → A5 → A6 → A7 → A8 → A9 → A10 → A11 → A12 → A13 → A14 → A15 → A16 → Prop) (I : A1 → A2 → A3 → A4 → A5 → A6 → A7 → A8 → A9 → A10 → A11 → A12 → A13 → A14 → A15 → A16 → Prop) (μ : A1 → A2 → A3 → A4 → A5 → A6 → A7 → A8 → A9 → A10 → A11 → A12 → A13 → A14 → A15 → A16 → Nat) (hs : ∀ (n : Nat) (a1 : A1) (a2 : A2) (a3 : A3) (a4 : A4) (a5 : A5) (a6 : A6) (a7 : A7) (a8 : A8) (a9 : A9) (a10 : A10) (a11 : A11) (a12 : A12) (a13 : A13) (a14 : A14) (a15 : A15) (a16 : A16), I a1 a2 a3 a4 a5 a6 a7 a8 a9 a10 a11 a12 a13 a14 a15 a16 → (∀ (b1 : A1) (b2 : A2) (b3 : A3) (b4 : A4) (b5 : A5) (b6 : A6) (b7 : A7) (b8 : A8) (b9 : A9) (b10 : A10) (b11 : A11) (b12 : A12) (b13 : A13) (b14 : A14) (b15 : A15) (b16 : A16), I b1 b2 b3 b4 b5 b6 b7 b8 b9 b10 b11 b12 b13 b14 b15 b16 → μ b1 b2 b3 b4 b5 b6 b7 b8 b9 b10 b11 b12 b13 b14 b15 b16 < μ a1 a2 a3 a4 a5 a6 a7 a8 a9 a10 a11 a12 a13 a14 a15 a16 → W n b1 b2 b3 b4 b5 b6 b7 b8 b9 b10 b11 b12 b13 b14 b15 b16) → W (n + 1) a1 a2 a3 a4 a5 a6 a7 a8 a9 a10 a11 a12 a13 a14 a15 a16) (a1 : A1) (a2 : A2) (a3 : A3) (a4 : A4) (a5 : A5) (a6 : A6) (a7 : A7) (a8 : A8) (a9 : A9) (a10 : A10) (a11 : A11) (a12 : A12) (a13 : A13) (a14 : A14) (a15 : A15) (a16 : A16) (h : I a1 a2 a3 a4 a5 a6 a7 a8 a9 a10 a11 a12 a13 a14 a15 a16) : ∃ n, W n a1 a2 a3 a4 a5 a6 a7 a8 a9 a10 a11 a12 a13 a14 a15 a16 :=
  loop_m (σ := A1 × A2 × A3 × A4 × A5 × A6 × A7 × A8 × A9 × A10 × A11 × A12 × A13 × A14 × A15 × A16) (fun n s => W n s.1 s.2.1 s.2.2.1 s.2.2.2.1 s.2.2.2.2.1 s.2.2.2.2.2.1 s.2.2.2.2.2.2.1 s.2.2.2.2.2.2.2.1 s.2.2.2.2.2.2.2.2.1 s.2.2.2.2.2.2.2.2.2.1 s.2.2.2.2.2.2.2.2.2.2.1 s.2.2.2.2.2.2.2.2.2.2.2.1 s.2.2.2.2.2.2.2.2.2.2.2.2.1 s.2.2.2.2.2.2.2.2.2.2.2.2.2.1 s.2.2.2.2.2.2.2.2.2.2.2.2.2.2.1 s.2.2.2.2.2.2.2.2.2.2.2.2.2.2.2) (fun s => I s.1 s.2.1 s.2.2.1 s.2.2.2.1 s.2.2.2.2.1 s.2.2.2.2.2.1 s.2.2.2.2.2.2.1 s.2.2.2.2.2.2.2.1 s.2.2.2.2.2.2.2.2.1 s.2.2.2.2.2.2.2.2.2.1 s.2.2.2.2.2.2.2.2.2.2.1 s.2.2.2.2.2.2.2.2.2.2.2.1 s.2.2.2.2.2.2.2.2.2.2.2.2.1 s.2.2.2.2.2.2.2.2.2.2.2.2.2.1 s.2.2.2.2.2.2.2.2.2.2.2.2.2.2.1 s.2.2.2.2.2.2.2.2.2.2.2.2.2.2.2) (fun s => μ s.1 s.2.1 s.2.2.1 s.2.2.2.1 s.2.2.2.2.1 s.2.2.2.2.2.1 s.2.2.2.2.2.2.1 s.2.2.2.2.2.2.2.1 s.2.2.2.2.2.2.2.2.1 s.2.2.2.2.2.2.2.2.2.1 s.2.2.2.2.2.2.2.2.2.2.1 s.2.2.2.2.2.2.2.2.2.2.2.1 s.2.2.2.2.2.2.2.2.2.2.2.2.1 s.2.2.2.2.2.2.2.2.2.2.2.2.2.1 s.2.2.2.2.2.2.2.2.2.2.2.2.2.2.1 s.2.2.2.2.2.2.2.2.2.2.2.2.2.2.2) (fun n s hI hk => hs n s.1 s.2.1 s.2.2.1 s.2.2.2.1 s.2.2.2.2.1 s.2.2.2.2.2.1 s.2.2.2.2.2.2.1 s.2.2.2.2.2.2.2.1 s.2.2.2.2.2.2.2.2.1 s.2.2.2.2.2.2.2.2.2.1 s.2.2.2.2.2.2.2.2.2.2.1 s.2.2.2.2.2.2.2.2.2.2.2.1 s.2.2.2.2.2.2.2.2.2.2.2.2.1 s.2.2.2.2.2.2.2.2.2.2.2.2.2.1 s.2.2.2.2.2.2.2.2.2.2.2.2.2.2.1 s.2.2.2.2.2.2.2.2.2.2.2.2.2.2.2 hI (fun b1 b2 b3 b4 b5 b6 b7 b8 b9 b10 b11 b12 b13 b14 b15 b16 h9 hm => hk (b1, b2, b3, b4, b5, b6, b7, b8, b9, b10, b11, b12, b13, b14, b15, b16) h9 hm)) (a1, a2, a3, a4, a5, a6, a7, a8, a9, a10, a11, a12, a13, a14, a15, a16) h
theorem pk_least (P : Nat → Prop) (h : ∃ k, P k) : ∃ k, P k ∧ ∀ j, j < k → ¬ P j := by
  obtain ⟨k, hk⟩ := h
  induction k using Nat.strongRecOn with
  | ind k ih =>
    by_cases e : ∃ j, j < k ∧ P j
    · obtain ⟨j, hj, pj⟩ := e
      exact ih j hj pj
    · exact ⟨k, hk, fun j hj pj => e ⟨j, hj, pj⟩⟩
theorem rp1 {ρ A1 : Type} (W : Nat → (ρ → Prop) → A1 → Prop) (ok : A1 → Prop) (μ : A1 → Nat) (val : A1 → ρ)
    (hs : ∀ (d : Nat) (post : ρ → Prop) (a1 : A1), ok a1 → post (val a1) → (∀ (post' : ρ → Prop) (b1 : A1), ok b1 → μ b1 < μ a1 → post' (val b1) → W d post' b1) → W (d + 1) post a1) :
    ∀ (d : Nat) (post : ρ → Prop) (a1 : A1), ok a1 → μ a1 < d → post (val a1) → W d post a1 := by
  intro d
  induction d with
  | zero => intro post a1 _ h; omega
  | succ d ih =>
    intro post a1 ho hm hp
    exact hs d post a1 ho hp (fun post' b1 ho' hm' hp' => ih post' b1 ho' (by omega) hp')
theorem rp2 {ρ A1 A2 : Type} (W : Nat → (ρ → Prop) → A1 → A2 → Prop) (ok : A1 → A2 → Prop) (μ : A1 → A2 → Nat) (val : A1 → A2 → ρ)
    (hs : ∀ (d : Nat) (post : ρ → Prop) (a1 : A1) (a2 : A2), ok a1 a2 → post (val a1 a2) → (∀ (post' : ρ → Prop) (b1 : A1) (b2 : A2), ok b1 b2 → μ b1 b2 < μ a1 a2 → post' (val b1 b2) → W d post' b1 b2) → W (d + 1) post a1 a2) :
    ∀ (d : Nat) (post : ρ → Prop) (a1 : A1) (a2 : A2), ok a1 a2 → μ a1 a2 < d → post (val a1 a2) → W d post a1 a2 := by
  intro d
  induction d with
  | zero => intro post a1 a2 _ h; omega
  | succ d ih =>
    intro post a1 a2 ho hm hp
    exact hs d post a1 a2 ho hp (fun post' b1 b2 ho' hm' hp' => ih post' b1 b2 ho' (by omega) hp')
theorem rp3 {ρ A1 A2 A3 : Type} (W : Nat → (ρ → Prop) → A1 → A2 → A3 → Prop) (ok : A1 → A2 → A3 → Prop) (μ : A1 → A2 → A3 → Nat) (val : A1 → A2 → A3 → ρ)
    (hs : ∀ (d : Nat) (post : ρ → Prop) (a1 : A1) (a2 : A2) (a3 : A3), ok a1 a2 a3 → post (val a1 a2 a3) → (∀ (post' : ρ → Prop) (b1 : A1) (b2 : A2) (b3 : A3), ok b1 b2 b3 → μ b1 b2 b3 < μ a1 a2 a3 → post' (val b1 b2 b3) → W d post' b1 b2 b3) → W (d + 1) post a1 a2 a3) :
    ∀ (d : Nat) (post : ρ → Prop) (a1 : A1) (a2 : A2) (a3 : A3), ok a1 a2 a3 → μ a1 a2 a3 < d → post (val a1 a2 a3) → W d post a1 a2 a3 := by
  intro d
  induction d with
  | zero => intro post a1 a2 a3 _ h; omega
  | succ d ih =>
    intro post a1 a2 a3 ho hm hp
    exact hs d post a1 a2 a3 ho hp (fun post' b1 b2 b3 ho' hm' hp' => ih post' b1 b2 b3 ho' (by omega) hp')
theorem rp4 {ρ A1 A2 A3 A4 : Type} (W : Nat → (ρ → Prop) → A1 → A2 → A3 → A4 → Prop) (ok : A1 → A2 → A3 → A4 → Prop) (μ : A1 → A2 → A3 → A4 → Nat) (val : A1 → A2 → A3 → A4 → ρ)
    (hs : ∀ (d : Nat) (post : ρ → Prop) (a1 : A1) (a2 : A2) (a3 : A3) (a4 : A4), ok a1 a2 a3 a4 → post (val a1 a2 a3 a4) → (∀ (post' : ρ → Prop) (b1 : A1) (b2 : A2) (b3 : A3) (b4 : A4), ok b1 b2 b3 b4 → μ b1 b2 b3 b4 < μ a1 a2 a3 a4 → post' (val b1 b2 b3 b4) → W d post' b1 b2 b3 b4) → W (d + 1) post a1 a2 a3 a4) :
    ∀ (d : Nat) (post : ρ → Prop) (a1 : A1) (a2 : A2) (a3 : A3) (a4 : A4), ok a1 a2 a3 a4 → μ a1 a2 a3 a4 < d → post (val a1 a2 a3 a4) → W d post a1 a2 a3 a4 := by
  intro d
  induction d with
  | zero => intro post a1 a2 a3 a4 _ h; omega
  | succ d ih =>
    intro post a1 a2 a3 a4 ho hm hp
    exact hs d post a1 a2 a3 a4 ho hp (fun post' b1 b2 b3 b4 ho' hm' hp' => ih post' b1 b2 b3 b4 ho' (by omega) hp')
theorem rp5 {ρ A1 A2 A3 A4 A5 : Type} (W : Nat → (ρ → Prop) → A1 → A2 → A3 → A4 → A5 → Prop) (ok : A1 → A2 → A3 → A4 → A5 → Prop) (μ : A1 → A2 → A3 → A4 → A5 → Nat) (val : A1 → A2 → A3 → A4 → A5 → ρ)
    (hs : ∀ (d : Nat) (post : ρ → Prop) (a1 : A1) (a2 : A2) (a3 : A3) (a4 : A4) (a5 : A5), ok a1 a2 a3 a4 a5 → post (val a1 a2 a3 a4 a5) → (∀ (post' : ρ → Prop) (b1 : A1) (b2 : A2) (b3 : A3) (b4 : A4) (b5 : A5), ok b1 b2 b3 b4 b5 → μ b1 b2 b3 b4 b5 < μ a1 a2 a3 a4 a5 → post' (val b1 b2 b3 b4 b5) → W d post' b1 b2 b3 b4 b5) → W (d + 1) post a1 a2 a3 a4 a5) :
    ∀ (d : Nat) (post : ρ → Prop) (a1 : A1) (a2 : A2) (a3 : A3) (a4 : A4) (a5 : A5), ok a1 a2 a3 a4 a5 → μ a1 a2 a3 a4 a5 < d → post (val a1 a2 a3 a4 a5) → W d post a1 a2 a3 a4 a5 := by
  intro d
  induction d with
  | zero => intro post a1 a2 a3 a4 a5 _ h; omega
  | succ d ih =>
    intro post a1 a2 a3 a4 a5 ho hm hp
    exact hs d post a1 a2 a3 a4 a5 ho hp (fun post' b1 b2 b3 b4 b5 ho' hm' hp' => ih post' b1 b2 b3 b4 b5 ho' (by omega) hp')
theorem rp6 {ρ A1 A2 A3 A4 A5 A6 : Type} (W : Nat → (ρ → Prop) → A1 → A2 → A3 → A4 → A5 → A6 → Prop) (ok : A1 → A2 → A3 → A4 → A5 → A6 → Prop) (μ : A1 → A2 → A3 → A4 → A5 → A6 → Nat) (val : A1 → A2 → A3 → A4 → A5 → A6 → ρ)
    (hs : ∀ (d : Nat) (post : ρ → Prop) (a1 : A1) (a2 : A2) (a3 : A3) (a4 : A4) (a5 : A5) (a6 : A6), ok a1 a2 a3 a4 a5 a6 → post (val a1 a2 a3 a4 a5 a6) → (∀ (post' : ρ → Prop) (b1 : A1) (b2 : A2) (b3 : A3) (b4 : A4) (b5 : A5) (b6 : A6), ok b1 b2 b3 b4 b5 b6 → μ b1 b2 b3 b4 b5 b6 < μ a1 a2 a3 a4 a5 a6 → post' (val b1 b2 b3 b4 b5 b6) → W d post' b1 b2 b3 b4 b5 b6) → W (d + 1) post a1 a2 a3 a4 a5 a6) :
    ∀ (d : Nat) (post : ρ → Prop) (a1 : A1) (a2 : A2) (a3 : A3) (a4 : A4) (a5 : A5) (a6 : A6), ok a1 a2 a3 a4 a5 a6 → μ a1 a2 a3 a4 a5 a6 < d → post (val a1 a2 a3 a4 a5 a6) → W d post a1 a2 a3 a4 a5 a6 := by
  intro d
  induction d with
  | zero => intro post a1 a2 a3 a4 a5 a6 _ h; omega
  | succ d ih =>
    intro post a1 a2 a3 a4 a5 a6 ho hm hp
    exact hs d post a1 a2 a3 a4 a5 a6 ho hp (fun post' b1 b2 b3 b4 b5 b6 ho' hm' hp' => ih post' b1 b2 b3 b4 b5 b6 ho' (by omega) hp')
theorem rec_p {σ ρ : Type} (W : Nat → (ρ → Prop) → σ → Prop) (ok : σ → Prop) (μ : σ → Nat) (val : σ → ρ)
    (hs : ∀ d s post, ok s → post (val s) → (∀ s' post', ok s' → μ s' < μ s → post' (val s') → W d post' s') → W (d + 1) post s) :
    ∀ d s post, ok s → μ s < d → post (val s) → W d post s := by
  intro d
  induction d with
  | zero => intro s post _ h; omega
  | succ d ih =>
    intro s post ho hm hp
    exact hs d s post ho hp (fun s' post' ho' hm' hp' => ih s' post' ho' (by omega) hp')
theorem rec_q {σ ρ : Type} (W : Nat → (ρ → Prop) → σ → Prop) (ok : σ → Prop) (μ : σ → Nat) (Q : σ → ρ → Prop)
    (hs : ∀ d s post, ok s → (∀ r, Q s r → post r) → (∀ s' post', ok s' → μ s' < μ s → (∀ r, Q s' r → post' r) → W d post' s') → W (d + 1) post s) :
    ∀ d s post, ok s → μ s < d → (∀ r, Q s r → post r) → W d post s := by
  intro d
  induction d with
  | zero => intro s post _ h; omega
  | succ d ih =>
    intro s post ho hm hp
    exact hs d s post ho hp (fun s' post' ho' hm' hp' => ih s' post' ho' (by omega) hp')
def bx_sum (f : Nat → Int32) : Nat → Int32
  | 0 => 0
  | n + 1 => bx_sum f n + f n
theorem ek_u {A : Prop} {B : Nat → Prop} {k N : Nat} (hk : k < N) (h : B k) : (some k = none → A) ∧ (∀ y : Nat, some k = some y → (y < N ∧ B y)) :=
  ⟨fun z => absurd z (Option.some_ne_none k), fun _ e => (by cases e; exact ⟨hk, h⟩)⟩
theorem ek_nu {A : Prop} {B : Nat → Prop} (h : A) : ((none : Option Nat) = none → A) ∧ (∀ y : Nat, (none : Option Nat) = some y → B y) :=
  ⟨fun _ => h, fun _ e => (by cases e)⟩
theorem ek_if {c d A B : Prop} (e : c ↔ d) (f : d → A) (g : ¬ d → B) : (c → A) ∧ (¬ c → B) :=
  ⟨fun z => f (e.mp z), fun z => g (fun y => z (e.mpr y))⟩
theorem ek_v {α : Sort _} {P : α → Prop} {a b : α} (e : a = b) (h : P b) : P a := e ▸ h
theorem co_some {x : Option Nat} {A : Prop} {B : Nat → Prop} (i : Nat) (h : B i) (hx : x = some i := by rfl) : (x = none → A) ∧ (∀ y : Nat, x = some y → B y) := by
  subst hx
  exact ⟨fun e => (nomatch e), fun y e => Option.some.inj e ▸ h⟩
theorem co_none {x : Option Nat} {A : Prop} {B : Nat → Prop} (h : A) (hx : x = none := by rfl) : (x = none → A) ∧ (∀ y : Nat, x = some y → B y) := by
  subst hx
  exact ⟨fun _ => h, fun y e => (nomatch e)⟩
theorem co_any {x : Option Nat} {A : Prop} {B : Nat → Prop} (hn : x = none → A) (hs : ∀ i : Nat, x = some i → B i) : (x = none → A) ∧ (∀ y : Nat, x = some y → B y) := ⟨hn, hs⟩
theorem co_2 {P : Nat → Prop} (h0 : P 0) (h1 : P 1) {i : Nat} (hi : i < 2) : P i :=
  match i, hi with
  | 0, _ => h0
  | 1, _ => h1
theorem co_3 {P : Nat → Prop} (h0 : P 0) (h1 : P 1) (h2 : P 2) {i : Nat} (hi : i < 3) : P i :=
  match i, hi with
  | 0, _ => h0
  | 1, _ => h1
  | 2, _ => h2
theorem co_4 {P : Nat → Prop} (h0 : P 0) (h1 : P 1) (h2 : P 2) (h3 : P 3) {i : Nat} (hi : i < 4) : P i :=
  match i, hi with
  | 0, _ => h0
  | 1, _ => h1
  | 2, _ => h2
  | 3, _ => h3
theorem co_dec {N : Nat} {P : Nat → Prop} [DecidablePred P] (h : (List.range N).all (fun i => decide (P i)) = true) {i : Nat} (hi : i < N) : P i := by
  have := List.all_eq_true.mp h i (List.mem_range.mpr hi)
  exact of_decide_eq_true this
theorem co_tab {α : Type} {l : List α} {d : α} {P : α → Prop} (h : ∀ a, a ∈ l → P a) {i : Nat} (hi : i < l.length) : P (l.getD i d) := by
  rw [List.getD_eq_getElem?_getD, List.getElem?_eq_getElem hi]
  exact h _ (List.getElem_mem hi)
theorem pk_mu {x : Int32} {L : Nat} (h0 : ¬ x < 0) (h : ¬ nI L ≤ x) (hL : L < 2 ^ 31) : ∃ j : Nat, j < L ∧ x = nI j ∧ x + 1 = nI (j + 1) ∧ x.toNatClampNeg = j ∧ L - (x + 1).toNatClampNeg < L - x.toNatClampNeg := by
  obtain ⟨j, hj, rfl⟩ := nI_of h0
  have hl : j < L := Nat.not_le.mp fun q => h (nI_le q hj)
  refine ⟨j, hl, rfl, nI_1 j, nI_clamp hj, ?_⟩
  rw [nI_1, nI_clamp (by omega), nI_clamp hj]
  omega
theorem op_s {α : Type} {r : Option α} {A : Prop} {B : α → Prop} {y : α} (h : r = some y) (b : B y) : (r = none → A) ∧ ∀ z, r = some z → B z :=
  ⟨fun e => (by rw [h] at e; cases e), fun z e => (by rw [h] at e; cases e; exact b)⟩
def l_holds {α : Type} (a : Nat → Option Nat) (LP : List Nat) (p : Nat → α) (c : Nat) (b : Nat → α) : Prop :=
  ∀ j, j < c → ∃ y, a j = some y ∧ y ∈ LP ∧ p y = b j
theorem l_holds_0 {α : Type} {a : Nat → Option Nat} {LP : List Nat} {p b : Nat → α} : l_holds a LP p 0 b := fun j h => absurd h (Nat.not_lt_zero j)
theorem l_in_new (LP : List Nat) (q : Nat) : q ∈ LP ++ [q] := List.mem_append.mpr (Or.inr (List.mem_singleton.mpr rfl))
def l_sum (b : Nat → Int32) : Nat → Int32
  | 0 => 0
  | k + 1 => l_sum b k + b k
theorem sb_shr0 (x : Int32) : x >>> ((0 : Int32) &&& 31) = x := by
  rw [show ((0 : Int32) &&& 31) = 0 by decide]
  simp
theorem sb_shl0 (x : Int32) : x <<< ((0 : Int32) &&& 31) = x := by
  rw [show ((0 : Int32) &&& 31) = 0 by decide]
  simp
theorem sb_cl0 : (0 : Int32).toNatClampNeg = 0 := by decide
theorem sb_m1 {p : Nat} (h : 0 < p) : nI p + (-1) = nI (p - 1) := by
  obtain ⟨q, rfl⟩ : ∃ q, p = q + 1 := ⟨p - 1, by omega⟩
  exact pk_m1 q
def sb_b (c : Nat) : Int32 := (nI c).toInt8.toInt32
theorem sb_byte : ∀ c, c < 256 → sb_b c &&& 255 = nI c ∧ ((nI c).toUInt32 % 65536).toInt32 = nI c ∧ nI c ≤ 255 := by decide +kernel
def sb_Fit (a : Nat → Int32) : Prop := ∀ j, fits .byte (.int (a j)) = true
def sb_Lat (t : Nat → Nat) (n : Nat) (a : Nat → Int32) : Prop := ∀ j, j < n → t j < 256 ∧ a j = sb_b (t j)
theorem sb_fitB (c : Nat) : fits .byte (.int (sb_b c)) = true := pk_fb _
theorem sb_fit0 : sb_Fit (fun _ => 0) := fun _ => by
  show fits .byte (.int 0) = true
  decide
theorem sb_fitU {a : Nat → Int32} {k : Nat} {x : Int32} (h : sb_Fit a) (hx : fits .byte (.int x) = true) : sb_Fit (upd a k x) := by
  intro j
  by_cases e : j = k
  · subst e
    rw [pk_us]
    exact hx
  · rw [pk_un e]
    exact h j
def sb_cat (t : Nat → Nat) (n : Nat) (s : Nat → Nat) : Nat → Nat := fun j => if j < n then t j else s (j - n)
theorem sb_cat_lo {t s : Nat → Nat} {n j : Nat} (h : j < n) : sb_cat t n s j = t j := if_pos h
theorem sb_cat_hi {t s : Nat → Nat} {n j : Nat} : sb_cat t n s (n + j) = s j := by
  show (if n + j < n then t (n + j) else s (n + j - n)) = s j
  rw [if_neg (by omega), Nat.add_sub_cancel_left]
theorem sb_latPut {t s : Nat → Nat} {n w : Nat} {a a' : Nat → Int32} (h : sb_Lat t n a) (hk : ∀ j, j < n → a' j = a j) (hs : ∀ i, i < w → s i < 256 ∧ a' (n + i) = sb_b (s i)) : sb_Lat (sb_cat t n s) (n + w) a' := by
  intro j hj
  by_cases e : j < n
  · rw [sb_cat_lo e, hk j e]
    exact h j e
  · obtain ⟨i, rfl⟩ : ∃ i, j = n + i := ⟨j - n, by omega⟩
    rw [sb_cat_hi]
    exact hs i (by omega)
theorem sb_latKeep {t : Nat → Nat} {n : Nat} {a a' : Nat → Int32} (h : sb_Lat t n a) (hk : ∀ j, j < n → a' j = a j) : sb_Lat t n a' := fun j hj => by
  rw [hk j hj]
  exact h j hj
def sb_cap (q m : Nat) : Nat := if q ≤ m then m else if 2 * m + 2 < q then q else 2 * m + 2
def sb_Room (q m mc ms : Nat) : Prop := q ≤ m ∨ (1 ≤ mc ∧ sb_cap q m ≤ ms ∧ sb_cap q m ≤ 65536)
theorem sb_cap_ge (q m : Nat) : q ≤ sb_cap q m := by
  unfold sb_cap
  split
  · omega
  · split <;> omega
theorem sb_cap_gem (q m : Nat) : m ≤ sb_cap q m := by
  unfold sb_cap
  split
  · omega
  · split <;> omega
theorem sb_cap_le {q m mc ms : Nat} (hm : m ≤ 65536) (hr : sb_Room q m mc ms) : sb_cap q m ≤ 65536 := by
  rcases hr with h | h
  · rw [sb_cap, if_pos h]
    exact hm
  · exact h.2.2
theorem sb_at {P : Int32 → Prop} {x y : Int32} (e : x = y) (h : P y) : P x := e ▸ h
def sb_dg (w : Nat) : Nat := if w < 10 then 1 else if w < 100 then 2 else if w < 1000 then 3 else if w < 10000 then 4 else if w < 100000 then 5 else if w < 1000000 then 6 else if w < 10000000 then 7 else if w < 100000000 then 8 else if w < 1000000000 then 9 else 10
def sb_dec (v : Nat) : Nat → Nat := fun i => 48 + v / 10 ^ (sb_dg v - 1 - i) % 10
theorem sb_dg_in (w : Nat) : 1 ≤ sb_dg w ∧ sb_dg w ≤ 10 := by
  unfold sb_dg
  constructor <;> (repeat' split) <;> omega
theorem sb_dg100 {w : Nat} (h : 100 ≤ w) (hw : w < 2 ^ 31) : sb_dg w = sb_dg (w / 100) + 2 := by
  rw [sb_dg, sb_dg, if_neg (show ¬ w < 10 by omega), if_neg (show ¬ w < 100 by omega)]
  by_cases h3 : w < 1000
  · rw [if_pos h3, if_pos (show w / 100 < 10 by omega)]
  rw [if_neg h3, if_neg (show ¬ w / 100 < 10 by omega)]
  by_cases h4 : w < 10000
  · rw [if_pos h4, if_pos (show w / 100 < 100 by omega)]
  rw [if_neg h4, if_neg (show ¬ w / 100 < 100 by omega)]
  by_cases h5 : w < 100000
  · rw [if_pos h5, if_pos (show w / 100 < 1000 by omega)]
  rw [if_neg h5, if_neg (show ¬ w / 100 < 1000 by omega)]
  by_cases h6 : w < 1000000
  · rw [if_pos h6, if_pos (show w / 100 < 10000 by omega)]
  rw [if_neg h6, if_neg (show ¬ w / 100 < 10000 by omega)]
  by_cases h7 : w < 10000000
  · rw [if_pos h7, if_pos (show w / 100 < 100000 by omega)]
  rw [if_neg h7, if_neg (show ¬ w / 100 < 100000 by omega)]
  by_cases h8 : w < 100000000
  · rw [if_pos h8, if_pos (show w / 100 < 1000000 by omega)]
  rw [if_neg h8, if_neg (show ¬ w / 100 < 1000000 by omega)]
  by_cases h9 : w < 1000000000
  · rw [if_pos h9, if_pos (show w / 100 < 10000000 by omega)]
  rw [if_neg h9, if_neg (show ¬ w / 100 < 10000000 by omega)]
  rw [if_pos (show w / 100 < 100000000 by omega)]
theorem sb_negT {w : Nat} (h : w < 2 ^ 31) : (-nI w).toInt = -(w : Int) := by
  rw [Int32.toInt_neg, nI_toInt h]
  exact Int.bmod_eq_of_le (by omega) (by omega)
theorem sb_nle {a b : Nat} (ha : a < 2 ^ 31) (hb : b < 2 ^ 31) : -nI a ≤ -nI b ↔ b ≤ a := by
  rw [Int32.le_iff_toInt_le, sb_negT ha, sb_negT hb]
  omega
theorem sb_nlt {a b : Nat} (ha : a < 2 ^ 31) (hb : b < 2 ^ 31) : -nI a < -nI b ↔ b < a := by
  rw [Int32.lt_iff_toInt_lt, sb_negT ha, sb_negT hb]
  omega
theorem sb_cmp {A B : Prop} {x : Int32} (v c : Nat) (f : c ≤ v → A) (g : v < c → B) (hv : v < 2 ^ 31) (hx : x = -nI c := by rfl) (hc : c < 2 ^ 31 := by omega) : (-nI v ≤ x → A) ∧ (¬ -nI v ≤ x → B) := by
  subst hx
  rw [sb_nle hv hc]
  exact ⟨f, fun z => g (by omega)⟩
theorem sb_ndiv {w : Nat} (hw : w < 2 ^ 31) : (-nI w) / 100 = -nI (w / 100) := by
  apply Int32.toInt_inj.mp
  have h100 : (100 : Int32).toInt = 100 := by decide
  rw [Int32.toInt_div, sb_negT hw, h100, sb_negT (by omega), Int.neg_tdiv, Int.tdiv_eq_ediv_of_nonneg (by omega), Int.bmod_eq_of_le (by omega) (by omega)]
  omega
theorem sb_nrem {w : Nat} (hw : w < 2 ^ 31) : (-nI (w / 100)) * 100 - (-nI w) = nI (w % 100) := by
  have h := pk_rem (a := w) (d := 100) hw (by decide) (by decide)
  rw [pk_div hw (by decide) (by decide)] at h
  rw [← h]
  show (-nI (w / 100)) * nI 100 - (-nI w) = nI w - nI (w / 100) * nI 100
  rw [Int32.neg_mul, Int32.sub_neg, Int32.add_comm, ← Int32.sub_eq_add_neg]
end
section
/-! trees fed node by node: kids, the running level w, parents, trees, ends, scopes -/
def gm_vl (a : Nat → Int32) (i : Nat) : Nat := (a i).toNatClampNeg
def gm_kd (kinds values : Nat → Int32) (i : Nat) : Nat :=
  if kinds i = 3 then 1 else if kinds i = 4 then gm_vl values i + 1 else if kinds i = 5 then 2 else if kinds i = 6 then 3 else 0
def gm_w (k : Nat → Nat) : Nat → Int
  | 0 => 0
  | j + 1 => gm_w k j + (k j : Int) - 1
theorem gm_w_s (k : Nat → Nat) (j : Nat) : gm_w k (j + 1) = gm_w k j + (k j : Int) - 1 := rfl
theorem gm_w_c {k k' : Nat → Nat} : ∀ j : Nat, (∀ t, t < j → k' t = k t) → gm_w k' j = gm_w k j
  | 0, _ => rfl
  | j + 1, h => by
    rw [gm_w_s, gm_w_s, gm_w_c j (fun t ht => h t (by omega)), h j (by omega)]
theorem gm_w_lo {k : Nat → Nat} {i : Nat} : ∀ d : Nat, gm_w k i - (d : Int) ≤ gm_w k (i + d)
  | 0 => by simp
  | d + 1 => by
    have := gm_w_lo (k := k) (i := i) d
    have e := gm_w_s k (i + d)
    rw [show i + (d + 1) = i + d + 1 from rfl]
    omega
theorem gm_w_hi {k : Nat → Nat} {i : Nat} : ∀ d : Nat, (∀ t, i ≤ t → t < i + d → k t ≤ 5) → gm_w k (i + d) ≤ gm_w k i + 4 * (d : Int)
  | 0, _ => by simp
  | d + 1, h => by
    have := gm_w_hi (k := k) (i := i) d (fun t h1 h2 => h t h1 (by omega))
    have e := gm_w_s k (i + d)
    have := h (i + d) (by omega) (by omega)
    rw [show i + (d + 1) = i + d + 1 from rfl]
    omega
def gm_Enc (w : Nat → Int) (j p : Nat) : Prop := ∀ t, j ≤ t → t ≤ p → w j ≤ w t
def gm_Par (w : Nat → Int) (i p : Nat) : Prop := i < p ∧ w i ≤ w p ∧ ∀ j, i < j → j < p → w p < w j
def gm_Tree (w : Nat → Int) (i e : Nat) : Prop := i < e ∧ w e = w i - 1 ∧ ∀ j, i ≤ j → j < e → w i ≤ w j
def gm_Low (w : Nat → Int) (b : Nat) : Prop := ∀ j, j < b → w b < w j
def gm_Chd (w : Nat → Int) (i : Nat) : Nat → Nat → Prop
  | 0 => fun n => n = i + 1
  | c + 1 => fun n => ∃ m, gm_Chd w i c m ∧ gm_Tree w m n
def gm_End (w : Nat → Int) (st j e : Nat) : Prop :=
  (gm_Tree w j e ∧ e ≤ st) ∨ ((∀ t, j ≤ t → t ≤ st → w j ≤ w t) ∧ (e : Int) = st + 1 + w st - w j)
theorem gm_hit {k : Nat → Nat} {a : Nat} {L : Int} : ∀ d : Nat, L ≤ gm_w k a → gm_w k (a + d) ≤ L → ∃ m, a ≤ m ∧ m ≤ a + d ∧ gm_w k m = L ∧ ∀ j, a ≤ j → j < m → L < gm_w k j
  | 0, h1, h2 => ⟨a, Nat.le_refl _, Nat.le_refl _, by simp at h2; omega, fun j h3 h4 => by omega⟩
  | d + 1, h1, h2 => by
    by_cases h : gm_w k (a + d) ≤ L
    · obtain ⟨m, h3, h4, h5, h6⟩ := gm_hit d h1 h
      exact ⟨m, h3, by omega, h5, h6⟩
    · by_cases hh : ∃ q, a ≤ q ∧ q ≤ a + d ∧ gm_w k q ≤ L
      · obtain ⟨q, q1, q2, q3⟩ := hh
        obtain ⟨e, rfl⟩ : ∃ e, q = a + e := ⟨q - a, by omega⟩
        have he : e < d + 1 := by omega
        obtain ⟨m, h3, h4, h5, h6⟩ := gm_hit e h1 q3
        exact ⟨m, h3, by omega, h5, h6⟩
      · have e := gm_w_s k (a + d)
        rw [show a + (d + 1) = a + d + 1 from rfl] at h2
        refine ⟨a + d + 1, by omega, by omega, by omega, fun j h3 h4 => ?_⟩
        have : ¬ gm_w k j ≤ L := fun z => hh ⟨j, h3, by omega, z⟩
        omega
  termination_by d => d
theorem gm_chd {k : Nat → Nat} {i : Nat} : ∀ c p : Nat, gm_Par (gm_w k) i p → gm_w k p + c + 1 = gm_w k i + k i → gm_Chd (gm_w k) i c p
  | 0, p, h, e => by
    have e1 := gm_w_s k i
    rcases Nat.lt_or_ge (i + 1) p with z | z
    · have := h.2.2 (i + 1) (by omega) z
      simp at e
      omega
    · have := h.1
      show p = i + 1
      omega
  | c + 1, p, h, e => by
    have e1 := gm_w_s k i
    have hp := h.1
    have hp2 := h.2.1
    have e' : gm_w k p + (c : Int) + 1 + 1 = gm_w k i + k i := by
      have : ((c + 1 : Nat) : Int) = (c : Int) + 1 := by simp
      omega
    obtain ⟨m, h3, h4, h5, h6⟩ := gm_hit (k := k) (a := i + 1) (L := gm_w k p + 1) (p - (i + 1)) (by omega) (by rw [show i + 1 + (p - (i + 1)) = p by omega]; omega)
    have hm : m < p := by
      rcases Nat.lt_or_ge m p with z | z
      · exact z
      · have : m = p := by omega
        subst this
        omega
    refine ⟨m, gm_chd c m ⟨by omega, by omega, fun j a b => ?_⟩ (by omega), hm, by omega, fun j a b => ?_⟩
    · have := h6 j (by omega) b
      omega
    · have := h.2.2 j (by omega) b
      omega
theorem gm_tree_leaf {k : Nat → Nat} {m n : Nat} (h : gm_Tree (gm_w k) m n) : 0 < n ∧ k (n - 1) = 0 := by
  obtain ⟨h1, h2, h3⟩ := h
  obtain ⟨q, rfl⟩ : ∃ q, n = q + 1 := ⟨n - 1, by omega⟩
  have := h3 q (by omega) (by omega)
  have e := gm_w_s k q
  refine ⟨by omega, ?_⟩
  show k q = 0
  omega
theorem gm_low_leaf {k : Nat → Nat} {b : Nat} (h : gm_Low (gm_w k) b) (hb : 0 < b) : k (b - 1) = 0 := by
  obtain ⟨q, rfl⟩ : ∃ q, b = q + 1 := ⟨b - 1, by omega⟩
  have := h q (by omega)
  have e := gm_w_s k q
  show k q = 0
  omega
theorem gm_chd_leaf {k : Nat → Nat} {i c n : Nat} (h : gm_Chd (gm_w k) i (c + 1) n) : 0 < n ∧ k (n - 1) = 0 := by
  obtain ⟨m, -, h⟩ := h
  exact gm_tree_leaf h
theorem gm_end_tree {w : Nat → Int} {st j e e' : Nat} (h : gm_End w st j e) (t : gm_Tree w j e') (he : e' ≤ st) : e = e' := by
  rcases h with ⟨h, h2⟩ | ⟨h, -⟩
  · obtain ⟨a1, a2, a3⟩ := h
    obtain ⟨b1, b2, b3⟩ := t
    rcases Nat.lt_or_ge e e' with z | z
    · have := b3 e (by omega) z
      omega
    · rcases Nat.lt_or_ge e' e with y | y
      · have := a3 e' (by omega) y
        omega
      · omega
  · have := h e' (by have := t.1; omega) he
    have := t.2.1
    omega
theorem gm_end_enc {w : Nat → Int} {st j e p : Nat} (h : gm_End w st j e) (h1 : j ≤ p) (h2 : p ≤ st) : p < e ↔ gm_Enc w j p := by
  rcases h with ⟨h, h3⟩ | ⟨h, h3⟩
  · obtain ⟨a1, a2, a3⟩ := h
    constructor
    · intro z t b1 b2
      exact a3 t b1 (by omega)
    · intro z
      rcases Nat.lt_or_ge p e with y | y
      · exact y
      · have := z e (by omega) y
        omega
  · constructor
    · intro _ t b1 b2
      exact h t b1 (by omega)
    · intro _
      have := h st (by omega) (Nat.le_refl _)
      omega
noncomputable def gm_b (P : Prop) : Nat := @ite Nat P (Classical.propDecidable P) 1 0
theorem gm_b_t {P : Prop} (h : P) : gm_b P = 1 := by unfold gm_b; rw [if_pos h]
theorem gm_b_f {P : Prop} (h : ¬ P) : gm_b P = 0 := by unfold gm_b; rw [if_neg h]
theorem gm_b_c {P Q : Prop} (h : P ↔ Q) : gm_b P = gm_b Q := by
  rcases Classical.em P with p | p
  · rw [gm_b_t p, gm_b_t (h.mp p)]
  · rw [gm_b_f p, gm_b_f (fun q => p (h.mpr q))]
/-- the values of the FUN nodes below j that enclose p -/
noncomputable def gm_SF (kinds values : Nat → Int32) (w : Nat → Int) (p : Nat) : Nat → Nat
  | 0 => 0
  | j + 1 => gm_SF kinds values w p j + gm_b (kinds j = 3 ∧ gm_Enc w j p) * gm_vl values j
theorem gm_SF_s (kinds values : Nat → Int32) (w : Nat → Int) (p j : Nat) : gm_SF kinds values w p (j + 1) = gm_SF kinds values w p j + gm_b (kinds j = 3 ∧ gm_Enc w j p) * gm_vl values j := rfl
theorem gm_SF_c {kinds values kinds' values' : Nat → Int32} {w w' : Nat → Int} {p p' : Nat} : ∀ n : Nat, (∀ j, j < n → kinds' j = kinds j ∧ values' j = values j ∧ (gm_Enc w' j p' ↔ gm_Enc w j p)) → gm_SF kinds' values' w' p' n = gm_SF kinds values w p n
  | 0, _ => rfl
  | n + 1, h => by
    obtain ⟨h1, h2, h3⟩ := h n (by omega)
    rw [gm_SF_s, gm_SF_s, gm_SF_c n (fun j hj => h j (by omega)), gm_b_c (P := kinds' n = 3 ∧ gm_Enc w' n p') (Q := kinds n = 3 ∧ gm_Enc w n p) (by rw [h1, h3]), gm_vl, gm_vl, h2]
theorem gm_SF_z {kinds values : Nat → Int32} {w : Nat → Int} {p m : Nat} : ∀ d : Nat, (∀ j, m ≤ j → j < m + d → ¬ gm_Enc w j p) → gm_SF kinds values w p (m + d) = gm_SF kinds values w p m
  | 0, _ => rfl
  | d + 1, h => by
    rw [show m + (d + 1) = m + d + 1 from rfl, gm_SF_s, gm_SF_z d (fun j a b => h j a (by omega)), gm_b_f (fun z => h (m + d) (by omega) (by omega) z.2)]
    omega
theorem gm_SF_low {kinds values : Nat → Int32} {w : Nat → Int} {b : Nat} (h : gm_Low w b) : gm_SF kinds values w b b = 0 := by
  have := gm_SF_z (kinds := kinds) (values := values) (w := w) (p := b) (m := 0) b (fun j _ hj z => by
    have := z b (by omega) (Nat.le_refl _)
    have := h j (by omega)
    omega)
  rw [Nat.zero_add] at this
  exact this
theorem gm_SF_lowp {kinds values : Nat → Int32} {w : Nat → Int} {b p : Nat} (h : gm_Low w b) (hp : b ≤ p) : gm_SF kinds values w p b = 0 := by
  have := gm_SF_z (kinds := kinds) (values := values) (w := w) (p := p) (m := 0) b (fun j _ hj z => by
    have := z b (by omega) hp
    have := h j (by omega)
    omega)
  rw [Nat.zero_add] at this
  exact this
theorem gm_SF_par {kinds values : Nat → Int32} {w : Nat → Int} {i p : Nat} (h : gm_Par w i p) : gm_SF kinds values w p p = gm_SF kinds values w i i + (if kinds i = 3 then gm_vl values i else 0) := by
  obtain ⟨h1, h2, h3⟩ := h
  have henc : ∀ t, i ≤ t → t ≤ p → w i ≤ w t := by
    intro t a b
    rcases Nat.lt_or_ge i t with y | y
    · rcases Nat.lt_or_ge t p with z | z
      · have := h3 t y z
        omega
      · have : t = p := by omega
        subst this
        exact h2
    · have : t = i := by omega
      subst this
      exact Int.le_refl _
  have e1 : gm_SF kinds values w p p = gm_SF kinds values w p (i + 1) := by
    have := gm_SF_z (kinds := kinds) (values := values) (w := w) (p := p) (m := i + 1) (p - (i + 1)) (fun j a b z => by
      have := z p (by omega) (Nat.le_refl _)
      have := h3 j (by omega) (by omega)
      omega)
    rw [show i + 1 + (p - (i + 1)) = p by omega] at this
    exact this
  have e2 : gm_SF kinds values w p i = gm_SF kinds values w i i := by
    refine gm_SF_c i (fun j hj => ⟨rfl, rfl, ?_⟩)
    constructor
    · intro z t a b
      exact z t a (by omega)
    · intro z t a b
      rcases Nat.lt_or_ge t i with y | y
      · exact z t a (by omega)
      · have := henc t y b
        have := z i (by omega) (Nat.le_refl _)
        omega
  rw [e1, gm_SF_s, e2]
  by_cases hk : kinds i = 3
  · rw [gm_b_t ⟨hk, henc⟩, if_pos hk, Nat.one_mul]
  · rw [gm_b_f (fun z => hk z.1), if_neg hk, Nat.zero_mul]
end
section
/-! nodes, and the reference's walks over the stored nodes -/
def gm_ok (kinds values scopes : Nat → Int32) (E i : Nat) : Prop :=
  (scopes i = nI (gm_vl scopes i) ∧ gm_vl scopes i ≤ 12) ∧
  (kinds i = 0 ∨ (values i = nI (gm_vl values i) ∧
    ((kinds i = 1 ∧ gm_vl values i < gm_vl scopes i) ∨ (kinds i = 2 ∧ gm_vl values i < E) ∨
     (kinds i = 3 ∧ 1 ≤ gm_vl values i ∧ gm_vl values i ≤ 4 ∧ gm_vl scopes i + gm_vl values i ≤ 12) ∨
     (kinds i = 4 ∧ 1 ≤ gm_vl values i ∧ gm_vl values i ≤ 4) ∨ (kinds i = 5 ∧ gm_vl values i ≤ 2) ∨ (kinds i = 6 ∧ gm_vl values i = 0))))
theorem gm_ok_up {kinds values scopes : Nat → Int32} {E E' i : Nat} (h : gm_ok kinds values scopes E i) (hE : E ≤ E') : gm_ok kinds values scopes E' i := by
  obtain ⟨h1, h2⟩ := h
  refine ⟨h1, ?_⟩
  rcases h2 with z | ⟨ev, z | z | z | z | z | z⟩
  · exact Or.inl z
  · exact Or.inr ⟨ev, Or.inl z⟩
  · exact Or.inr ⟨ev, Or.inr (Or.inl ⟨z.1, by omega⟩)⟩
  · exact Or.inr ⟨ev, Or.inr (Or.inr (Or.inl z))⟩
  · exact Or.inr ⟨ev, Or.inr (Or.inr (Or.inr (Or.inl z)))⟩
  · exact Or.inr ⟨ev, Or.inr (Or.inr (Or.inr (Or.inr (Or.inl z))))⟩
  · exact Or.inr ⟨ev, Or.inr (Or.inr (Or.inr (Or.inr (Or.inr z))))⟩
theorem gm_kd_0 {kinds values : Nat → Int32} {i : Nat} (h : kinds i = 0) : gm_kd kinds values i = 0 := by
  unfold gm_kd; rw [if_neg (by rw [h]; decide), if_neg (by rw [h]; decide), if_neg (by rw [h]; decide), if_neg (by rw [h]; decide)]
theorem gm_kd_1 {kinds values : Nat → Int32} {i : Nat} (h : kinds i = 1) : gm_kd kinds values i = 0 := by
  unfold gm_kd; rw [if_neg (by rw [h]; decide), if_neg (by rw [h]; decide), if_neg (by rw [h]; decide), if_neg (by rw [h]; decide)]
theorem gm_kd_2 {kinds values : Nat → Int32} {i : Nat} (h : kinds i = 2) : gm_kd kinds values i = 0 := by
  unfold gm_kd; rw [if_neg (by rw [h]; decide), if_neg (by rw [h]; decide), if_neg (by rw [h]; decide), if_neg (by rw [h]; decide)]
theorem gm_kd_3 {kinds values : Nat → Int32} {i : Nat} (h : kinds i = 3) : gm_kd kinds values i = 1 := by
  unfold gm_kd; rw [if_pos h]
theorem gm_kd_4 {kinds values : Nat → Int32} {i : Nat} (h : kinds i = 4) : gm_kd kinds values i = gm_vl values i + 1 := by
  unfold gm_kd; rw [if_neg (by rw [h]; decide), if_pos h]
theorem gm_kd_5 {kinds values : Nat → Int32} {i : Nat} (h : kinds i = 5) : gm_kd kinds values i = 2 := by
  unfold gm_kd; rw [if_neg (by rw [h]; decide), if_neg (by rw [h]; decide), if_pos h]
theorem gm_kd_6 {kinds values : Nat → Int32} {i : Nat} (h : kinds i = 6) : gm_kd kinds values i = 3 := by
  unfold gm_kd; rw [if_neg (by rw [h]; decide), if_neg (by rw [h]; decide), if_neg (by rw [h]; decide), if_pos h]
theorem gm_kd_le {kinds values scopes : Nat → Int32} {E i : Nat} (h : gm_ok kinds values scopes E i) : gm_kd kinds values i ≤ 5 := by
  rcases h.2 with z | ⟨ev, z | z | z | z | z | z⟩
  · rw [gm_kd_0 z]; omega
  · rw [gm_kd_1 z.1]; omega
  · rw [gm_kd_2 z.1]; omega
  · rw [gm_kd_3 z.1]; omega
  · rw [gm_kd_4 z.1]; omega
  · rw [gm_kd_5 z.1]; omega
  · rw [gm_kd_6 z.1]; omega
theorem gm_nd (a k : Nat) : nI (a + 1) + (nI k - 1) = nI (a + k) := by
  rw [← nI_1, ← nI_add]
  grind
section
variable {ylim yfuel ystored comp opn heap ycur yfoc ypend left yalloc yout depth res ysty fail fresh ready : Int32} {ykinds yvalues ar beg org num held part yqueue ath got size used yenv args : Nat → Int32}
theorem gm_ykids {post : Int32 → Prop} {scopes : Nat → Int32} {E i : Nat} (hi : i < 64) (ok : gm_ok ykinds yvalues scopes E i) (h : post (nI (gm_kd ykinds yvalues i))) : wpY_kids post (ylim, yfuel, ystored, comp, opn, heap, ycur, yfoc, ypend, left, yalloc, yout, depth, res, ysty, fail, fresh, ready, ykinds, yvalues, ar, beg, org, num, held, part, yqueue, ath, got, size, used, yenv, args) (nI i) := by
  have hc : (nI i).toNatClampNeg = i := nI_clamp (by omega)
  have hv : vp_in (nI i) 64 := vp_in_nI hi (by decide)
  unfold wpY_kids
  dsimp only
  rw [hc]
  refine ⟨hv, ?_⟩
  rcases ok.2 with z | ⟨ev, z | z | z | z | z | z⟩
  · rw [gm_kd_0 z] at h
    rw [z]
    exact br_f (by decide) h
  · rw [gm_kd_1 z.1] at h
    rw [z.1]
    exact br_f (by decide) h
  · rw [gm_kd_2 z.1] at h
    rw [z.1]
    exact br_f (by decide) h
  · rw [gm_kd_3 z.1] at h
    rw [z.1]
    exact br_t (by decide) ⟨hv, br_t rfl h⟩
  · rw [gm_kd_4 z.1, Nat.add_comm, ← nI_add, ← ev] at h
    rw [z.1]
    exact br_t (by decide) ⟨hv, br_f (by decide) ⟨hv, br_t rfl ⟨hv, h⟩⟩⟩
  · rw [gm_kd_5 z.1] at h
    rw [z.1]
    exact br_t (by decide) ⟨hv, br_f (by decide) ⟨hv, br_f (by decide) ⟨hv, br_t rfl h⟩⟩⟩
  · rw [gm_kd_6 z.1] at h
    rw [z.1]
    exact br_t (by decide) ⟨hv, br_f (by decide) ⟨hv, br_f (by decide) ⟨hv, br_f (by decide) h⟩⟩⟩
theorem gm_yend_l {scopes : Nat → Int32} {E st j : Nat} (hst : st ≤ 64) (hok : ∀ i, i < st → gm_ok ykinds yvalues scopes E i) :
    ∀ d t nd : Nat, t + d = st → j ≤ t → (nd : Int) = 1 + gm_w (gm_kd ykinds yvalues) t - gm_w (gm_kd ykinds yvalues) j → (∀ s, j ≤ s → s < t → gm_w (gm_kd ykinds yvalues) j ≤ gm_w (gm_kd ykinds yvalues) s) →
    ∃ e, gm_End (gm_w (gm_kd ykinds yvalues)) st j e ∧ ∀ post : Int32 → Prop, post (nI e) → wY_end_4 post ylim yfuel (nI st) comp opn heap ycur yfoc ypend left yalloc yout depth res ysty fail fresh ready ykinds yvalues ar beg org num held part yqueue ath got size used yenv args (d + 1) (nI nd) (nI t)
  | 0, t, nd, ht, hj, hn, hs => by
    have ht' : t = st := by omega
    subst ht'
    refine ⟨t + nd, ?_, fun post hp => ?_⟩
    · rcases Nat.eq_zero_or_pos nd with z | z
      · subst z
        have : j ≠ t := fun q => by subst q; omega
        exact Or.inl ⟨⟨by omega, by simp at hn ⊢; omega, hs⟩, by omega⟩
      · refine Or.inr ⟨fun s a b => ?_, by rw [Int.natCast_add]; omega⟩
        rcases Nat.lt_or_ge s t with y | y
        · exact hs s a y
        · have : s = t := by omega
          subst this
          omega
    · rw [← nI_add] at hp
      exact br_t (nI_le (Nat.le_refl _) (by omega)) hp
  | d + 1, t, nd, ht, hj, hn, hs => by
    have h1 : ¬ nI st ≤ nI t := nI_ge (by omega) (by omega)
    rcases Nat.eq_zero_or_pos nd with z | z
    · subst z
      have : j ≠ t := fun q => by subst q; omega
      refine ⟨t, Or.inl ⟨⟨by omega, by simp at hn ⊢; omega, hs⟩, by omega⟩, fun post hp => ?_⟩
      refine br_f h1 (br_t (by rw [nI_0]; decide) ?_)
      rw [nI_add]
      exact hp
    · obtain ⟨m, rfl⟩ : ∃ m, nd = m + 1 := ⟨nd - 1, by omega⟩
      have e1 := gm_w_s (gm_kd ykinds yvalues) t
      have c1 : ((m + 1 : Nat) : Int) = (m : Int) + 1 := by simp
      have c2 : ((m + gm_kd ykinds yvalues t : Nat) : Int) = (m : Int) + (gm_kd ykinds yvalues t : Int) := by simp
      obtain ⟨e, he, hw⟩ := gm_yend_l (j := j) hst hok d (t + 1) (m + gm_kd ykinds yvalues t) (by omega) (by omega) (by omega) (fun s a b => by
        rcases Nat.lt_or_ge s t with y | y
        · exact hs s a y
        · have : s = t := by omega
          subst this
          omega)
      refine ⟨e, he, fun post hp => ?_⟩
      refine br_f h1 (br_f (nI_nle (by omega) ?_) ?_)
      · have := gm_w_hi (k := gm_kd ykinds yvalues) (i := j) (t - j) (fun s a b => gm_kd_le (hok s (by omega)))
        rw [show j + (t - j) = t by omega] at this
        omega
      · refine gm_ykids (E := E) (scopes := scopes) (by omega) (hok t (by omega)) ?_
        refine nm_r (gm_nd _ _) (nm_r (nI_1 _) ?_)
        exact hw post hp
theorem gm_End_le {k : Nat → Nat} {st j e : Nat} (hst : st ≤ 64) (hj : j ≤ st) (hk : ∀ i, i < st → k i ≤ 5) (h : gm_End (gm_w k) st j e) : e < 1000 := by
  rcases h with h | ⟨h1, h2⟩
  · omega
  · have := gm_w_hi (k := k) (i := j) (st - j) (fun s a b => hk s (by omega))
    rw [show j + (st - j) = st by omega] at this
    omega
theorem gm_yend {scopes : Nat → Int32} {E st j : Nat} (hst : st ≤ 64) (hok : ∀ i, i < st → gm_ok ykinds yvalues scopes E i) (hj : j ≤ st) :
    ∃ e, gm_End (gm_w (gm_kd ykinds yvalues)) st j e ∧ e < 1000 ∧ ∀ post : Int32 → Prop, post (nI e) → wpY_end post (ylim, yfuel, nI st, comp, opn, heap, ycur, yfoc, ypend, left, yalloc, yout, depth, res, ysty, fail, fresh, ready, ykinds, yvalues, ar, beg, org, num, held, part, yqueue, ath, got, size, used, yenv, args) (nI j) := by
  obtain ⟨e, he, hw⟩ := gm_yend_l (ylim := ylim) (yfuel := yfuel) (comp := comp) (opn := opn) (heap := heap) (ycur := ycur) (yfoc := yfoc) (ypend := ypend) (left := left) (yalloc := yalloc) (yout := yout) (depth := depth) (res := res) (ysty := ysty) (fail := fail) (fresh := fresh) (ready := ready) (ar := ar) (beg := beg) (org := org) (num := num) (held := held) (part := part) (yqueue := yqueue) (ath := ath) (got := got) (size := size) (used := used) (yenv := yenv) (args := args) (j := j) hst hok (st - j) j 1 (by omega) (Nat.le_refl _) (by omega) (fun s a b => by omega)
  exact ⟨e, he, gm_End_le hst hj (fun i hi => gm_kd_le (hok i hi)) he, fun post hp => ⟨_, hw post hp⟩⟩
theorem gm_yend_t {post : Int32 → Prop} {scopes : Nat → Int32} {E st j e : Nat} (hst : st ≤ 64) (hok : ∀ i, i < st → gm_ok ykinds yvalues scopes E i) (ht : gm_Tree (gm_w (gm_kd ykinds yvalues)) j e) (he : e ≤ st) (hp : post (nI e)) : wpY_end post (ylim, yfuel, nI st, comp, opn, heap, ycur, yfoc, ypend, left, yalloc, yout, depth, res, ysty, fail, fresh, ready, ykinds, yvalues, ar, beg, org, num, held, part, yqueue, ath, got, size, used, yenv, args) (nI j) := by
  obtain ⟨e', h1, h2, h3⟩ := gm_yend (ylim := ylim) (yfuel := yfuel) (comp := comp) (opn := opn) (heap := heap) (ycur := ycur) (yfoc := yfoc) (ypend := ypend) (left := left) (yalloc := yalloc) (yout := yout) (depth := depth) (res := res) (ysty := ysty) (fail := fail) (fresh := fresh) (ready := ready) (ar := ar) (beg := beg) (org := org) (num := num) (held := held) (part := part) (yqueue := yqueue) (ath := ath) (got := got) (size := size) (used := used) (yenv := yenv) (args := args) hst hok (show j ≤ st by have := ht.1; omega)
  rw [gm_end_tree h1 ht he] at h3
  exact h3 post hp
/-- the pending count of the unfinished definition -/
theorem gm_ywant_l {post : Int32 → Prop} {scopes : Nat → Int32} {E st b : Nat} (hst : st ≤ 64) (hok : ∀ i, i < st → gm_ok ykinds yvalues scopes E i) (hb : ∀ t, b ≤ t → t < st → gm_w (gm_kd ykinds yvalues) b ≤ gm_w (gm_kd ykinds yvalues) t) {r : Nat} (hr : (r : Int) = 1 + gm_w (gm_kd ykinds yvalues) st - gm_w (gm_kd ykinds yvalues) b) (hp : post (nI r)) :
    ∀ d t nd : Nat, t + d = st → b ≤ t → (nd : Int) = 1 + gm_w (gm_kd ykinds yvalues) t - gm_w (gm_kd ykinds yvalues) b → wY_wanted_12 post ylim yfuel (nI st) comp opn heap ycur yfoc ypend left yalloc yout depth res ysty fail fresh ready ykinds yvalues ar beg org num held part yqueue ath got size used yenv args (d + 1) (nI nd) (nI t)
  | 0, t, nd, ht, h1, hn => by
    have ht' : t = st := by omega
    subst ht'
    have : nd = r := by omega
    subst this
    exact br_t (nI_le (Nat.le_refl _) (by omega)) hp
  | d + 1, t, nd, ht, h1, hn => by
    have h2 := hb t h1 (by omega)
    obtain ⟨m, rfl⟩ : ∃ m, nd = m + 1 := ⟨nd - 1, by omega⟩
    have e1 := gm_w_s (gm_kd ykinds yvalues) t
    have c1 : ((m + 1 : Nat) : Int) = (m : Int) + 1 := by simp
    have c2 : ((m + gm_kd ykinds yvalues t : Nat) : Int) = (m : Int) + (gm_kd ykinds yvalues t : Int) := by simp
    refine br_f (nI_ge (by omega) (by omega)) ?_
    refine gm_ykids (E := E) (scopes := scopes) (by omega) (hok t (by omega)) ?_
    refine nm_r (gm_nd _ _) (nm_r (nI_1 _) ?_)
    exact gm_ywant_l hst hok hb hr hp d (t + 1) _ (by omega) (by omega) (by omega)
theorem gm_ywant {post : Int32 → Prop} {scopes : Nat → Int32} {E D st b r : Nat} (hst : st ≤ 64) (hok : ∀ i, i < st → gm_ok ykinds yvalues scopes E i) (hD : D < 8) (hbeg : beg D = nI b) (hbs : b ≤ st) (hb : ∀ t, b ≤ t → t < st → gm_w (gm_kd ykinds yvalues) b ≤ gm_w (gm_kd ykinds yvalues) t) (hr : (r : Int) = 1 + gm_w (gm_kd ykinds yvalues) st - gm_w (gm_kd ykinds yvalues) b) (hp : post (nI r)) : wpY_wanted post (ylim, yfuel, nI st, nI D, opn, heap, ycur, yfoc, ypend, left, yalloc, yout, depth, res, ysty, fail, fresh, ready, ykinds, yvalues, ar, beg, org, num, held, part, yqueue, ath, got, size, used, yenv, args) := by
  unfold wpY_wanted
  dsimp only
  refine ⟨vp_in_nI hD (by decide), nm_r (e' := nI b) (by rw [nI_clamp (by omega)]; exact hbeg) ⟨st - b + 1, ?_⟩⟩
  exact gm_ywant_l hst hok hb hr hp (st - b) b 1 (by omega) (Nat.le_refl _) (by omega)
/-- the scope's inner sum -/
theorem gm_yscope_60 {post : Int32 → Prop} {scopes : Nat → Int32} {E st p r : Nat} (hst : st ≤ 64) (hok : ∀ i, i < st → gm_ok ykinds yvalues scopes E i) (hp : p ≤ st) (h : post (nI r)) :
    ∀ d t s : Nat, t + d = p → s + gm_SF ykinds yvalues (gm_w (gm_kd ykinds yvalues)) p p = r + gm_SF ykinds yvalues (gm_w (gm_kd ykinds yvalues)) p t → wY_scopeAt_60 post (nI p) ylim yfuel (nI st) comp opn heap ycur yfoc ypend left yalloc yout depth res ysty fail fresh ready ykinds yvalues ar beg org num held part yqueue ath got size used yenv args (d + 1) (nI s) (nI t)
  | 0, t, s, ht, hs => by
    have ht' : t = p := by omega
    subst ht'
    have : s = r := by omega
    subst this
    exact br_t (nI_le (Nat.le_refl _) (by omega)) h
  | d + 1, t, s, ht, hs => by
    refine br_f (nI_ge (by omega) (by omega)) ⟨vp_in_nI (by omega) (by decide), ?_⟩
    rw [nI_clamp (show t < 2 ^ 31 by omega)]
    have e := gm_SF_s ykinds yvalues (gm_w (gm_kd ykinds yvalues)) p t
    by_cases hk : ykinds t = 3
    · refine br_t hk ?_
      obtain ⟨e', h1, h2, h3⟩ := gm_yend (ylim := ylim) (yfuel := yfuel) (comp := comp) (opn := opn) (heap := heap) (ycur := ycur) (yfoc := yfoc) (ypend := ypend) (left := left) (yalloc := yalloc) (yout := yout) (depth := depth) (res := res) (ysty := ysty) (fail := fail) (fresh := fresh) (ready := ready) (ar := ar) (beg := beg) (org := org) (num := num) (held := held) (part := part) (yqueue := yqueue) (ath := ath) (got := got) (size := size) (used := used) (yenv := yenv) (args := args) hst hok (show t ≤ st by omega)
      have h4 := gm_end_enc h1 (show t ≤ p by omega) hp
      refine h3 _ ?_
      rcases Nat.lt_or_ge p e' with z | z
      · refine br_f (nI_ge z (by omega)) ⟨vp_in_nI (by omega) (by decide), ?_⟩
        rw [gm_b_t ⟨hk, h4.mp z⟩] at e
        have ev : yvalues t = nI (gm_vl yvalues t) := by
          rcases (hok t (by omega)).2 with q | ⟨ev, -⟩
          · rw [q] at hk; exact absurd hk (by decide)
          · exact ev
        rw [ev]
        refine nm_r (nI_add _ _) (nm_r (nI_1 _) ?_)
        exact gm_yscope_60 hst hok hp h d (t + 1) _ (by omega) (by omega)
      · refine br_t (nI_le z (by omega)) (nm_r (nI_1 _) ?_)
        rw [gm_b_f (fun y => by have := h4.mpr y.2; omega)] at e
        exact gm_yscope_60 hst hok hp h d (t + 1) _ (by omega) (by omega)
    · refine br_f hk (nm_r (nI_1 _) ?_)
      rw [gm_b_f (fun y => hk y.1)] at e
      exact gm_yscope_60 hst hok hp h d (t + 1) _ (by omega) (by omega)
def gm_gi (g0 i : Nat) : Nat := if i ≤ g0 then i - 1 else g0
theorem gm_yscope_4 {post : Int32 → Prop} {b : Nat → Nat} {T g0 p D : Nat} (hT : T ≤ 8) (hbeg : ∀ i, i < T → beg i = nI (b i) ∧ b i ≤ 64) (hp : p ≤ 64) (h0 : ∀ i, i ≤ g0 → b i ≤ p) (h1 : ∀ i, g0 < i → i < T → p < b i) (hg : g0 < T) (hop : (opn = 0 ∧ T = D) ∨ (opn = 1 ∧ T = D + 1)) (h : wY_scopeAt_45 post (nI p) (nI g0) ylim yfuel ystored (nI D) opn heap ycur yfoc ypend left yalloc yout depth res ysty fail fresh ready ykinds yvalues ar beg org num held part yqueue ath got size used yenv args) :
    ∀ d i : Nat, i + d = T → wY_scopeAt_4 post (nI p) ylim yfuel ystored (nI D) opn heap ycur yfoc ypend left yalloc yout depth res ysty fail fresh ready ykinds yvalues ar beg org num held part yqueue ath got size used yenv args (d + 1) (nI (gm_gi g0 i)) (nI i)
  | 0, i, hi => by
    have e : gm_gi g0 i = g0 := by unfold gm_gi; rw [if_neg (by omega)]
    rw [e]
    rcases hop with ⟨ho, hD⟩ | ⟨ho, hD⟩
    · exact br_f (nI_nlt (by omega) (by omega)) (br_t ho h)
    · exact br_f (nI_nlt (by omega) (by omega)) (br_f (by rw [ho]; decide) (br_f (fun z => by rw [nI_eq (by omega) (by omega)] at z; omega) h))
  | d + 1, i, hi => by
    obtain ⟨hb, hb2⟩ := hbeg i (by omega)
    have ih := gm_yscope_4 hT hbeg hp h0 h1 hg hop h d (i + 1) (by omega)
    have body : wY_scopeAt_27 post (wY_scopeAt_4 post (nI p) ylim yfuel ystored (nI D) opn heap ycur yfoc ypend left yalloc yout depth res ysty fail fresh ready ykinds yvalues ar beg org num held part yqueue ath got size used yenv args (d + 1)) (nI p) (nI (gm_gi g0 i)) (nI i) ylim yfuel ystored (nI D) opn heap ycur yfoc ypend left yalloc yout depth res ysty fail fresh ready ykinds yvalues ar beg org num held part yqueue ath got size used yenv args := by
      refine ⟨vp_in_nI (by omega) (by decide), ?_⟩
      rw [nI_clamp (show i < 2 ^ 31 by omega), hb]
      by_cases z : i ≤ g0
      · have := h0 i z
        refine br_f (nI_nlt this (by omega)) (nm_r (nI_1 _) ?_)
        have e : gm_gi g0 (i + 1) = i := by
          unfold gm_gi
          by_cases y : i + 1 ≤ g0
          · rw [if_pos y]; omega
          · rw [if_neg y]; omega
        rw [e] at ih
        exact ih
      · have := h1 i (by omega) (by omega)
        refine br_t (nI_lt this (by omega)) (nm_r (nI_1 _) ?_)
        have e : gm_gi g0 (i + 1) = gm_gi g0 i := by
          unfold gm_gi
          rw [if_neg (by omega), if_neg (by omega)]
        rw [e] at ih
        exact ih
    rcases hop with ⟨ho, hD⟩ | ⟨ho, hD⟩
    · exact br_t (nI_lt (by omega) (by omega)) body
    · rcases Nat.lt_or_ge i D with y | y
      · exact br_t (nI_lt y (by omega)) body
      · refine br_f (nI_nlt y (by omega)) (br_f (by rw [ho]; decide) (br_t ?_ body))
        rw [nI_eq (by omega) (by omega)]; omega
theorem gm_yscope {post : Int32 → Prop} {scopes : Nat → Int32} {b : Nat → Nat} {E T g0 p D st s : Nat} (hst : st ≤ 64) (hok : ∀ i, i < st → gm_ok ykinds yvalues scopes E i) (hT : T ≤ 8) (hbeg : ∀ i, i < T → beg i = nI (b i) ∧ b i ≤ 64) (hp : p ≤ st) (h0 : ∀ i, i ≤ g0 → b i ≤ p) (h1 : ∀ i, g0 < i → i < T → p < b i) (hg : g0 < T) (hop : (opn = 0 ∧ T = D) ∨ (opn = 1 ∧ T = D + 1)) (har : ar g0 = nI s) (hlow : gm_Low (gm_w (gm_kd ykinds yvalues)) (b g0)) (h : post (nI (s + gm_SF ykinds yvalues (gm_w (gm_kd ykinds yvalues)) p p))) : wpY_scopeAt post (ylim, yfuel, nI st, nI D, opn, heap, ycur, yfoc, ypend, left, yalloc, yout, depth, res, ysty, fail, fresh, ready, ykinds, yvalues, ar, beg, org, num, held, part, yqueue, ath, got, size, used, yenv, args) (nI p) := by
  have hb := (hbeg g0 hg).1
  have hbp := h0 g0 (Nat.le_refl _)
  have h45 : wY_scopeAt_45 post (nI p) (nI g0) ylim yfuel (nI st) (nI D) opn heap ycur yfoc ypend left yalloc yout depth res ysty fail fresh ready ykinds yvalues ar beg org num held part yqueue ath got size used yenv args := by
    refine ⟨vp_in_nI (by omega) (by decide), nm_r (e' := nI s) (by rw [nI_clamp (by omega)]; exact har) ⟨vp_in_nI (by omega) (by decide), nm_r (e' := nI (b g0)) (by rw [nI_clamp (by omega)]; exact hb) ⟨p - b g0 + 1, ?_⟩⟩⟩
    exact gm_yscope_60 hst hok hp h (p - b g0) (b g0) s (by omega) (by rw [gm_SF_lowp hlow hbp]; omega)
  have hz := gm_yscope_4 hT hbeg (by omega) h0 h1 hg hop h45 T 0 (by omega)
  rw [show gm_gi g0 0 = 0 from by unfold gm_gi; rw [if_pos (Nat.zero_le _)], nI_0] at hz
  exact ⟨T + 1, hz⟩
end
end
section
/-! the component's walks over the program: placeScope, legal, childCount, store -/
theorem gm_div5 {i c : Nat} (hi : i < 64) (hc : c < 5) : nI (i * 5 + c) / 5 = nI i := by
  have h := pk_div (a := i * 5 + c) (d := 5) (by omega) (by omega) (by omega)
  rw [show (i * 5 + c) / 5 = i by omega] at h
  exact h
def gm_LG (k v : Int32) (s D : Nat) : Prop :=
  k = 0 ∨ (k = 1 ∧ ¬ v < 0 ∧ v < nI s) ∨ (k = 2 ∧ ¬ v < 0 ∧ v ≤ nI D) ∨ ((k = 3 ∨ k = 4) ∧ ¬ v < 1 ∧ v ≤ 4) ∨ (k = 5 ∧ ¬ v < 0 ∧ v ≤ 2) ∨ (k = 6 ∧ v = 0)
theorem gm_LG_r {k v : Int32} {s D : Nat} (h : gm_LG k v s D) : ¬ k < 0 ∧ ¬ 6 < k := by
  rcases h with h | ⟨h, -⟩ | ⟨h, -⟩ | ⟨h | h, -⟩ | ⟨h, -⟩ | ⟨h, -⟩ <;> rw [h] <;> decide
theorem gm_LG_1 {v : Int32} {s D : Nat} (h : gm_LG 1 v s D) : ¬ v < 0 ∧ v < nI s := by
  rcases h with h | ⟨h, h2⟩ | ⟨h, -⟩ | ⟨h | h, -⟩ | ⟨h, -⟩ | ⟨h, -⟩ <;> first | exact h2 | exact absurd h (by decide)
theorem gm_LG_2 {v : Int32} {s D : Nat} (h : gm_LG 2 v s D) : ¬ v < 0 ∧ v ≤ nI D := by
  rcases h with h | ⟨h, -⟩ | ⟨h, h2⟩ | ⟨h | h, -⟩ | ⟨h, -⟩ | ⟨h, -⟩ <;> first | exact h2 | exact absurd h (by decide)
theorem gm_LG_3 {v : Int32} {s D : Nat} (h : gm_LG 3 v s D) : ¬ v < 1 ∧ v ≤ 4 := by
  rcases h with h | ⟨h, -⟩ | ⟨h, -⟩ | ⟨h | h, h2⟩ | ⟨h, -⟩ | ⟨h, -⟩ <;> first | exact h2 | exact absurd h (by decide)
theorem gm_LG_4 {v : Int32} {s D : Nat} (h : gm_LG 4 v s D) : ¬ v < 1 ∧ v ≤ 4 := by
  rcases h with h | ⟨h, -⟩ | ⟨h, -⟩ | ⟨h | h, h2⟩ | ⟨h, -⟩ | ⟨h, -⟩ <;> first | exact h2 | exact absurd h (by decide)
theorem gm_LG_5 {v : Int32} {s D : Nat} (h : gm_LG 5 v s D) : ¬ v < 0 ∧ v ≤ 2 := by
  rcases h with h | ⟨h, -⟩ | ⟨h, -⟩ | ⟨h | h, -⟩ | ⟨h, h2⟩ | ⟨h, -⟩ <;> first | exact h2 | exact absurd h (by decide)
theorem gm_LG_6 {v : Int32} {s D : Nat} (h : gm_LG 6 v s D) : v = 0 := by
  rcases h with h | ⟨h, -⟩ | ⟨h, -⟩ | ⟨h | h, -⟩ | ⟨h, -⟩ | ⟨h, h2⟩ <;> first | exact h2 | exact absurd h (by decide)
section
variable {t0 t1 t2 t3 t4 : Int32} {fb im : Int64} {lim defs stored wanted blocks sp mark frames style ev pc env : Int32} {acc : Int64} {budget fuel alloc out pres : Int32} {cur foc : Int64} {qd : Int32} {params first kinds values scopes child place : Nat → Int32} {cells : Nat → Int64} {orgs helds : Nat → Int32} {pend : Nat → Int64} {fT fN fE fM fD queue : Nat → Int32}
theorem gm_xplace0 {post : Int32 → Prop} {m D s : Nat} (hm : m < 320) (hD : D < 8) (hpl : place m = -1) (hpa : params D = nI s) (h : post (nI s)) : wpX_placeScope post (t0, t1, t2, t3, t4, fb, im, lim, nI D, stored, nI (m + 1), blocks, sp, mark, frames, style, ev, pc, env, acc, budget, fuel, alloc, out, pres, cur, foc, qd, params, first, kinds, values, scopes, child, place, cells, orgs, helds, pend, fT, fN, fE, fM, fD, queue) := by
  unfold wpX_placeScope
  dsimp only
  refine br_f (nI_ne0 (by omega) (by omega)) ?_
  rw [nI_pred]
  refine ⟨vp_in_nI hm (by decide), nm_r (e' := -1) (by rw [nI_clamp (by omega)]; exact hpl) (br_f (by decide) ⟨vp_in_nI hD (by decide), ?_⟩)⟩
  rw [nI_clamp (by omega), hpa]
  exact h
theorem gm_xplace1 {post : Int32 → Prop} {m i c E : Nat} (hm : m < 320) (hpl : place m = nI (i * 5 + c)) (hi : i < 64) (hc : c < 5) (ok : gm_ok kinds values scopes E i) (h : post (nI (gm_vl scopes i + (if kinds i = 3 then gm_vl values i else 0)))) : wpX_placeScope post (t0, t1, t2, t3, t4, fb, im, lim, defs, stored, nI (m + 1), blocks, sp, mark, frames, style, ev, pc, env, acc, budget, fuel, alloc, out, pres, cur, foc, qd, params, first, kinds, values, scopes, child, place, cells, orgs, helds, pend, fT, fN, fE, fM, fD, queue) := by
  unfold wpX_placeScope
  dsimp only
  refine br_f (nI_ne0 (by omega) (by omega)) ?_
  rw [nI_pred]
  have hv : vp_in (nI i) 64 := vp_in_nI hi (by decide)
  refine ⟨vp_in_nI hm (by decide), nm_r (e' := nI (i * 5 + c)) (by rw [nI_clamp (by omega)]; exact hpl) (br_t (nI_pos' (by omega)) ⟨by decide, nm_r (gm_div5 hi hc) ⟨hv, ?_⟩⟩)⟩
  rw [nI_clamp (show i < 2 ^ 31 by omega)]
  by_cases hk : kinds i = 3
  · rw [if_pos hk] at h
    refine br_t hk ⟨hv, hv, ?_⟩
    have ev : values i = nI (gm_vl values i) := by
      rcases ok.2 with q | ⟨ev, -⟩
      · rw [q] at hk; exact absurd hk (by decide)
      · exact ev
    rw [ok.1.1, ev, nI_add]
    exact h
  · rw [if_neg hk] at h
    refine br_f hk ⟨hv, ?_⟩
    rw [ok.1.1]
    exact h
theorem gm_xlegal {post : Int32 → Prop} {k v : Int32} {s D : Nat} (hy : gm_LG k v s D → post 1) (hn : ¬ gm_LG k v s D → post 0) : wpX_legal post (t0, t1, t2, t3, t4, fb, im, lim, nI D, stored, wanted, blocks, sp, mark, frames, style, ev, pc, env, acc, budget, fuel, alloc, out, pres, cur, foc, qd, params, first, kinds, values, scopes, child, place, cells, orgs, helds, pend, fT, fN, fE, fM, fD, queue) k v (nI s) := by
  unfold wpX_legal
  dsimp only
  refine br_c (fun h => hn fun z => (gm_LG_r z).1 h) fun _ => br_c (fun h => hn fun z => (gm_LG_r z).2 h) fun _ => br_c (fun e => hy (Or.inl e)) fun _ => br_c (fun e => ?_) fun _ => br_c (fun e => ?_) fun _ => br_c (fun e => ?_) fun _ => br_c (fun e => ?_) fun _ => br_c (fun e => ?_) fun _ => br_c (fun e => ?_) fun _ => trivial
  · subst e
    exact br_c (fun h => hn fun z => (gm_LG_1 z).1 h) fun h => br_c (fun h2 => hn fun z => Int32.not_lt.mpr h2 (gm_LG_1 z).2) fun h2 => hy (Or.inr (Or.inl ⟨rfl, h, Int32.not_le.mp h2⟩))
  · subst e
    exact br_c (fun h => hn fun z => (gm_LG_2 z).1 h) fun h => br_c (fun h2 => hn fun z => Int32.not_lt.mpr (gm_LG_2 z).2 h2) fun h2 => hy (Or.inr (Or.inr (Or.inl ⟨rfl, h, Int32.not_lt.mp h2⟩)))
  · subst e
    unfold wX_legal_79
    exact br_c (fun h => hn fun z => (gm_LG_3 z).1 h) fun h => br_c (fun h2 => hn fun z => Int32.not_lt.mpr (gm_LG_3 z).2 h2) fun h2 => hy (Or.inr (Or.inr (Or.inr (Or.inl ⟨Or.inl rfl, h, Int32.not_lt.mp h2⟩))))
  · subst e
    unfold wX_legal_79
    exact br_c (fun h => hn fun z => (gm_LG_4 z).1 h) fun h => br_c (fun h2 => hn fun z => Int32.not_lt.mpr (gm_LG_4 z).2 h2) fun h2 => hy (Or.inr (Or.inr (Or.inr (Or.inl ⟨Or.inr rfl, h, Int32.not_lt.mp h2⟩))))
  · subst e
    exact br_c (fun h => hn fun z => (gm_LG_5 z).1 h) fun h => br_c (fun h2 => hn fun z => Int32.not_lt.mpr (gm_LG_5 z).2 h2) fun h2 => hy (Or.inr (Or.inr (Or.inr (Or.inr (Or.inl ⟨rfl, h, Int32.not_lt.mp h2⟩)))))
  · subst e
    exact br_c (fun h => hy (Or.inr (Or.inr (Or.inr (Or.inr (Or.inr ⟨rfl, h⟩)))))) fun h => hn fun z => h (gm_LG_6 z)
theorem gm_LG_ok {kinds' values' scopes' : Nat → Int32} {k v : Int32} {s D i : Nat} (h : gm_LG k v s D) (hs : s ≤ 12) (hD : D ≤ 8) (hf : k = 3 → nI s + v ≤ 12) (e1 : kinds' i = k) (e2 : values' i = v) (e3 : scopes' i = nI s) : gm_ok kinds' values' scopes' (D + 1) i := by
  have es : gm_vl scopes' i = s := by unfold gm_vl; rw [e3, nI_clamp (by omega)]
  refine ⟨⟨by rw [es]; exact e3, by omega⟩, ?_⟩
  have key : ∀ (lo hi : Nat), lo ≤ hi → hi < 100 → ¬ v < nI lo → v ≤ nI hi → values' i = nI (gm_vl values' i) ∧ lo ≤ gm_vl values' i ∧ gm_vl values' i ≤ hi := by
    intro lo hi h0 h1 h2 h3
    have hv0 : ¬ v < 0 := fun z => h2 (Int32.lt_of_lt_of_le z (nI_pos' (by omega)))
    obtain ⟨j, hj, rfl⟩ := nI_of hv0
    rw [nI_ltI hj (by omega)] at h2
    rw [nI_leI hj (by omega)] at h3
    have : gm_vl values' i = j := by unfold gm_vl; rw [e2, nI_clamp (by omega)]
    rw [this]
    exact ⟨e2, by omega, h3⟩
  rcases h with h | ⟨h, h2, h3⟩ | ⟨h, h2, h3⟩ | ⟨h, h2, h3⟩ | ⟨h, h2, h3⟩ | ⟨h, h2⟩
  · exact Or.inl (e1.trans h)
  · have hs0 : 0 < s := by
      rcases Nat.eq_zero_or_pos s with z | z
      · subst z; exact absurd h3 (by rw [nI_0]; exact h2)
      · exact z
    obtain ⟨a, b, c⟩ := key 0 (s - 1) (by omega) (by omega) h2 (by
      obtain ⟨j, hj, rfl⟩ := nI_of h2
      rw [nI_ltI hj (by omega)] at h3
      exact nI_le (by omega) (by omega))
    exact Or.inr ⟨a, Or.inl ⟨e1.trans h, by omega⟩⟩
  · obtain ⟨a, b, c⟩ := key 0 D (by omega) (by omega) h2 h3
    exact Or.inr ⟨a, Or.inr (Or.inl ⟨e1.trans h, by omega⟩)⟩
  · obtain ⟨a, b, c⟩ := key 1 4 (by omega) (by omega) h2 h3
    rcases h with h | h
    · refine Or.inr ⟨a, Or.inr (Or.inr (Or.inl ⟨e1.trans h, b, c, ?_⟩))⟩
      have hf' := hf h
      rw [← e2, a, nI_add] at hf'
      have := (nI_leI (a := s + gm_vl values' i) (b := 12) (by omega) (by omega)).mp hf'
      omega
    · exact Or.inr ⟨a, Or.inr (Or.inr (Or.inr (Or.inl ⟨e1.trans h, b, c⟩)))⟩
  · obtain ⟨a, b, c⟩ := key 0 2 (by omega) (by omega) h2 h3
    exact Or.inr ⟨a, Or.inr (Or.inr (Or.inr (Or.inr (Or.inl ⟨e1.trans h, c⟩))))⟩
  · obtain ⟨a, b, c⟩ := key 0 0 (by omega) (by omega) (by rw [h2]; decide) (by rw [h2]; decide)
    exact Or.inr ⟨a, Or.inr (Or.inr (Or.inr (Or.inr (Or.inr ⟨e1.trans h, by omega⟩))))⟩
theorem gm_xcc {post : Int32 → Prop} {kinds' values' scopes' : Nat → Int32} {i E : Nat} (ok : gm_ok kinds' values' scopes' E i) (h : post (nI (gm_kd kinds' values' i))) : wpX_childCount post (t0, t1, t2, t3, t4, fb, im, lim, defs, stored, wanted, blocks, sp, mark, frames, style, ev, pc, env, acc, budget, fuel, alloc, out, pres, cur, foc, qd, params, first, kinds, values, scopes, child, place, cells, orgs, helds, pend, fT, fN, fE, fM, fD, queue) (kinds' i) (values' i) := by
  unfold wpX_childCount
  dsimp only
  rcases ok.2 with z | ⟨ev, z | z | z | z | z | z⟩
  · rw [gm_kd_0 z] at h
    rw [z]
    exact br_t (by decide) h
  · rw [gm_kd_1 z.1] at h
    rw [z.1]
    exact br_t (by decide) h
  · rw [gm_kd_2 z.1] at h
    rw [z.1]
    exact br_t (by decide) h
  · rw [gm_kd_3 z.1] at h
    rw [z.1]
    exact br_f (by decide) (br_f (by decide) (br_t rfl h))
  · rw [gm_kd_4 z.1, ← nI_1, ← ev] at h
    rw [z.1]
    exact br_f (by decide) (br_f (by decide) (br_f (by decide) (br_t rfl h)))
  · rw [gm_kd_5 z.1] at h
    rw [z.1]
    exact br_f (by decide) (br_f (by decide) (br_f (by decide) (br_f (by decide) (br_t rfl h))))
  · rw [gm_kd_6 z.1] at h
    rw [z.1]
    exact br_f (by decide) (br_f (by decide) (br_f (by decide) (br_f (by decide) (br_f (by decide) (br_t rfl h)))))
/-- the places pushed by a node st with k kids, from position q -/
def gm_pp (st : Nat) : Nat → Nat → (Nat → Int32) → (Nat → Int32)
  | 0, _, pl => pl
  | k + 1, q, pl => gm_pp st k (q + 1) (upd pl q (nI (st * 5 + k)))
theorem gm_pp_lo {st : Nat} : ∀ (k q : Nat) (pl : Nat → Int32) (j : Nat), j < q → gm_pp st k q pl j = pl j
  | 0, _, _, _, _ => rfl
  | k + 1, q, pl, j, h => by
    show gm_pp st k (q + 1) (upd pl q (nI (st * 5 + k))) j = pl j
    rw [gm_pp_lo k (q + 1) _ j (by omega), pk_un (by omega)]
theorem gm_pp_at {st : Nat} : ∀ (k q : Nat) (pl : Nat → Int32) (c : Nat), c < k → gm_pp st k q pl (q + (k - 1 - c)) = nI (st * 5 + c)
  | 0, _, _, _, h => by omega
  | k + 1, q, pl, c, h => by
    show gm_pp st k (q + 1) (upd pl q (nI (st * 5 + k))) _ = _
    rcases Nat.lt_or_ge c k with z | z
    · have := gm_pp_at (st := st) k (q + 1) (upd pl q (nI (st * 5 + k))) c z
      rw [show q + (k + 1 - 1 - c) = q + 1 + (k - 1 - c) by omega]
      exact this
    · have : c = k := by omega
      subst this
      rw [show q + (c + 1 - 1 - c) = q by omega, gm_pp_lo c (q + 1) _ q (by omega), pk_us]
theorem gm_xst81 {post : SX → Prop} {st : Nat} (hst : st < 64) : ∀ (k q : Nat) (place : Nat → Int32), k ≤ 5 → q + k ≤ 320 → post (t0, t1, t2, t3, t4, fb, im, lim, defs, nI (st + 1), nI (q + k), blocks, sp, mark, frames, style, ev, pc, env, acc, budget, fuel, alloc, out, pres, cur, foc, qd, params, first, kinds, values, scopes, child, gm_pp st k q place, cells, orgs, helds, pend, fT, fN, fE, fM, fD, queue) → wX_store_81 post t0 t1 t2 t3 t4 fb im lim defs (nI st) blocks sp mark frames style ev pc env acc budget fuel alloc out pres cur foc qd (k + 1) (nI k - 1) (nI q) params first kinds values scopes child place cells orgs helds pend fT fN fE fM fD queue
  | 0, q, place, hk, hq, h => by
    refine br_t (by rw [nI_0]; decide) (nm_r (nI_1 _) ?_)
    exact h
  | k + 1, q, place, hk, hq, h => by
    rw [nI_pred]
    refine br_f (nI_pos (by omega)) ⟨vp_in_nI (by omega) (by decide), ?_⟩
    rw [nI_clamp (show q < 2 ^ 31 by omega), show nI st * 5 + nI k = nI (st * 5 + k) from by rw [← nI_add]; exact congrArg (· + nI k) (pk_mul st 5)]
    refine nm_e (nm_r (nI_1 _) (nm_r (e' := nI k - 1) (by rw [Int32.sub_eq_add_neg]) ?_))
    refine gm_xst81 hst k (q + 1) (upd place q (nI (st * 5 + k))) (by omega) (by omega) ?_
    rw [show q + 1 + k = q + (k + 1) by omega]
    exact h
/-- the whole store: pl the slot's value; child' the links behind it -/
theorem gm_xstore {post : SX → Prop} {st m E : Nat} {k v : Int32} {s : Nat} {child' : Nat → Int32} (hst : st < 64) (hm : m + 5 ≤ 320)
    (hsl : (place m = -1 ∧ child' = child) ∨ ∃ q, q < 320 ∧ place m = nI q ∧ child' = upd child q (nI st))
    (ok : gm_ok (upd kinds st k) (upd values st v) (upd scopes st (nI s)) E st)
    (h : post (t0, t1, t2, t3, t4, fb, im, lim, defs, nI (st + 1), nI (m + gm_kd (upd kinds st k) (upd values st v) st), blocks, sp, mark, frames, style, ev, pc, env, acc, budget, fuel, alloc, out, pres, cur, foc, qd, params, first, upd kinds st k, upd values st v, upd scopes st (nI s), child', gm_pp st (gm_kd (upd kinds st k) (upd values st v) st) m place, cells, orgs, helds, pend, fT, fN, fE, fM, fD, queue)) :
    wpX_store post (t0, t1, t2, t3, t4, fb, im, lim, defs, nI st, nI (m + 1), blocks, sp, mark, frames, style, ev, pc, env, acc, budget, fuel, alloc, out, pres, cur, foc, qd, params, first, kinds, values, scopes, child, place, cells, orgs, helds, pend, fT, fN, fE, fM, fD, queue) k v (nI s) := by
  have hc : (nI st).toNatClampNeg = st := nI_clamp (by omega)
  have hv : vp_in (nI st) 64 := vp_in_nI hst (by decide)
  have h37 : wX_store_37 post k v (nI s) t0 t1 t2 t3 t4 fb im lim defs (nI st) (nI m) blocks sp mark frames style ev pc env acc budget fuel alloc out pres cur foc qd params first kinds values scopes child' place cells orgs helds pend fT fN fE fM fD queue := by
    refine ⟨hv, ?_⟩
    rw [hc]
    refine nm_e ⟨hv, nm_e ⟨hv, nm_e ?_⟩⟩
    have kk : k = upd kinds st k st := pk_us.symm
    have vv : v = upd values st v st := pk_us.symm
    have hle := gm_kd_le ok
    have := gm_xcc (t0 := t0) (t1 := t1) (t2 := t2) (t3 := t3) (t4 := t4) (fb := fb) (im := im) (lim := lim) (defs := defs) (stored := nI st) (wanted := nI m) (blocks := blocks) (sp := sp) (mark := mark) (frames := frames) (style := style) (ev := ev) (pc := pc) (env := env) (acc := acc) (budget := budget) (fuel := fuel) (alloc := alloc) (out := out) (pres := pres) (cur := cur) (foc := foc) (qd := qd) (params := params) (first := first) (kinds := upd kinds st k) (values := upd values st v) (scopes := upd scopes st (nI s)) (child := child') (place := place) (cells := cells) (orgs := orgs) (helds := helds) (pend := pend) (fT := fT) (fN := fN) (fE := fE) (fM := fM) (fD := fD) (queue := queue)
      (post := fun r_11 => ∀ x6_57 : Int32, x6_57 = r_11 - 1 → (∃ n81 : Nat, wX_store_81 post t0 t1 t2 t3 t4 fb im lim defs (nI st) blocks sp mark frames style ev pc env acc budget fuel alloc out pres cur foc qd n81 x6_57 (nI m) params first (upd kinds st k) (upd values st v) (upd scopes st (nI s)) child' place cells orgs helds pend fT fN fE fM fD queue)) ok (nm_e ⟨_, gm_xst81 hst _ m place hle (by omega) h⟩)
    rw [← kk, ← vv] at this
    exact this
  unfold wpX_store
  dsimp only
  refine nm_r (nI_pred m) ⟨vp_in_nI (by omega) (by decide), ?_⟩
  rw [nI_clamp (show m < 2 ^ 31 by omega)]
  rcases hsl with ⟨h1, rfl⟩ | ⟨q, hq, h1, rfl⟩
  · exact nm_r h1 (br_t (by decide) h37)
  · refine nm_r h1 (br_f (nI_pos (by omega)) ⟨vp_in_nI hq (by decide), ?_⟩)
    rw [nI_clamp (show q < 2 ^ 31 by omega)]
    exact nm_e h37
end
end
section
/-! the program's invariant and how define, drop and node keep it -/
def gm_Fil (kinds values scopes child : Nat → Int32) (i c m : Nat) : Prop :=
  ∃ p, i < p ∧ p < m ∧ child (i * 5 + c) = nI p ∧ gm_Par (gm_w (gm_kd kinds values)) i p ∧ gm_w (gm_kd kinds values) p + c + 1 = gm_w (gm_kd kinds values) i + gm_kd kinds values i ∧ gm_vl scopes p = gm_vl scopes i + (if kinds i = 3 then gm_vl values i else 0)
def gm_PA (params first : Nat → Int32) (lim D N st wn : Nat) (b : Nat → Nat) : Prop :=
  lim ≤ 64 ∧ st ≤ lim ∧ D ≤ 8 ∧ N ≤ st ∧ (wn = 0 → N = st) ∧ (0 < wn → D < 8) ∧ b 0 = 0 ∧ b D = N ∧ (∀ g, g < D → b g < b (g + 1)) ∧
  (∀ g, g < D ∨ (g = D ∧ 0 < wn) → first g = nI (b g) ∧ params g = nI (gm_vl params g) ∧ 1 ≤ gm_vl params g ∧ gm_vl params g ≤ 4)
def gm_PB (kinds values scopes child : Nat → Int32) (D N st : Nat) : Prop :=
  (∀ i, i < N → gm_ok kinds values scopes D i) ∧ (∀ i, i < st → gm_ok kinds values scopes (D + 1) i) ∧ (∀ i, i < N → ∀ c, c < gm_kd kinds values i → gm_Fil kinds values scopes child i c N)
def gm_PC (params kinds values scopes : Nat → Int32) (D N st : Nat) (b : Nat → Nat) : Prop :=
  (∀ g, g ≤ D → gm_Low (gm_w (gm_kd kinds values)) (b g)) ∧
  (∀ g, g < D → ∀ i, b g ≤ i → i < b (g + 1) → gm_vl scopes i = gm_vl params g + gm_SF kinds values (gm_w (gm_kd kinds values)) i i) ∧
  (∀ i, N ≤ i → i < st → gm_vl scopes i = gm_vl params D + gm_SF kinds values (gm_w (gm_kd kinds values)) i i)
def gm_Slot (kinds values place : Nat → Int32) (N st q : Nat) : Prop :=
  (q = 0 ∧ st = N ∧ place q = -1) ∨
  (∃ i c, place q = nI (i * 5 + c) ∧ N ≤ i ∧ i < st ∧ c < gm_kd kinds values i ∧ gm_w (gm_kd kinds values) N + q + c + 1 = gm_w (gm_kd kinds values) i + gm_kd kinds values i ∧ ∀ j, i < j → j < st → gm_w (gm_kd kinds values) N + q < gm_w (gm_kd kinds values) j)
def gm_PO (kinds values scopes child place : Nat → Int32) (N st wn : Nat) : Prop :=
  0 < wn → (wn : Int) = gm_w (gm_kd kinds values) st - gm_w (gm_kd kinds values) N + 1 ∧ (∀ j, N ≤ j → j ≤ st → gm_w (gm_kd kinds values) N ≤ gm_w (gm_kd kinds values) j) ∧
  (∀ i, N ≤ i → i < st → ∀ c, c < gm_kd kinds values i → gm_Fil kinds values scopes child i c st ∨ ∃ q, q < wn ∧ place q = nI (i * 5 + c)) ∧
  (∀ q, q < wn → gm_Slot kinds values place N st q)
def gm_PI (params first kinds values scopes child place : Nat → Int32) (lim D N st wn : Nat) (b : Nat → Nat) : Prop :=
  gm_PA params first lim D N st wn b ∧ gm_PB kinds values scopes child D N st ∧ gm_PC params kinds values scopes D N st b ∧ gm_PO kinds values scopes child place N st wn
theorem gm_PI_0 {lim : Nat} (h : lim ≤ 64) : gm_PI (fun _ => 0) (fun _ => 0) (fun _ => 0) (fun _ => 0) (fun _ => 0) (fun _ => 0) (fun _ => 0) lim 0 0 0 0 (fun _ => 0) := by
  refine ⟨⟨h, by omega, by omega, by omega, fun _ => rfl, fun z => by omega, rfl, rfl, fun g hg => by omega, fun g hg => by omega⟩, ⟨fun i hi => by omega, fun i hi => by omega, fun i hi => by omega⟩, ⟨fun g _ j hj => absurd hj (Nat.not_lt_zero j), fun g hg => by omega, fun i _ hi => by omega⟩, fun z => by omega⟩
theorem gm_vl_u {a : Nat → Int32} {k : Nat} {x : Int32} {i : Nat} (h : i ≠ k) : gm_vl (upd a k x) i = gm_vl a i := by
  unfold gm_vl; rw [pk_un h]
section
variable {params first kinds values scopes child place : Nat → Int32} {lim D N st wn : Nat} {b : Nat → Nat}
theorem gm_PI_def {a : Nat} (h : gm_PI params first kinds values scopes child place lim D N st 0 b) (hD : D < 8) (h1 : 1 ≤ a) (h4 : a ≤ 4) : gm_PI (upd params D (nI a)) (upd first D (nI st)) kinds values scopes child (upd place 0 (-1)) lim D N st 1 b := by
  obtain ⟨⟨a1, a2, a3, a4, a5, a6, a7, a8, a9, a10⟩, hB, ⟨c1, c2, c3⟩, -⟩ := h
  have hN : N = st := a5 rfl
  subst hN
  refine ⟨⟨a1, a2, a3, a4, fun z => by omega, fun _ => hD, a7, a8, a9, fun g hg => ?_⟩, hB, ⟨c1, fun g hg i e1 e2 => ?_, fun i e1 e2 => by omega⟩, fun _ => ⟨by omega, fun j e1 e2 => ?_, fun i e1 e2 => by omega, fun q hq => ?_⟩⟩
  · rcases hg with hg | ⟨rfl, -⟩
    · have := a10 g (Or.inl hg)
      rw [pk_un (by omega), pk_un (by omega), gm_vl_u (by omega)]
      exact this
    · have e : gm_vl (upd params g (nI a)) g = a := by unfold gm_vl; rw [pk_us, nI_clamp (by omega)]
      rw [pk_us, pk_us, e, a8]
      exact ⟨rfl, rfl, h1, h4⟩
  · rw [gm_vl_u (by omega)]
    exact c2 g hg i e1 e2
  · have : j = N := by omega
    subst this
    exact Int.le_refl _
  · have : q = 0 := by omega
    subst this
    exact Or.inl ⟨rfl, rfl, pk_us⟩
theorem gm_PI_drop (h : gm_PI params first kinds values scopes child place lim D N st wn b) : gm_PI params first kinds values scopes child place lim D N N 0 b := by
  obtain ⟨⟨a1, a2, a3, a4, a5, a6, a7, a8, a9, a10⟩, ⟨b1, b2, b3⟩, ⟨c1, c2, c3⟩, -⟩ := h
  refine ⟨⟨a1, by omega, a3, by omega, fun _ => rfl, fun z => by omega, a7, a8, a9, fun g hg => a10 g ?_⟩, ⟨b1, fun i hi => b2 i (by omega), b3⟩, ⟨c1, c2, fun i e1 e2 => by omega⟩, fun z => by omega⟩
  rcases hg with hg | ⟨-, hg⟩
  · exact Or.inl hg
  · omega
/-- the top place of the unfinished definition -/
theorem gm_top (h : gm_PI params first kinds values scopes child place lim D N st wn b) (hw : 0 < wn) : ∃ s, s ≤ 12 ∧ s = gm_vl params D + gm_SF kinds values (gm_w (gm_kd kinds values)) st st ∧
    ((place (wn - 1) = -1 ∧ st = N ∧ wn = 1 ∧ s = gm_vl params D) ∨
     ∃ i c, place (wn - 1) = nI (i * 5 + c) ∧ N ≤ i ∧ i < st ∧ c < gm_kd kinds values i ∧ gm_Par (gm_w (gm_kd kinds values)) i st ∧ gm_w (gm_kd kinds values) st + c + 1 = gm_w (gm_kd kinds values) i + gm_kd kinds values i ∧ s = gm_vl scopes i + (if kinds i = 3 then gm_vl values i else 0)) := by
  obtain ⟨⟨a1, a2, a3, a4, a5, a6, a7, a8, a9, a10⟩, ⟨b1, b2, b3⟩, ⟨c1, c2, c3⟩, hO⟩ := h
  obtain ⟨o1, o2, o3, o4⟩ := hO hw
  rcases o4 (wn - 1) (by omega) with ⟨e1, e2, e3⟩ | ⟨i, c, e1, e2, e3, e4, e5, e6⟩
  · subst e2
    have hl := c1 D (Nat.le_refl _)
    rw [a8] at hl
    have := (a10 D (Or.inr ⟨rfl, hw⟩)).2.2.2
    refine ⟨gm_vl params D, by omega, by rw [gm_SF_low hl]; rfl, Or.inl ⟨e3, rfl, by omega, rfl⟩⟩
  · have hP : gm_Par (gm_w (gm_kd kinds values)) i st := ⟨e3, by omega, fun j f1 f2 => by have := e6 j f1 f2; omega⟩
    have hs := c3 i e2 e3
    refine ⟨gm_vl scopes i + (if kinds i = 3 then gm_vl values i else 0), ?_, by rw [gm_SF_par hP, hs]; omega, Or.inr ⟨i, c, e1, e2, e3, e4, hP, by omega, rfl⟩⟩
    obtain ⟨⟨-, k1⟩, k2⟩ := b2 i e3
    by_cases hk : kinds i = 3
    · rw [if_pos hk]
      rcases k2 with z | ⟨-, z | z | z | z | z | z⟩
      · rw [z] at hk; exact absurd hk (by decide)
      · rw [z.1] at hk; exact absurd hk (by decide)
      · rw [z.1] at hk; exact absurd hk (by decide)
      · omega
      · rw [z.1] at hk; exact absurd hk (by decide)
      · rw [z.1] at hk; exact absurd hk (by decide)
      · rw [z.1] at hk; exact absurd hk (by decide)
    · rw [if_neg hk]; omega
end
theorem gm_Par_c {w w' : Nat → Int} {st i p : Nat} (hw : ∀ j, j ≤ st → w' j = w j) (hp : p ≤ st) (h : gm_Par w i p) : gm_Par w' i p := by
  obtain ⟨h1, h2, h3⟩ := h
  refine ⟨h1, by rw [hw i (by omega), hw p hp]; exact h2, fun j e1 e2 => ?_⟩
  rw [hw j (by omega), hw p hp]
  exact h3 j e1 e2
theorem gm_Low_c {w w' : Nat → Int} {st b : Nat} (hw : ∀ j, j ≤ st → w' j = w j) (hb : b ≤ st) (h : gm_Low w b) : gm_Low w' b := by
  intro j hj
  rw [hw j (by omega), hw b hb]
  exact h j hj
theorem gm_Enc_c {w w' : Nat → Int} {st j p : Nat} (hw : ∀ j, j ≤ st → w' j = w j) (hp : p ≤ st) (hj : j ≤ p) : gm_Enc w' j p ↔ gm_Enc w j p := by
  constructor
  · intro z t e1 e2
    have := z t e1 e2
    rw [hw j (by omega), hw t (by omega)] at this
    exact this
  · intro z t e1 e2
    rw [hw j (by omega), hw t (by omega)]
    exact z t e1 e2
section
variable {kinds values scopes child kinds' values' scopes' child' : Nat → Int32} {st : Nat}
theorem gm_kd_c {i : Nat} (h1 : kinds' i = kinds i) (h2 : values' i = values i) : gm_kd kinds' values' i = gm_kd kinds values i := by
  unfold gm_kd gm_vl; rw [h1, h2]
theorem gm_W_c (h1 : ∀ i, i < st → kinds' i = kinds i) (h2 : ∀ i, i < st → values' i = values i) : ∀ j, j ≤ st → gm_w (gm_kd kinds' values') j = gm_w (gm_kd kinds values) j :=
  fun j hj => gm_w_c j (fun t ht => gm_kd_c (h1 t (by omega)) (h2 t (by omega)))
theorem gm_SFc (h1 : ∀ i, i < st → kinds' i = kinds i) (h2 : ∀ i, i < st → values' i = values i) {p : Nat} (hp : p ≤ st) : gm_SF kinds' values' (gm_w (gm_kd kinds' values')) p p = gm_SF kinds values (gm_w (gm_kd kinds values)) p p :=
  gm_SF_c p (fun j hj => ⟨h1 j (by omega), h2 j (by omega), gm_Enc_c (gm_W_c h1 h2) hp (by omega)⟩)
theorem gm_ok_c {E i : Nat} (h1 : kinds' i = kinds i) (h2 : values' i = values i) (h3 : scopes' i = scopes i) (h : gm_ok kinds values scopes E i) : gm_ok kinds' values' scopes' E i := by
  unfold gm_ok gm_vl at *
  rw [h1, h2, h3]
  exact h
theorem gm_Fil_c (h1 : ∀ i, i < st → kinds' i = kinds i) (h2 : ∀ i, i < st → values' i = values i) (h3 : ∀ i, i < st → scopes' i = scopes i) {i c m m' : Nat} (h4 : child' (i * 5 + c) = child (i * 5 + c)) (hm : m ≤ st) (hm' : m ≤ m') (h : gm_Fil kinds values scopes child i c m) : gm_Fil kinds' values' scopes' child' i c m' := by
  obtain ⟨p, e1, e2, e3, e4, e5, e6⟩ := h
  have hw := gm_W_c h1 h2
  refine ⟨p, e1, by omega, h4.trans e3, gm_Par_c hw (by omega) e4, ?_, ?_⟩
  · rw [hw p (by omega), hw i (by omega), gm_kd_c (h1 i (by omega)) (h2 i (by omega))]
    exact e5
  · unfold gm_vl at *
    rw [h1 i (by omega), h2 i (by omega), h3 i (by omega), h3 p (by omega)]
    exact e6
end
section
variable {params first kinds values scopes child place : Nat → Int32} {lim D N st m s : Nat} {b : Nat → Nat} {k v : Int32} {child' : Nat → Int32}
theorem gm_b_mono {b : Nat → Nat} {D : Nat} (h : ∀ g, g < D → b g < b (g + 1)) : ∀ d g : Nat, g + d ≤ D → b g ≤ b (g + d)
  | 0, g, _ => Nat.le_refl _
  | d + 1, g, hd => by
    have := gm_b_mono h d g (by omega)
    have := h (g + d) (by omega)
    rw [show g + (d + 1) = g + d + 1 from rfl]
    omega
theorem gm_PI_node (h : gm_PI params first kinds values scopes child place lim D N st (m + 1) b) (hl : st < lim)
    (hs : s = gm_vl params D + gm_SF kinds values (gm_w (gm_kd kinds values)) st st) (hs12 : s ≤ 12)
    (ok : gm_ok (upd kinds st k) (upd values st v) (upd scopes st (nI s)) (D + 1) st)
    (hsl : (place m = -1 ∧ st = N ∧ m = 0 ∧ child' = child) ∨
     ∃ i c, place m = nI (i * 5 + c) ∧ N ≤ i ∧ i < st ∧ c < gm_kd kinds values i ∧ gm_Par (gm_w (gm_kd kinds values)) i st ∧ gm_w (gm_kd kinds values) st + c + 1 = gm_w (gm_kd kinds values) i + gm_kd kinds values i ∧ s = gm_vl scopes i + (if kinds i = 3 then gm_vl values i else 0) ∧ child' = upd child (i * 5 + c) (nI st)) :
    ((m + gm_kd (upd kinds st k) (upd values st v) st : Nat) : Int) = 1 + gm_w (gm_kd (upd kinds st k) (upd values st v)) (st + 1) - gm_w (gm_kd (upd kinds st k) (upd values st v)) N ∧
    (∀ j, N ≤ j → j < st + 1 → gm_w (gm_kd (upd kinds st k) (upd values st v)) N ≤ gm_w (gm_kd (upd kinds st k) (upd values st v)) j) ∧
    (∀ i, i < st + 1 → gm_ok (upd kinds st k) (upd values st v) (upd scopes st (nI s)) (D + 1) i) ∧
    (0 < m + gm_kd (upd kinds st k) (upd values st v) st → gm_PI params first (upd kinds st k) (upd values st v) (upd scopes st (nI s)) child' (gm_pp st (gm_kd (upd kinds st k) (upd values st v) st) m place) lim D N (st + 1) (m + gm_kd (upd kinds st k) (upd values st v) st) b) ∧
    (m + gm_kd (upd kinds st k) (upd values st v) st = 0 → ∃ b', gm_PI params first (upd kinds st k) (upd values st v) (upd scopes st (nI s)) child' (gm_pp st (gm_kd (upd kinds st k) (upd values st v) st) m place) lim (D + 1) (st + 1) (st + 1) 0 b') := by
  obtain ⟨⟨a1, a2, a3, a4, a5, a6, a7, a8, a9, a10⟩, ⟨b1, b2, b3⟩, ⟨c1, c2, c3⟩, hO⟩ := h
  obtain ⟨o1, o2, o3, o4⟩ := hO (by omega)
  have hD := a6 (by omega)
  have k1 : ∀ i, i < st → upd kinds st k i = kinds i := fun i hi => pk_un (by omega)
  have k2 : ∀ i, i < st → upd values st v i = values i := fun i hi => pk_un (by omega)
  have k3 : ∀ i, i < st → upd scopes st (nI s) i = scopes i := fun i hi => pk_un (by omega)
  have k3s : gm_vl (upd scopes st (nI s)) st = s := by unfold gm_vl; rw [pk_us, nI_clamp (by omega)]
  have kv : ∀ i, i < st → gm_vl (upd scopes st (nI s)) i = gm_vl scopes i := fun i hi => gm_vl_u (by omega)
  have hw := gm_W_c k1 k2
  have hkd : ∀ i, i < st → gm_kd (upd kinds st k) (upd values st v) i = gm_kd kinds values i := fun i hi => gm_kd_c (k1 i hi) (k2 i hi)
  have hsf : ∀ p, p ≤ st → gm_SF (upd kinds st k) (upd values st v) (gm_w (gm_kd (upd kinds st k) (upd values st v))) p p = gm_SF kinds values (gm_w (gm_kd kinds values)) p p := fun p hp => gm_SFc k1 k2 hp
  have kle := gm_kd_le ok
  have ws := gm_w_s (gm_kd (upd kinds st k) (upd values st v)) st
  have wN := hw N a4
  have wst := hw st (Nat.le_refl _)
  -- abbreviations
  have r1 : ((m + gm_kd (upd kinds st k) (upd values st v) st : Nat) : Int) = 1 + gm_w (gm_kd (upd kinds st k) (upd values st v)) (st + 1) - gm_w (gm_kd (upd kinds st k) (upd values st v)) N := by
    rw [Int.natCast_add]
    rw [Int.natCast_add] at o1
    simp at o1
    omega
  have r2 : ∀ j, N ≤ j → j < st + 1 → gm_w (gm_kd (upd kinds st k) (upd values st v)) N ≤ gm_w (gm_kd (upd kinds st k) (upd values st v)) j := by
    intro j e1 e2
    rw [wN, hw j (by omega)]
    exact o2 j e1 (by omega)
  have r3 : ∀ i, i < st + 1 → gm_ok (upd kinds st k) (upd values st v) (upd scopes st (nI s)) (D + 1) i := by
    intro i hi
    rcases Nat.lt_or_ge i st with z | z
    · exact gm_ok_c (k1 i z) (k2 i z) (k3 i z) (b2 i z)
    · have : i = st := by omega
      subst this
      exact ok
  have hnf : ∀ i0 c0, place m = nI (i0 * 5 + c0) → N ≤ i0 → i0 < st → c0 < gm_kd kinds values i0 → gm_Fil (upd kinds st k) (upd values st v) (upd scopes st (nI s)) child' i0 c0 (st + 1) := by
    intro i0 c0 e1 e2 e3 e4
    rcases hsl with ⟨f1, f2, -⟩ | ⟨i, c, f1, f2, f3, f4, f5, f6, f7, f8⟩
    · omega
    · have q1 := gm_kd_le (b2 i f3)
      have q2 := gm_kd_le (b2 i0 e3)
      rw [f1, nI_eq (by omega) (by omega)] at e1
      have ei : i = i0 := by omega
      subst ei
      have ec : c = c0 := by omega
      subst ec
      refine ⟨st, f3, by omega, by rw [f8, pk_us], gm_Par_c hw (Nat.le_refl _) f5, ?_, ?_⟩
      · rw [wst, hw i (by omega), hkd i f3]
        exact f6
      · rw [k3s, kv i f3, k1 i f3, gm_vl_u (by omega)]
        exact f7
  have hfk : ∀ i c mm mm', i < st → c < gm_kd kinds values i → mm ≤ st → mm ≤ mm' → gm_Fil kinds values scopes child i c mm → gm_Fil (upd kinds st k) (upd values st v) (upd scopes st (nI s)) child' i c mm' ∨ place m = nI (i * 5 + c) ∧ N ≤ i := by
    intro i0 c0 mm mm' e1 e2 e3 e4 e5
    rcases hsl with ⟨f1, f2, f3, f4⟩ | ⟨i, c, f1, f2, f3, f4, f5, f6, f7, f8⟩
    · exact Or.inl (gm_Fil_c k1 k2 k3 (by rw [f4]) e3 e4 e5)
    · by_cases hh : i0 * 5 + c0 = i * 5 + c
      · have q1 := gm_kd_le (b2 i f3)
        have q2 := gm_kd_le (b2 i0 e1)
        exact Or.inr ⟨by rw [hh]; exact f1, by omega⟩
      · exact Or.inl (gm_Fil_c k1 k2 k3 (by rw [f8, pk_un hh]) e3 e4 e5)
  have r4 : ∀ i, i < N → ∀ c, c < gm_kd (upd kinds st k) (upd values st v) i → gm_Fil (upd kinds st k) (upd values st v) (upd scopes st (nI s)) child' i c N := by
    intro i hi c hc
    rw [hkd i (by omega)] at hc
    rcases hfk i c N N (by omega) hc a4 (Nat.le_refl _) (b3 i hi c hc) with z | z
    · exact z
    · omega
  have r5 : ∀ i, N ≤ i → i < st + 1 → ∀ c, c < gm_kd (upd kinds st k) (upd values st v) i → gm_Fil (upd kinds st k) (upd values st v) (upd scopes st (nI s)) child' i c (st + 1) ∨ ∃ q, q < m + gm_kd (upd kinds st k) (upd values st v) st ∧ gm_pp st (gm_kd (upd kinds st k) (upd values st v) st) m place q = nI (i * 5 + c) := by
    intro i e1 e2 c hc
    rcases Nat.lt_or_ge i st with z | z
    · rw [hkd i z] at hc
      rcases o3 i e1 z c hc with y | ⟨q, q1, q2⟩
      · rcases hfk i c st (st + 1) z hc (Nat.le_refl _) (by omega) y with x | x
        · exact Or.inl x
        · exact Or.inl (hnf i c x.1 e1 z hc)
      · rcases Nat.lt_or_ge q m with x | x
        · exact Or.inr ⟨q, by omega, by rw [gm_pp_lo _ _ _ _ x]; exact q2⟩
        · have : q = m := by omega
          subst this
          exact Or.inl (hnf i c q2 e1 z hc)
    · have : i = st := by omega
      subst this
      exact Or.inr ⟨m + (gm_kd (upd kinds i k) (upd values i v) i - 1 - c), by omega, gm_pp_at _ _ _ c hc⟩
  have r6 : ∀ q, q < m + gm_kd (upd kinds st k) (upd values st v) st → gm_Slot (upd kinds st k) (upd values st v) (gm_pp st (gm_kd (upd kinds st k) (upd values st v) st) m place) N (st + 1) q := by
    intro q hq
    rw [Int.natCast_add] at o1
    simp at o1
    rcases Nat.lt_or_ge q m with x | x
    · rcases o4 q (by omega) with ⟨f1, f2, f3⟩ | ⟨i, c, f1, f2, f3, f4, f5, f6⟩
      · subst f2
        omega
      · refine Or.inr ⟨i, c, by rw [gm_pp_lo _ _ _ _ x]; exact f1, f2, by omega, by rw [hkd i f3]; exact f4, by rw [wN, hw i (by omega), hkd i f3]; exact f5, fun j g1 g2 => ?_⟩
        rw [wN, hw j (by omega)]
        rcases Nat.lt_or_ge j st with y | y
        · exact f6 j g1 y
        · have : j = st := by omega
          subst this
          omega
    · obtain ⟨e, rfl⟩ : ∃ e, q = m + e := ⟨q - m, by omega⟩
      refine Or.inr ⟨st, gm_kd (upd kinds st k) (upd values st v) st - 1 - e, ?_, a4, by omega, by omega, ?_, fun j g1 g2 => by omega⟩
      · have := gm_pp_at (st := st) (gm_kd (upd kinds st k) (upd values st v) st) m place (gm_kd (upd kinds st k) (upd values st v) st - 1 - e) (by omega)
        rw [show gm_kd (upd kinds st k) (upd values st v) st - 1 - (gm_kd (upd kinds st k) (upd values st v) st - 1 - e) = e by omega] at this
        exact this
      · rw [wN, wst]
        generalize gm_kd (upd kinds st k) (upd values st v) st = K at *
        omega
  have rl : ∀ g, g ≤ D → gm_Low (gm_w (gm_kd (upd kinds st k) (upd values st v))) (b g) := by
    intro g hg
    have := gm_b_mono a9 (D - g) g (by omega)
    rw [show g + (D - g) = D by omega, a8] at this
    exact gm_Low_c hw (by omega) (c1 g hg)
  have rs : ∀ g, g < D → ∀ i, b g ≤ i → i < b (g + 1) → gm_vl (upd scopes st (nI s)) i = gm_vl params g + gm_SF (upd kinds st k) (upd values st v) (gm_w (gm_kd (upd kinds st k) (upd values st v))) i i := by
    intro g hg i e1 e2
    have := gm_b_mono a9 (D - (g + 1)) (g + 1) (by omega)
    rw [show g + 1 + (D - (g + 1)) = D by omega, a8] at this
    rw [kv i (by omega), hsf i (by omega)]
    exact c2 g hg i e1 e2
  have rt : ∀ i, N ≤ i → i < st + 1 → gm_vl (upd scopes st (nI s)) i = gm_vl params D + gm_SF (upd kinds st k) (upd values st v) (gm_w (gm_kd (upd kinds st k) (upd values st v))) i i := by
    intro i e1 e2
    rcases Nat.lt_or_ge i st with z | z
    · rw [kv i z, hsf i (by omega)]
      exact c3 i e1 z
    · have : i = st := by omega
      subst this
      rw [k3s, hsf i (Nat.le_refl _)]
      exact hs
  refine ⟨r1, r2, r3, fun hpos => ?_, fun hz => ?_⟩
  · refine ⟨⟨a1, by omega, a3, by omega, fun z => by omega, fun _ => hD, a7, a8, a9, fun g hg => a10 g ?_⟩, ⟨fun i hi => gm_ok_c (k1 i (by omega)) (k2 i (by omega)) (k3 i (by omega)) (b1 i hi), r3, r4⟩, ⟨rl, rs, rt⟩, fun _ => ⟨by omega, fun j e1 e2 => ?_, r5, r6⟩⟩
    · rcases hg with hg | ⟨hg, -⟩
      · exact Or.inl hg
      · exact Or.inr ⟨hg, by omega⟩
    · rcases Nat.lt_or_ge j (st + 1) with z | z
      · exact r2 j e1 z
      · have : j = st + 1 := by omega
        subst this
        omega
  · have nof : ∀ i, i < st + 1 → ∀ c, c < gm_kd (upd kinds st k) (upd values st v) i → gm_Fil (upd kinds st k) (upd values st v) (upd scopes st (nI s)) child' i c (st + 1) := by
      intro i hi c hc
      rcases Nat.lt_or_ge i N with z | z
      · obtain ⟨p, e1, e2, e3⟩ := r4 i z c hc
        exact ⟨p, e1, by omega, e3⟩
      · rcases r5 i z hi c hc with y | ⟨q, y, -⟩
        · exact y
        · omega
    have hwl : gm_w (gm_kd (upd kinds st k) (upd values st v)) (st + 1) = gm_w (gm_kd (upd kinds st k) (upd values st v)) N - 1 := by
      rw [hz] at r1
      simp at r1
      omega
    have hb' : ∀ g, g ≤ D → (if g = D + 1 then st + 1 else b g) = b g := fun g hg => if_neg (by omega)
    refine ⟨fun g => if g = D + 1 then st + 1 else b g, ⟨a1, by omega, by omega, by omega, fun _ => rfl, fun z => by omega, by show (if 0 = D + 1 then st + 1 else b 0) = 0; rw [hb' 0 (by omega)]; exact a7, if_pos rfl, fun g hg => ?_, fun g hg => ?_⟩, ⟨r3, fun i hi => gm_ok_up (r3 i hi) (by omega), nof⟩, ⟨fun g hg => ?_, fun g hg i e1 e2 => ?_, fun i e1 e2 => by omega⟩, fun z => by omega⟩
    · show (if g = D + 1 then st + 1 else b g) < (if g + 1 = D + 1 then st + 1 else b (g + 1))
      rw [hb' g (by omega)]
      rcases Nat.lt_or_ge g D with z | z
      · rw [hb' (g + 1) (by omega)]
        exact a9 g z
      · have : g = D := by omega
        subst this
        rw [if_pos rfl, a8]
        omega
    · show first g = nI (if g = D + 1 then st + 1 else b g) ∧ _
      have hg' : g ≤ D := by omega
      rw [hb' g hg']
      refine a10 g ?_
      rcases Nat.lt_or_ge g D with z | z
      · exact Or.inl z
      · exact Or.inr ⟨by omega, by omega⟩
    · show gm_Low _ (if g = D + 1 then st + 1 else b g)
      rcases Nat.lt_or_ge g (D + 1) with z | z
      · rw [hb' g (by omega)]
        exact rl g (by omega)
      · have : g = D + 1 := by omega
        subst this
        rw [if_pos rfl]
        intro j hj
        rcases Nat.lt_or_ge j N with y | y
        · have := rl D (Nat.le_refl _) j (by omega)
          rw [a8] at this
          omega
        · have := r2 j y hj
          omega
    · have e1' : (if g = D + 1 then st + 1 else b g) ≤ i := e1
      have e2' : i < (if g + 1 = D + 1 then st + 1 else b (g + 1)) := e2
      rw [hb' g (by omega)] at e1'
      rcases Nat.lt_or_ge g D with z | z
      · rw [hb' (g + 1) (by omega)] at e2'
        exact rs g z i e1' e2'
      · have : g = D := by omega
        subst this
        rw [if_pos rfl] at e2'
        rw [a8] at e1'
        exact rt i e1' e2'
end
end
section
/-! values: longs of the component against heap places of the reference -/
def gm_enc (z : Int32) : Int64 := z.toInt64 &&& 4294967295
def gm_fb (b : Nat) : Int64 := 4294967296 + (nI b).toInt64
theorem gm_andw (x : Int64) : ∃ m, m < 2 ^ 32 ∧ x &&& 4294967295 = lN m := ⟨x.toBitVec.toNat % 2 ^ 32, Nat.mod_lt _ (by decide), Int64.toBitVec_inj.mp (BitVec.eq_of_toNat_eq (by
  show (x.toBitVec &&& 4294967295#64).toNat = (BitVec.ofNat 64 (x.toBitVec.toNat % 2 ^ 32)).toNat
  rw [BitVec.toNat_and, show (4294967295#64).toNat = 2 ^ 32 - 1 from by decide, Nat.and_two_pow_sub_one_eq_mod, BitVec.toNat_ofNat]
  omega))⟩
theorem gm_enc_lt (z : Int32) : gm_enc z < 4294967296 := by
  unfold gm_enc
  obtain ⟨m, hm, e⟩ := gm_andw z.toInt64
  rw [e]
  exact (pk_lLT (a := m) (b := 4294967296) (by omega) (by decide)).mpr (by omega)
theorem gm_mask : ∀ j : Fin 32, ((4294967295 : Int64).toBitVec.getLsbD j.val) = true := by decide
theorem gm_enc_i (z : Int32) : (gm_enc z).toInt32 = z := by
  apply Int32.toBitVec_inj.mp
  apply BitVec.eq_of_getLsbD_eq
  intro i hi
  have hm := gm_mask ⟨i, hi⟩
  show ((z.toBitVec.signExtend 64 &&& (4294967295 : Int64).toBitVec).signExtend 32).getLsbD i = _
  rw [BitVec.getLsbD_signExtend, if_pos (by omega), BitVec.getLsbD_and, BitVec.getLsbD_signExtend, if_pos hi, hm, decide_eq_true hi, decide_eq_true (show i < 64 by omega), Bool.true_and, Bool.true_and, Bool.and_true]
theorem gm_enc_inj {a b : Int32} (h : gm_enc a = gm_enc b) : a = b := by
  rw [← gm_enc_i a, h, gm_enc_i]
theorem gm_fb_l {b : Nat} (hb : b < 2 ^ 31) : gm_fb b = lN (4294967296 + b) := by
  unfold gm_fb
  rw [nI_l hb]
  exact lN_add 4294967296 b
theorem gm_fb_ge {b : Nat} (hb : b < 2 ^ 31) : ¬ gm_fb b < 4294967296 := by
  rw [gm_fb_l hb]
  exact fun z => by
    have := (pk_lLT (a := 4294967296 + b) (b := 4294967296) (by omega) (by decide)).mp z
    omega
theorem gm_fb_i {b : Nat} (hb : b < 2 ^ 31) : (gm_fb b).toInt32 = nI b := by
  rw [gm_fb_l hb, lN_i]
  apply Int32.toBitVec_inj.mp
  apply BitVec.eq_of_toNat_eq
  show (BitVec.ofNat 32 (4294967296 + b)).toNat = (BitVec.ofNat 32 b).toNat
  rw [BitVec.toNat_ofNat, BitVec.toNat_ofNat]
  omega
theorem gm_enc_ne {z : Int32} {b : Nat} (hb : b < 2 ^ 31) : gm_enc z ≠ gm_fb b := by
  intro h
  have := gm_enc_lt z
  rw [h] at this
  exact gm_fb_ge hb this
theorem gm_fb_inj {a b : Nat} (ha : a < 2 ^ 31) (hb : b < 2 ^ 31) (h : gm_fb a = gm_fb b) : a = b := by
  have := gm_fb_i ha
  rw [h, gm_fb_i hb, nI_eq hb ha] at this
  exact this.symm
def gm_par (params values : Nat → Int32) (o : Nat) : Nat := if o < 8 then gm_vl params o else gm_vl values (o - 8)
def gm_kp (scopes : Nat → Int32) (o : Nat) : Nat := if o < 8 then 0 else gm_vl scopes (o - 8)
def gm_OK (kinds : Nat → Int32) (D N o : Nat) : Prop := (o < D ∧ o < 8) ∨ (8 ≤ o ∧ o - 8 < N ∧ kinds (o - 8) = 3)
/-- the condition at one place: y is a place of the reference's heap with the value x -/
def gm_VL (D N : Nat) (params kinds values scopes : Nat → Int32) (B : Nat) (orgs helds : Nat → Int32) (cells : Nat → Int64) (H : Nat) (org num held part : Nat → Int32) (K : Int32 → Int64 → Prop) (yi : Int32) (x : Int64) : Prop :=
  ∃ y, y < H ∧ yi = nI y ∧ ((org y = -1 ∧ x = gm_enc (num y)) ∨
    ∃ b o h, b < B ∧ x = gm_fb b ∧ orgs b = nI o ∧ org y = nI o ∧ helds b = nI h ∧ held y = nI h ∧ num y = 0 ∧ gm_OK kinds D N o ∧ h < gm_par params values o ∧ h + gm_kp scopes o ≤ 12 ∧
      ∀ i, i < h + gm_kp scopes o → K (part (y * 16 + i)) (cells (b * 12 + i)))
def gm_V (D N : Nat) (params kinds values scopes : Nat → Int32) (B : Nat) (orgs helds : Nat → Int32) (cells : Nat → Int64) (H : Nat) (org num held part : Nat → Int32) (yi : Int32) (x : Int64) : Prop :=
  ∃ K : Int32 → Int64 → Prop, (∀ y x, K y x → gm_VL D N params kinds values scopes B orgs helds cells H org num held part K y x) ∧ K yi x
section
variable {D N D' N' : Nat} {params kinds values scopes params' kinds' values' scopes' : Nat → Int32} {B B' : Nat} {orgs helds orgs' helds' : Nat → Int32} {cells cells' : Nat → Int64} {H H' : Nat} {org num held part org' num' held' part' : Nat → Int32}
theorem gm_VL_mono {K K' : Int32 → Int64 → Prop} (h : ∀ y x, K y x → K' y x) {yi : Int32} {x : Int64} (hv : (gm_VL D N params kinds values scopes B orgs helds cells H org num held part) K yi x) : (gm_VL D N params kinds values scopes B orgs helds cells H org num held part) K' yi x := by
  obtain ⟨y, h1, h2, h3⟩ := hv
  refine ⟨y, h1, h2, ?_⟩
  rcases h3 with h3 | ⟨b, o, hh, e1, e2, e3, e4, e5, e6, e7, e8, e9, e10, e11⟩
  · exact Or.inl h3
  · exact Or.inr ⟨b, o, hh, e1, e2, e3, e4, e5, e6, e7, e8, e9, e10, fun i hi => h _ _ (e11 i hi)⟩
theorem gm_V_out {yi : Int32} {x : Int64} (h : (gm_V D N params kinds values scopes B orgs helds cells H org num held part) yi x) : (gm_VL D N params kinds values scopes B orgs helds cells H org num held part) (gm_V D N params kinds values scopes B orgs helds cells H org num held part) yi x := by
  obtain ⟨K, h1, h2⟩ := h
  exact gm_VL_mono (fun y x hk => ⟨K, h1, hk⟩) (h1 _ _ h2)
theorem gm_V_in {yi : Int32} {x : Int64} (h : (gm_VL D N params kinds values scopes B orgs helds cells H org num held part) (gm_V D N params kinds values scopes B orgs helds cells H org num held part) yi x) : (gm_V D N params kinds values scopes B orgs helds cells H org num held part) yi x := by
  refine ⟨fun a b => (gm_V D N params kinds values scopes B orgs helds cells H org num held part) a b ∨ (a = yi ∧ b = x), fun a b hab => ?_, Or.inr ⟨rfl, rfl⟩⟩
  rcases hab with hab | ⟨rfl, rfl⟩
  · exact gm_VL_mono (fun _ _ z => Or.inl z) (gm_V_out hab)
  · exact gm_VL_mono (fun _ _ z => Or.inl z) h
theorem gm_V_mono (hH : H ≤ H') (ho : ∀ y, y < H → org' y = org y ∧ num' y = num y ∧ held' y = held y) (hp : ∀ j, j < H * 16 → part' j = part j) (hB : B ≤ B') (hob : ∀ b, b < B → orgs' b = orgs b ∧ helds' b = helds b) (hc : ∀ j, j < B * 12 → cells' j = cells j)
    (hP : ∀ o, gm_OK kinds D N o → gm_OK kinds' D' N' o ∧ gm_par params' values' o = gm_par params values o ∧ gm_kp scopes' o = gm_kp scopes o) {yi : Int32} {x : Int64} (h : (gm_V D N params kinds values scopes B orgs helds cells H org num held part) yi x) : (gm_V D' N' params' kinds' values' scopes' B' orgs' helds' cells' H' org' num' held' part') yi x := by
  obtain ⟨K, h1, h2⟩ := h
  refine ⟨K, fun a b hab => ?_, h2⟩
  obtain ⟨y, f1, f2, f3⟩ := h1 a b hab
  obtain ⟨o1, o2, o3⟩ := ho y f1
  refine ⟨y, by omega, f2, ?_⟩
  rcases f3 with ⟨f3, f4⟩ | ⟨c, o, hh, e1, e2, e3, e4, e5, e6, e7, e8, e9, e10, e11⟩
  · exact Or.inl ⟨o1.trans f3, by rw [o2]; exact f4⟩
  · obtain ⟨p1, p2, p3⟩ := hP o e8
    obtain ⟨q1, q2⟩ := hob c e1
    refine Or.inr ⟨c, o, hh, by omega, e2, q1.trans e3, o1.trans e4, q2.trans e5, o3.trans e6, o2.trans e7, p1, by rw [p2]; exact e9, by rw [p3]; exact e10, fun i hi => ?_⟩
    rw [p3] at hi
    rw [hp _ (by omega), hc _ (by omega)]
    exact e11 i hi
/-- the same program -/
theorem gm_V_ext (hH : H ≤ H') (ho : ∀ y, y < H → org' y = org y ∧ num' y = num y ∧ held' y = held y) (hp : ∀ j, j < H * 16 → part' j = part j) (hB : B ≤ B') (hob : ∀ b, b < B → orgs' b = orgs b ∧ helds' b = helds b) (hc : ∀ j, j < B * 12 → cells' j = cells j)
    {yi : Int32} {x : Int64} (h : (gm_V D N params kinds values scopes B orgs helds cells H org num held part) yi x) : (gm_V D N params kinds values scopes B' orgs' helds' cells' H' org' num' held' part') yi x :=
  gm_V_mono hH ho hp hB hob hc (fun o z => ⟨z, rfl, rfl⟩) h
theorem gm_V_enc {yi z : Int32} (hB : B < 2 ^ 31) (h : (gm_V D N params kinds values scopes B orgs helds cells H org num held part) yi (gm_enc z)) : ∃ y, y < H ∧ yi = nI y ∧ org y = -1 ∧ num y = z := by
  obtain ⟨y, f1, f2, f3⟩ := gm_V_out h
  rcases f3 with ⟨f3, f4⟩ | ⟨c, o, hh, e1, e2, -⟩
  · exact ⟨y, f1, f2, f3, (gm_enc_inj f4).symm⟩
  · exact absurd e2 (gm_enc_ne (by omega))
end
end
section
/-! the frames of the two machines -/
def gm_Fr (K : Int32 → Int64 → Prop) (sty N : Nat) (kinds values scopes : Nat → Int32) (B : Nat) (cells pend : Nat → Int64) (fT fN fE fM fD ath got size used yenv args : Nat → Int32) (d F' S' M' F S M : Nat) : Prop :=
  (sty = 1 → S' = M') ∧
  ((∃ p e, p < N ∧ ath d = nI p ∧ e < B ∧ F = F' + 1 ∧ fN F' = nI p ∧ fE F' = nI e ∧ fM F' = nI M' ∧ M = S ∧ (∀ i, i < gm_vl scopes p → K (yenv (d * 12 + i)) (cells (e * 12 + i))) ∧
      ((kinds p = 4 ∧ ∃ g, g < gm_vl values p ∧ got d = nI g ∧ size d = nI (gm_vl values p) ∧ used d = nI 0 ∧ S = S' + g ∧ fT F' = 0 ∧ fD F' = nI (gm_vl values p - g) ∧ ∀ j, j < g → K (args (d * 8 + (gm_vl values p - 1 - j))) (pend (S' + j)))
      ∨ (kinds p = 5 ∧ got d = nI 0 ∧ S = S' ∧ fT F' = 1)
      ∨ (kinds p = 5 ∧ got d = nI 1 ∧ S = S' ∧ fT F' = 2 ∧ K (args (d * 8)) (gm_enc (fD F')))
      ∨ (kinds p = 6 ∧ got d = nI 0 ∧ S = S' ∧ fT F' = 3)))
   ∨ (∃ p, p < N ∧ ath d = nI p ∧ kinds p = 6 ∧ got d = nI 1 ∧ F = F' ∧ S = S' ∧ M = M')
   ∨ (∃ sz us, sz ≤ 8 ∧ us ≤ sz ∧ (ath d = -1 ∨ ∃ p, p < N ∧ ath d = nI p ∧ kinds p = 4) ∧ got d = nI sz ∧ size d = nI sz ∧ used d = nI us ∧ S = S' + (sz - us) ∧ (∀ j, j < sz - us → K (args (d * 8 + (sz - 1 - j))) (pend (S' + j))) ∧
      ((F = F' ∧ M = M') ∨ (sty = 1 ∧ us < sz ∧ F = F' + 1 ∧ fT F' = 4 ∧ fM F' = nI M' ∧ M = S))))
def gm_Stk (K : Int32 → Int64 → Prop) (sty N : Nat) (kinds values scopes : Nat → Int32) (B : Nat) (cells pend : Nat → Int64) (fT fN fE fM fD ath got size used yenv args : Nat → Int32) : Nat → Nat → Nat → Nat → Prop
  | 0 => fun F S M => F = 0 ∧ S = 0 ∧ M = 0
  | d + 1 => fun F S M => ∃ F' S' M', gm_Stk K sty N kinds values scopes B cells pend fT fN fE fM fD ath got size used yenv args d F' S' M' ∧ gm_Fr K sty N kinds values scopes B cells pend fT fN fE fM fD ath got size used yenv args d F' S' M' F S M
section
variable {K K' : Int32 → Int64 → Prop} {sty N : Nat} {kinds values scopes : Nat → Int32} {B B' : Nat} {cells pend cells' pend' : Nat → Int64} {fT fN fE fM fD ath got size used yenv args fT' fN' fE' fM' fD' ath' got' size' used' yenv' args' : Nat → Int32}
theorem gm_Fr_le {d F' S' M' F S M : Nat} (hm : M' ≤ S') (h : (gm_Fr K sty N kinds values scopes B cells pend fT fN fE fM fD ath got size used yenv args) d F' S' M' F S M) : F' ≤ F ∧ S' ≤ S ∧ M ≤ S := by
  obtain ⟨-, ⟨p, e, -, -, -, h1, -, -, -, h2, -, h3⟩ | ⟨p, -, -, -, -, h1, h2, h3⟩ | ⟨sz, us, -, -, -, -, -, -, h1, -, h2⟩⟩ := h
  · rcases h3 with ⟨-, g, -, -, -, -, h3, -⟩ | ⟨-, -, h3, -⟩ | ⟨-, -, h3, -⟩ | ⟨-, -, h3, -⟩ <;> omega
  · omega
  · rcases h2 with h2 | ⟨-, -, h2, -, -, h3⟩ <;> omega
theorem gm_Stk_le : ∀ {d F S M : Nat}, (gm_Stk K sty N kinds values scopes B cells pend fT fN fE fM fD ath got size used yenv args) d F S M → M ≤ S
  | 0, F, S, M, h => by obtain ⟨-, h2, h3⟩ := h; omega
  | d + 1, F, S, M, h => by
    obtain ⟨F', S', M', h1, h2⟩ := h
    exact (gm_Fr_le (gm_Stk_le h1) h2).2.2
theorem gm_Stk_c (hK : ∀ y x, K y x → K' y x) (hB : B ≤ B') (hc : ∀ j, j < B * 12 → cells' j = cells j) (hsc : ∀ p, p < N → gm_vl scopes p ≤ 12) (hva : ∀ p, p < N → kinds p = 4 → gm_vl values p ≤ 8) :
    ∀ {d F S M : Nat}, (∀ j, j < S → pend' j = pend j) → (∀ j, j < F → fT' j = fT j ∧ fN' j = fN j ∧ fE' j = fE j ∧ fM' j = fM j ∧ fD' j = fD j) → (∀ f, f < d → ath' f = ath f ∧ got' f = got f ∧ size' f = size f ∧ used' f = used f) → (∀ j, j < d * 12 → yenv' j = yenv j) → (∀ j, j < d * 8 → args' j = args j) →
    (gm_Stk K sty N kinds values scopes B cells pend fT fN fE fM fD ath got size used yenv args) d F S M → (gm_Stk K' sty N kinds values scopes B' cells' pend' fT' fN' fE' fM' fD' ath' got' size' used' yenv' args') d F S M
  | 0, F, S, M, hp, hf, hy, he, ha, h => h
  | d + 1, F, S, M, hp, hf, hy, he, ha, h => by
    obtain ⟨F', S', M', h1, h2⟩ := h
    have hle := gm_Fr_le (gm_Stk_le h1) h2
    refine ⟨F', S', M', gm_Stk_c hK hB hc hsc hva (fun j hj => hp j (by omega)) (fun j hj => hf j (by omega)) (fun j hj => hy j (by omega)) (fun j hj => he j (by omega)) (fun j hj => ha j (by omega)) h1, ?_⟩
    obtain ⟨y1, y2, y3, y4⟩ := hy d (by omega)
    obtain ⟨h0, h2⟩ := h2
    refine ⟨h0, ?_⟩
    rcases h2 with ⟨p, e, a1, a2, a3, a4, a5, a6, a7, a8, a9, a10⟩ | ⟨p, a1, a2, a3, a4, a5⟩ | ⟨sz, us, a1, a2, a3, a4, a5, a6, a7, a8, a9⟩
    · obtain ⟨f1, f2, f3, f4, f5⟩ := hf F' (by omega)
      have hs := hsc p a1
      refine Or.inl ⟨p, e, a1, y1.trans a2, by omega, a4, f2.trans a5, f3.trans a6, f4.trans a7, a8, fun i hi => ?_, ?_⟩
      · rw [he _ (by omega), hc _ (by omega)]
        exact hK _ _ (a9 i hi)
      · rcases a10 with ⟨b0, g, b1, b2, b3, b4, b5, b6, b7, b8⟩ | ⟨b0, b1, b2, b3⟩ | ⟨b0, b1, b2, b3, b4⟩ | ⟨b0, b1, b2, b3⟩
        · have := hva p a1 b0
          refine Or.inl ⟨b0, g, b1, y2.trans b2, y3.trans b3, y4.trans b4, b5, f1.trans b6, f5.trans b7, fun j hj => ?_⟩
          rw [ha _ (by omega), hp _ (by omega)]
          exact hK _ _ (b8 j hj)
        · exact Or.inr (Or.inl ⟨b0, y2.trans b1, b2, f1.trans b3⟩)
        · refine Or.inr (Or.inr (Or.inl ⟨b0, y2.trans b1, b2, f1.trans b3, ?_⟩))
          rw [ha _ (by omega), f5]
          exact hK _ _ b4
        · exact Or.inr (Or.inr (Or.inr ⟨b0, y2.trans b1, b2, f1.trans b3⟩))
    · exact Or.inr (Or.inl ⟨p, a1, y1.trans a2, a3, y2.trans a4, a5⟩)
    · refine Or.inr (Or.inr ⟨sz, us, a1, a2, by rw [y1]; exact a3, y2.trans a4, y3.trans a5, y4.trans a6, a7, fun j hj => ?_, ?_⟩)
      · rw [ha _ (by omega), hp _ (by omega)]
        exact hK _ _ (a8 j hj)
      · rcases a9 with a9 | ⟨b1, b2, b3, b4, b5, b6⟩
        · exact Or.inl a9
        · obtain ⟨f1, f2, f3, f4, f5⟩ := hf F' (by omega)
          exact Or.inr ⟨b1, b2, b3, f1.trans b4, f4.trans b5, b6⟩
end
end
section
/-! the component's machine: push, descend, gather, enter, build, grab -/
def gm_cpL : Nat → Nat → Nat → (Nat → Int64) → (Nat → Int64)
  | 0, _, _, c => c
  | d + 1, b, s, c => gm_cpL d (b + 1) (s + 1) (vp_updL c b (c s))
def gm_cpP (pend : Nat → Int64) : Nat → Nat → Nat → (Nat → Int64) → (Nat → Int64)
  | 0, _, _, c => c
  | d + 1, b, S, c => gm_cpP pend d (b + 1) (S - 1) (vp_updL c b (pend (S - 1)))
theorem gm_cpL_lo : ∀ (d b s : Nat) (c : Nat → Int64) (j : Nat), j < b → gm_cpL d b s c j = c j
  | 0, _, _, _, _, _ => rfl
  | d + 1, b, s, c, j, h => by
    show gm_cpL d (b + 1) (s + 1) (vp_updL c b (c s)) j = c j
    rw [gm_cpL_lo d _ _ _ j (by omega), pk_uLn (by omega)]
theorem gm_cpL_at : ∀ (d b s : Nat) (c : Nat → Int64) (i : Nat), s + d ≤ b → i < d → gm_cpL d b s c (b + i) = c (s + i)
  | 0, _, _, _, _, _, h => by omega
  | d + 1, b, s, c, 0, h1, h => by
    show gm_cpL d (b + 1) (s + 1) (vp_updL c b (c s)) (b + 0) = c (s + 0)
    rw [gm_cpL_lo d _ _ _ _ (by omega)]
    exact pk_uLs
  | d + 1, b, s, c, i + 1, h1, h => by
    show gm_cpL d (b + 1) (s + 1) (vp_updL c b (c s)) (b + (i + 1)) = c (s + (i + 1))
    rw [show b + (i + 1) = b + 1 + i by omega, gm_cpL_at d (b + 1) (s + 1) _ i (by omega) (by omega), pk_uLn (by omega), show s + 1 + i = s + (i + 1) by omega]
theorem gm_cpP_lo {pend : Nat → Int64} : ∀ (d b S : Nat) (c : Nat → Int64) (j : Nat), j < b → gm_cpP pend d b S c j = c j
  | 0, _, _, _, _, _ => rfl
  | d + 1, b, s, c, j, h => by
    show gm_cpP pend d (b + 1) (s - 1) (vp_updL c b (pend (s - 1))) j = c j
    rw [gm_cpP_lo d _ _ _ j (by omega), pk_uLn (by omega)]
theorem gm_cpP_at {pend : Nat → Int64} : ∀ (d b S : Nat) (c : Nat → Int64) (i : Nat), i < d → gm_cpP pend d b S c (b + i) = pend (S - 1 - i)
  | 0, _, _, _, _, h => by omega
  | d + 1, b, s, c, 0, h => by
    show gm_cpP pend d (b + 1) (s - 1) (vp_updL c b (pend (s - 1))) (b + 0) = _
    rw [gm_cpP_lo d _ _ _ _ (by omega)]
    exact pk_uLs
  | d + 1, b, s, c, i + 1, h => by
    show gm_cpP pend d (b + 1) (s - 1) (vp_updL c b (pend (s - 1))) (b + (i + 1)) = _
    rw [show b + (i + 1) = b + 1 + i by omega, gm_cpP_at d (b + 1) (s - 1) _ i (by omega), show s - 1 - 1 - i = s - 1 - (i + 1) by omega]
/-- the cells behind a gather -/
def gm_cg (B src h t kp S : Nat) (pend cells : Nat → Int64) : Nat → Int64 :=
  gm_cpL kp (B * 12 + h + t) (src * 12 + h) (gm_cpP pend t (B * 12 + h) S (gm_cpL h (B * 12) (src * 12) cells))
section
variable {B src h t kp S : Nat} {pend cells : Nat → Int64}
theorem gm_cg_lo {j : Nat} (hj : j < B * 12) : gm_cg B src h t kp S pend cells j = cells j := by
  unfold gm_cg
  rw [gm_cpL_lo _ _ _ _ _ (by omega), gm_cpP_lo _ _ _ _ _ (by omega), gm_cpL_lo _ _ _ _ _ hj]
theorem gm_cg_h (hs : src < B) (hh : h ≤ 12) {i : Nat} (hi : i < h) : gm_cg B src h t kp S pend cells (B * 12 + i) = cells (src * 12 + i) := by
  unfold gm_cg
  rw [gm_cpL_lo _ _ _ _ _ (by omega), gm_cpP_lo _ _ _ _ _ (by omega), gm_cpL_at _ _ _ _ _ (by omega) hi]
theorem gm_cg_t {i : Nat} (hi : i < t) : gm_cg B src h t kp S pend cells (B * 12 + h + i) = pend (S - 1 - i) := by
  unfold gm_cg
  rw [gm_cpL_lo _ _ _ _ _ (by omega), gm_cpP_at _ _ _ _ _ hi]
theorem gm_cg_k (hs : src < B) (hh : h + kp ≤ 12) {i : Nat} (hi : i < kp) : gm_cg B src h t kp S pend cells (B * 12 + h + t + i) = cells (src * 12 + h + i) := by
  unfold gm_cg
  rw [gm_cpL_at _ _ _ _ _ (by omega) hi, gm_cpP_lo _ _ _ _ _ (by omega), gm_cpL_lo _ _ _ _ _ (by omega)]
end
section
variable {t0 t1 t2 t3 t4 : Int32} {fb im : Int64} {lim defs stored wanted blocks sp mark frames style ev pc env : Int32} {acc : Int64} {budget fuel alloc out pres : Int32} {cur foc : Int64} {qd : Int32} {params first kinds values scopes child place : Nat → Int32} {cells : Nat → Int64} {orgs helds : Nat → Int32} {pend : Nat → Int64} {fT fN fE fM fD queue : Nat → Int32}
theorem gm_xpush {post : SX → Prop} {F : Nat} {a c : Int32} (hF : F < 512) (h : post (t0, t1, t2, t3, t4, fb, im, lim, defs, stored, wanted, blocks, sp, sp, nI (F + 1), style, ev, pc, env, acc, budget, fuel, alloc, out, pres, cur, foc, qd, params, first, kinds, values, scopes, child, place, cells, orgs, helds, pend, upd fT F a, upd fN F pc, upd fE F env, upd fM F mark, upd fD F c, queue)) : wpX_push post (t0, t1, t2, t3, t4, fb, im, lim, defs, stored, wanted, blocks, sp, mark, nI F, style, ev, pc, env, acc, budget, fuel, alloc, out, pres, cur, foc, qd, params, first, kinds, values, scopes, child, place, cells, orgs, helds, pend, fT, fN, fE, fM, fD, queue) a c := by
  have hv : vp_in (nI F) 512 := vp_in_nI hF (by decide)
  unfold wpX_push
  dsimp only
  rw [nI_clamp (show F < 2 ^ 31 by omega)]
  exact ⟨hv, nm_e ⟨hv, nm_e ⟨hv, nm_e ⟨hv, nm_e ⟨hv, nm_e (nm_r (nI_1 _) h)⟩⟩⟩⟩⟩
theorem gm_ix {p c : Nat} : nI p * 5 + nI c = nI (p * 5 + c) := by
  rw [← nI_add]; exact congrArg (· + nI c) (pk_mul p 5)
theorem gm_xdesc {post : SX → Prop} {F p c q : Nat} {a dt : Int32} (hF : F < 512) (hp : p < 64) (hc : c < 5) (hq : child (p * 5 + c) = nI q) (h : post (t0, t1, t2, t3, t4, fb, im, lim, defs, stored, wanted, blocks, sp, sp, nI (F + 1), style, 1, nI q, env, acc, budget, fuel, alloc, out, pres, cur, foc, qd, params, first, kinds, values, scopes, child, place, cells, orgs, helds, pend, upd fT F a, upd fN F (nI p), upd fE F env, upd fM F mark, upd fD F dt, queue)) : wpX_descend post (t0, t1, t2, t3, t4, fb, im, lim, defs, stored, wanted, blocks, sp, mark, nI F, style, ev, nI p, env, acc, budget, fuel, alloc, out, pres, cur, foc, qd, params, first, kinds, values, scopes, child, place, cells, orgs, helds, pend, fT, fN, fE, fM, fD, queue) a dt (nI c) := by
  unfold wpX_descend
  dsimp only
  refine gm_xpush hF ?_
  dsimp only
  rw [gm_ix]
  refine ⟨vp_in_nI (by omega) (by decide), nm_r (e' := nI q) (by rw [nI_clamp (by omega)]; exact hq) h⟩
theorem gm_i2 {a b : Nat} : nI a + nI b = nI (a + b) := nI_add a b
theorem gm_xg113 {post : Int32 → SX → Prop} {B src h t kp : Nat} (hB : B < 512) (hs : src < 512) (hk : h + t + kp ≤ 12) :
    ∀ (d i : Nat) (cells : Nat → Int64), i + d = kp → post (nI B) (t0, t1, t2, t3, t4, fb, im, lim, defs, stored, wanted, blocks, sp, mark, frames, style, ev, pc, env, acc, budget, fuel, alloc, out, pres, cur, foc, qd, params, first, kinds, values, scopes, child, place, gm_cpL d (B * 12 + h + t + i) (src * 12 + h + i) cells, orgs, helds, pend, fT, fN, fE, fM, fD, queue) →
      wX_gather_113 post (nI h) (nI t) (nI kp) (nI B) (nI (src * 12)) (nI (B * 12)) t0 t1 t2 t3 t4 fb im lim defs stored wanted blocks sp mark frames style ev pc env acc budget fuel alloc out pres cur foc qd (d + 1) (nI i) params first kinds values scopes child place cells orgs helds pend fT fN fE fM fD queue
  | 0, i, cells, hi, hp => br_t (nI_le (by omega) (by omega)) hp
  | d + 1, i, cells, hi, hp => by
    refine br_f (nI_ge (by omega) (by omega)) ?_
    rw [gm_i2, gm_i2, gm_i2, gm_i2, gm_i2, nI_clamp (show src * 12 + h + i < 2 ^ 31 by omega), nI_clamp (show B * 12 + h + t + i < 2 ^ 31 by omega)]
    refine ⟨vp_in_nI (by omega) (by decide), vp_in_nI (by omega) (by decide), nm_e (nm_r (nI_1 _) ?_)⟩
    exact gm_xg113 hB hs hk d (i + 1) _ (by omega) hp
theorem gm_xg67 {post : Int32 → SX → Prop} {B src h t kp : Nat} (hB : B < 512) (hs : src < 512) (hk : h + t + kp ≤ 12) :
    ∀ (d i S : Nat) (cells : Nat → Int64), i + d = t → d ≤ S → S ≤ 512 → post (nI B) (t0, t1, t2, t3, t4, fb, im, lim, defs, stored, wanted, blocks, nI (S - d), mark, frames, style, ev, pc, env, acc, budget, fuel, alloc, out, pres, cur, foc, qd, params, first, kinds, values, scopes, child, place, gm_cpL kp (B * 12 + h + t) (src * 12 + h) (gm_cpP pend d (B * 12 + h + i) S cells), orgs, helds, pend, fT, fN, fE, fM, fD, queue) →
      wX_gather_67 post (nI h) (nI t) (nI kp) (nI B) (nI (src * 12)) (nI (B * 12)) t0 t1 t2 t3 t4 fb im lim defs stored wanted blocks mark frames style ev pc env acc budget fuel alloc out pres cur foc qd (d + 1) (nI i) (nI S) params first kinds values scopes child place cells orgs helds pend fT fN fE fM fD queue
  | 0, i, S, cells, hi, hS, hS2, hp => br_t (nI_le (by omega) (by omega)) ⟨kp + 1, gm_xg113 hB hs hk kp 0 _ (by omega) hp⟩
  | d + 1, i, S, cells, hi, hS, hS2, hp => by
    obtain ⟨S, rfl⟩ : ∃ q, S = q + 1 := ⟨S - 1, by omega⟩
    refine br_f (nI_ge (by omega) (by omega)) (nm_r (nI_pred _) ?_)
    rw [gm_i2, gm_i2, nI_clamp (show S < 2 ^ 31 by omega), nI_clamp (show B * 12 + h + i < 2 ^ 31 by omega)]
    refine ⟨vp_in_nI (by omega) (by decide), vp_in_nI (by omega) (by decide), nm_e (nm_r (nI_1 _) ?_)⟩
    refine gm_xg67 hB hs hk d (i + 1) S _ (by omega) (by omega) (by omega) ?_
    rw [show S + 1 - (d + 1) = S - d by omega] at hp
    exact hp
theorem gm_xg32 {post : Int32 → SX → Prop} {B src h t kp S : Nat} (hB : B < 512) (hs : src < 512) (hk : h + t + kp ≤ 12) (hS : t ≤ S) (hS2 : S ≤ 512) :
    ∀ (d i : Nat) (cells : Nat → Int64), i + d = h → post (nI B) (t0, t1, t2, t3, t4, fb, im, lim, defs, stored, wanted, blocks, nI (S - t), mark, frames, style, ev, pc, env, acc, budget, fuel, alloc, out, pres, cur, foc, qd, params, first, kinds, values, scopes, child, place, gm_cpL kp (B * 12 + h + t) (src * 12 + h) (gm_cpP pend t (B * 12 + h) S (gm_cpL d (B * 12 + i) (src * 12 + i) cells)), orgs, helds, pend, fT, fN, fE, fM, fD, queue) →
      wX_gather_32 post (nI h) (nI t) (nI kp) (nI B) (nI (src * 12)) (nI (B * 12)) t0 t1 t2 t3 t4 fb im lim defs stored wanted blocks (nI S) mark frames style ev pc env acc budget fuel alloc out pres cur foc qd (d + 1) (nI i) params first kinds values scopes child place cells orgs helds pend fT fN fE fM fD queue
  | 0, i, cells, hi, hp => br_t (nI_le (by omega) (by omega)) ⟨t + 1, gm_xg67 hB hs hk t 0 S _ (by omega) hS hS2 hp⟩
  | d + 1, i, cells, hi, hp => by
    refine br_f (nI_ge (by omega) (by omega)) ?_
    rw [gm_i2, gm_i2, nI_clamp (show src * 12 + i < 2 ^ 31 by omega), nI_clamp (show B * 12 + i < 2 ^ 31 by omega)]
    refine ⟨vp_in_nI (by omega) (by decide), vp_in_nI (by omega) (by decide), nm_e (nm_r (nI_1 _) ?_)⟩
    exact gm_xg32 hB hs hk hS hS2 d (i + 1) _ (by omega) hp
theorem gm_xgather {post : Int32 → SX → Prop} {B src h t kp S : Nat} (hB : B < 512) (hs : src < 512) (hk : h + t + kp ≤ 12) (hS : t ≤ S) (hS2 : S ≤ 512) (hp : post (nI B) (t0, t1, t2, t3, t4, fb, im, lim, defs, stored, wanted, nI (B + 1), nI (S - t), mark, frames, style, ev, pc, env, acc, budget, fuel, alloc, out, pres, cur, foc, qd, params, first, kinds, values, scopes, child, place, gm_cg B src h t kp S pend cells, orgs, helds, pend, fT, fN, fE, fM, fD, queue)) :
    wpX_gather post (t0, t1, t2, t3, t4, fb, im, lim, defs, stored, wanted, nI B, nI S, mark, frames, style, ev, pc, env, acc, budget, fuel, alloc, out, pres, cur, foc, qd, params, first, kinds, values, scopes, child, place, cells, orgs, helds, pend, fT, fN, fE, fM, fD, queue) (nI src) (nI h) (nI t) (nI kp) := by
  unfold wpX_gather
  dsimp only
  refine nm_r (nI_1 _) (nm_r (e' := nI (src * 12)) (pk_mul src 12) (nm_r (e' := nI (B * 12)) (pk_mul B 12) ⟨h + 1, ?_⟩))
  exact gm_xg32 hB hs hk hS hS2 h 0 cells (by omega) hp
def gm_OO (params values scopes : Nat → Int32) (o : Nat) : Prop :=
  (o < 8 ∧ params o = nI (gm_vl params o)) ∨ (8 ≤ o ∧ o - 8 < 64 ∧ values (o - 8) = nI (gm_vl values (o - 8)) ∧ scopes (o - 8) = nI (gm_vl scopes (o - 8)))
theorem gm_xpar {post : Int32 → Prop} {o : Nat} (ho : gm_OO params values scopes o) (hp : post (nI (gm_par params values o))) : wpX_parameters post (t0, t1, t2, t3, t4, fb, im, lim, defs, stored, wanted, blocks, sp, mark, frames, style, ev, pc, env, acc, budget, fuel, alloc, out, pres, cur, foc, qd, params, first, kinds, values, scopes, child, place, cells, orgs, helds, pend, fT, fN, fE, fM, fD, queue) (nI o) := by
  unfold wpX_parameters
  dsimp only
  unfold gm_par at hp
  rcases ho with ⟨h1, h2⟩ | ⟨h1, h2, h3, h4⟩
  · rw [if_pos h1] at hp
    refine br_f (nI_ge (b := 8) h1 (by decide)) ⟨vp_in_nI h1 (by decide), ?_⟩
    rw [nI_clamp (by omega), h2]
    exact hp
  · rw [if_neg (by omega)] at hp
    refine br_t (nI_le (a := 8) h1 (by omega)) ?_
    rw [show nI o - 8 = nI (o - 8) from pk_sub (b := 8) h1]
    refine ⟨vp_in_nI h2 (by decide), ?_⟩
    rw [nI_clamp (by omega), h3]
    exact hp
theorem gm_xvar {post : Int32 → Prop} {o : Nat} (ho : gm_OO params values scopes o) (hp : post (nI (gm_kp scopes o))) : wpX_variables post (t0, t1, t2, t3, t4, fb, im, lim, defs, stored, wanted, blocks, sp, mark, frames, style, ev, pc, env, acc, budget, fuel, alloc, out, pres, cur, foc, qd, params, first, kinds, values, scopes, child, place, cells, orgs, helds, pend, fT, fN, fE, fM, fD, queue) (nI o) := by
  unfold wpX_variables
  dsimp only
  unfold gm_kp at hp
  rcases ho with ⟨h1, h2⟩ | ⟨h1, h2, h3, h4⟩
  · rw [if_pos h1] at hp
    exact br_f (nI_ge (b := 8) h1 (by decide)) hp
  · rw [if_neg (by omega)] at hp
    refine br_t (nI_le (a := 8) h1 (by omega)) ?_
    rw [show nI o - 8 = nI (o - 8) from pk_sub (b := 8) h1]
    refine ⟨vp_in_nI h2 (by decide), ?_⟩
    rw [nI_clamp (by omega), h4]
    exact hp
def gm_Ent (first : Nat → Int32) (o : Nat) (q : Int32) : Prop := (8 ≤ o ∧ o < 100 ∧ q = nI (o - 7)) ∨ (o < 8 ∧ q = first o)
theorem gm_xen25 {post : SX → Prop} {o : Nat} {bl q : Int32} (hq : gm_Ent first o q) (h : post (t0, t1, t2, t3, t4, fb, im, lim, defs, stored, wanted, blocks, sp, mark, frames, style, 1, q, bl, acc, budget, fuel, alloc, out, pres, cur, foc, qd, params, first, kinds, values, scopes, child, place, cells, orgs, helds, pend, fT, fN, fE, fM, fD, queue)) : wX_enter_25 post (nI o) bl t0 t1 t2 t3 t4 fb im lim defs stored wanted blocks sp mark frames style ev pc env acc budget fuel alloc out pres cur foc qd params first kinds values scopes child place cells orgs helds pend fT fN fE fM fD queue := by
  unfold wX_enter_25
  rcases hq with ⟨h1, h2, h3⟩ | ⟨h1, h3⟩
  · exact br_t (nI_le (a := 8) h1 (by omega)) (nm_r (e' := q) (by rw [h3]; exact pk_sub (b := 7) (by omega)) h)
  · exact br_f (nI_ge (b := 8) h1 (by decide)) ⟨vp_in_nI h1 (by decide), nm_r (e' := q) (by rw [nI_clamp (by omega)]; exact h3.symm) h⟩
theorem gm_xenter_n {post : SX → Prop} {o : Nat} {bl q : Int32} (hq : gm_Ent first o q) (hs : ¬ style = 1 ∨ sp ≤ mark) (h : post (t0, t1, t2, t3, t4, fb, im, lim, defs, stored, wanted, blocks, sp, mark, frames, style, 1, q, bl, acc, budget, fuel, alloc, out, pres, cur, foc, qd, params, first, kinds, values, scopes, child, place, cells, orgs, helds, pend, fT, fN, fE, fM, fD, queue)) : wpX_enter post (t0, t1, t2, t3, t4, fb, im, lim, defs, stored, wanted, blocks, sp, mark, frames, style, ev, pc, env, acc, budget, fuel, alloc, out, pres, cur, foc, qd, params, first, kinds, values, scopes, child, place, cells, orgs, helds, pend, fT, fN, fE, fM, fD, queue) (nI o) bl := by
  unfold wpX_enter
  dsimp only
  by_cases e : style = 1
  · refine br_t e (br_t ?_ (gm_xen25 hq h))
    rcases hs with z | z
    · exact absurd e z
    · exact z
  · exact br_f e (gm_xen25 hq h)
theorem gm_xenter_p {post : SX → Prop} {o F : Nat} {bl q : Int32} (hF : F < 512) (hq : gm_Ent first o q) (h1 : style = 1) (h2 : ¬ sp ≤ mark) (h : post (t0, t1, t2, t3, t4, fb, im, lim, defs, stored, wanted, blocks, sp, sp, nI (F + 1), style, 1, q, bl, acc, budget, fuel, alloc, out, pres, cur, foc, qd, params, first, kinds, values, scopes, child, place, cells, orgs, helds, pend, upd fT F 4, upd fN F pc, upd fE F env, upd fM F mark, upd fD F 0, queue)) : wpX_enter post (t0, t1, t2, t3, t4, fb, im, lim, defs, stored, wanted, blocks, sp, mark, nI F, style, ev, pc, env, acc, budget, fuel, alloc, out, pres, cur, foc, qd, params, first, kinds, values, scopes, child, place, cells, orgs, helds, pend, fT, fN, fE, fM, fD, queue) (nI o) bl := by
  unfold wpX_enter
  dsimp only
  refine br_t h1 (br_f h2 (gm_xpush hF ?_))
  exact gm_xen25 hq h
theorem gm_xbuild {post : SX → Prop} {o B hl : Nat} (hB : B < 512) (h : post (t0, t1, t2, t3, t4, fb, im, lim, defs, stored, wanted, blocks, sp, mark, frames, style, 0, pc, env, gm_fb B, budget, fuel, alloc + 1, out, pres, cur, foc, qd, params, first, kinds, values, scopes, child, place, cells, upd orgs B (nI o), upd helds B (nI hl), pend, fT, fN, fE, fM, fD, queue)) : wpX_build post (t0, t1, t2, t3, t4, fb, im, lim, defs, stored, wanted, blocks, sp, mark, frames, style, ev, pc, env, acc, budget, fuel, alloc, out, pres, cur, foc, qd, params, first, kinds, values, scopes, child, place, cells, orgs, helds, pend, fT, fN, fE, fM, fD, queue) (nI o) (nI B) (nI hl) := by
  unfold wpX_build
  dsimp only
  rw [nI_clamp (show B < 2 ^ 31 by omega)]
  exact ⟨vp_in_nI hB (by decide), nm_e ⟨vp_in_nI hB (by decide), nm_e (nm_e h)⟩⟩
theorem gm_xgrab_0 {post : SX → Prop} {o src h B S M t : Nat} (ho : gm_OO params values scopes o) (hh : h < gm_par params values o) (hl : gm_par params values o < 100) (hMS : M ≤ S) (hS2 : S ≤ 512)
    (ht : (gm_par params values o - h ≤ S - M ∧ t = gm_par params values o - h) ∨ (S - M < gm_par params values o - h ∧ t = S - M))
    (hp : wX_grab_34 post (nI o) (nI src) (nI h) (nI (gm_par params values o - h)) (nI t) t0 t1 t2 t3 t4 fb im lim defs stored wanted (nI B) (nI S) (nI M) frames style ev pc env acc budget fuel alloc out pres cur foc qd params first kinds values scopes child place cells orgs helds pend fT fN fE fM fD queue) : wpX_grab post (t0, t1, t2, t3, t4, fb, im, lim, defs, stored, wanted, nI B, nI S, nI M, frames, style, ev, pc, env, acc, budget, fuel, alloc, out, pres, cur, foc, qd, params, first, kinds, values, scopes, child, place, cells, orgs, helds, pend, fT, fN, fE, fM, fD, queue) (nI o) (nI src) (nI h) := by
  unfold wpX_grab
  dsimp only
  refine gm_xpar ho ?_
  refine nm_r (pk_sub (by omega)) (nm_r (pk_sub hMS) ?_)
  rcases ht with ⟨h1, h2⟩ | ⟨h1, h2⟩
  · subst h2
    exact br_t (nI_le h1 (by omega)) hp
  · subst h2
    exact br_f (nI_ge h1 (by omega)) hp
theorem gm_xgrab_n {post : SX → Prop} {o src h B S M ms : Nat} {q : Int32} (ho : gm_OO params values scopes o) (hms : h + ms = gm_par params values o) (h1 : 1 ≤ ms) (hl : gm_par params values o < 100) (hMS : M + ms ≤ S) (hS2 : S ≤ 512) (hB : B < 512) (hs : src < 512) (hk : h + ms + gm_kp scopes o ≤ 12) (hq : gm_Ent first o q) (hst : ¬ style = 1 ∨ S - ms = M)
    (hp : post (t0, t1, t2, t3, t4, fb, im, lim, defs, stored, wanted, nI (B + 1), nI (S - ms), nI M, frames, style, 1, q, nI B, acc, budget, fuel, alloc, out, pres, cur, foc, qd, params, first, kinds, values, scopes, child, place, gm_cg B src h ms (gm_kp scopes o) S pend cells, orgs, helds, pend, fT, fN, fE, fM, fD, queue)) : wpX_grab post (t0, t1, t2, t3, t4, fb, im, lim, defs, stored, wanted, nI B, nI S, nI M, frames, style, ev, pc, env, acc, budget, fuel, alloc, out, pres, cur, foc, qd, params, first, kinds, values, scopes, child, place, cells, orgs, helds, pend, fT, fN, fE, fM, fD, queue) (nI o) (nI src) (nI h) := by
  refine gm_xgrab_0 (t := ms) ho (by omega) hl (by omega) hS2 (Or.inl ⟨by omega, by omega⟩) ?_
  unfold wX_grab_34
  refine gm_xvar ho (gm_xgather hB hs hk (by omega) hS2 ?_)
  dsimp only
  refine br_t (by rw [show gm_par params values o - h = ms by omega]) (gm_xenter_n hq ?_ hp)
  rcases hst with z | z
  · exact Or.inl z
  · exact Or.inr (nI_le (by omega) (by omega))
theorem gm_xgrab_p {post : SX → Prop} {o src h B S M ms F : Nat} {q : Int32} (ho : gm_OO params values scopes o) (hms : h + ms = gm_par params values o) (h1 : 1 ≤ ms) (hl : gm_par params values o < 100) (hMS : M + ms < S) (hS2 : S ≤ 512) (hB : B < 512) (hs : src < 512) (hk : h + ms + gm_kp scopes o ≤ 12) (hq : gm_Ent first o q) (hF : F < 512) (hst : style = 1)
    (hp : post (t0, t1, t2, t3, t4, fb, im, lim, defs, stored, wanted, nI (B + 1), nI (S - ms), nI (S - ms), nI (F + 1), style, 1, q, nI B, acc, budget, fuel, alloc, out, pres, cur, foc, qd, params, first, kinds, values, scopes, child, place, gm_cg B src h ms (gm_kp scopes o) S pend cells, orgs, helds, pend, upd fT F 4, upd fN F pc, upd fE F env, upd fM F (nI M), upd fD F 0, queue)) : wpX_grab post (t0, t1, t2, t3, t4, fb, im, lim, defs, stored, wanted, nI B, nI S, nI M, nI F, style, ev, pc, env, acc, budget, fuel, alloc, out, pres, cur, foc, qd, params, first, kinds, values, scopes, child, place, cells, orgs, helds, pend, fT, fN, fE, fM, fD, queue) (nI o) (nI src) (nI h) := by
  refine gm_xgrab_0 (t := ms) ho (by omega) hl (by omega) hS2 (Or.inl ⟨by omega, by omega⟩) ?_
  unfold wX_grab_34
  refine gm_xvar ho (gm_xgather hB hs hk (by omega) hS2 ?_)
  dsimp only
  exact br_t (by rw [show gm_par params values o - h = ms by omega]) (gm_xenter_p hF hq hst (nI_ge (by omega) (by omega)) hp)
theorem gm_xgrab_b {post : SX → Prop} {o src h B S M t : Nat} (ho : gm_OO params values scopes o) (ht : h + t < gm_par params values o) (hl : gm_par params values o < 100) (hMS : M + t = S) (hS2 : S ≤ 512) (hB : B < 512) (hs : src < 512) (hk : h + t + gm_kp scopes o ≤ 12)
    (hp : post (t0, t1, t2, t3, t4, fb, im, lim, defs, stored, wanted, nI (B + 1), nI M, nI M, frames, style, 0, pc, env, gm_fb B, budget, fuel, alloc + 1, out, pres, cur, foc, qd, params, first, kinds, values, scopes, child, place, gm_cg B src h t (gm_kp scopes o) S pend cells, upd orgs B (nI o), upd helds B (nI (h + t)), pend, fT, fN, fE, fM, fD, queue)) : wpX_grab post (t0, t1, t2, t3, t4, fb, im, lim, defs, stored, wanted, nI B, nI S, nI M, frames, style, ev, pc, env, acc, budget, fuel, alloc, out, pres, cur, foc, qd, params, first, kinds, values, scopes, child, place, cells, orgs, helds, pend, fT, fN, fE, fM, fD, queue) (nI o) (nI src) (nI h) := by
  refine gm_xgrab_0 (t := t) ho (by omega) hl (by omega) hS2 (Or.inr ⟨by omega, by omega⟩) ?_
  unfold wX_grab_34
  refine gm_xvar ho (gm_xgather hB hs hk (by omega) hS2 ?_)
  dsimp only
  refine br_f (fun z => by rw [nI_eq (by omega) (by omega)] at z; omega) ?_
  rw [nI_add]
  refine gm_xbuild hB ?_
  rw [show S - t = M by omega]
  exact hp
end
end
section
/-! the reference's machine: make, arrive, child, start, receive, apply -/
theorem gm_f0 : fits .boolean (.int 0) = true := by first | rfl | decide | simp [fits]
theorem gm_f1 : fits .boolean (.int 1) = true := by first | rfl | decide | simp [fits]
def gm_cp : Nat → Nat → Nat → (Nat → Int32) → (Nat → Int32)
  | 0, _, _, c => c
  | d + 1, b, s, c => gm_cp d (b + 1) (s + 1) (upd c b (c s))
def gm_cq (src : Nat → Int32) : Nat → Nat → Nat → (Nat → Int32) → (Nat → Int32)
  | 0, _, _, c => c
  | d + 1, b, s, c => gm_cq src d (b + 1) (s + 1) (upd c b (src s))
theorem gm_cp_lo : ∀ (d b s : Nat) (c : Nat → Int32) (j : Nat), j < b → gm_cp d b s c j = c j
  | 0, _, _, _, _, _ => rfl
  | d + 1, b, s, c, j, h => by
    show gm_cp d (b + 1) (s + 1) (upd c b (c s)) j = c j
    rw [gm_cp_lo d _ _ _ j (by omega), pk_un (by omega)]
theorem gm_cp_at : ∀ (d b s : Nat) (c : Nat → Int32) (i : Nat), s + d ≤ b → i < d → gm_cp d b s c (b + i) = c (s + i)
  | 0, _, _, _, _, _, h => by omega
  | d + 1, b, s, c, 0, h1, h => by
    show gm_cp d (b + 1) (s + 1) (upd c b (c s)) (b + 0) = c (s + 0)
    rw [gm_cp_lo d _ _ _ _ (by omega)]
    exact pk_us
  | d + 1, b, s, c, i + 1, h1, h => by
    show gm_cp d (b + 1) (s + 1) (upd c b (c s)) (b + (i + 1)) = c (s + (i + 1))
    rw [show b + (i + 1) = b + 1 + i by omega, gm_cp_at d (b + 1) (s + 1) _ i (by omega) (by omega), pk_un (by omega), show s + 1 + i = s + (i + 1) by omega]
theorem gm_cq_lo {src : Nat → Int32} : ∀ (d b s : Nat) (c : Nat → Int32) (j : Nat), j < b → gm_cq src d b s c j = c j
  | 0, _, _, _, _, _ => rfl
  | d + 1, b, s, c, j, h => by
    show gm_cq src d (b + 1) (s + 1) (upd c b (src s)) j = c j
    rw [gm_cq_lo d _ _ _ j (by omega), pk_un (by omega)]
theorem gm_cq_at {src : Nat → Int32} : ∀ (d b s : Nat) (c : Nat → Int32) (i : Nat), i < d → gm_cq src d b s c (b + i) = src (s + i)
  | 0, _, _, _, _, h => by omega
  | d + 1, b, s, c, 0, h => by
    show gm_cq src d (b + 1) (s + 1) (upd c b (src s)) (b + 0) = src (s + 0)
    rw [gm_cq_lo d _ _ _ _ (by omega)]
    exact pk_us
  | d + 1, b, s, c, i + 1, h => by
    show gm_cq src d (b + 1) (s + 1) (upd c b (src s)) (b + (i + 1)) = src (s + (i + 1))
    rw [show b + (i + 1) = b + 1 + i by omega, gm_cq_at d (b + 1) (s + 1) _ i (by omega), show s + 1 + i = s + (i + 1) by omega]
def gm_arr (f s a : Int32) : Int32 := if f = 0 then a else if s = 0 then a + 1 else a
section
variable {ylim yfuel ystored comp opn heap ycur yfoc ypend left yalloc yout depth res ysty fail fresh ready : Int32} {ykinds yvalues ar beg org num held part yqueue ath got size used yenv args : Nat → Int32} {scopes : Nat → Int32}
theorem gm_ymake {post : Int32 → SY → Prop} {H : Nat} {a c : Int32} (hH : H < 512) (h : post (nI H) (ylim, yfuel, ystored, comp, opn, nI (H + 1), ycur, yfoc, ypend, left, yalloc, yout, depth, res, ysty, fail, fresh, ready, ykinds, yvalues, ar, beg, upd org H a, upd num H c, upd held H 0, part, yqueue, ath, got, size, used, yenv, args)) : wpY_make post (ylim, yfuel, ystored, comp, opn, nI H, ycur, yfoc, ypend, left, yalloc, yout, depth, res, ysty, fail, fresh, ready, ykinds, yvalues, ar, beg, org, num, held, part, yqueue, ath, got, size, used, yenv, args) a c := by
  have hv : vp_in (nI H) 512 := vp_in_nI hH (by decide)
  unfold wpY_make
  dsimp only
  rw [nI_clamp (show H < 2 ^ 31 by omega)]
  exact ⟨hv, nm_e ⟨hv, nm_e ⟨hv, nm_e (nm_r (nI_1 _) h)⟩⟩⟩
theorem gm_yarr {post : SY → Prop} (h : post (ylim, yfuel, ystored, comp, opn, heap, ycur, yfoc, ypend, left, gm_arr fresh ysty yalloc, yout, depth, res, ysty, fail, 0, ready, ykinds, yvalues, ar, beg, org, num, held, part, yqueue, ath, got, size, used, yenv, args)) : wpY_arrive post (ylim, yfuel, ystored, comp, opn, heap, ycur, yfoc, ypend, left, yalloc, yout, depth, res, ysty, fail, fresh, ready, ykinds, yvalues, ar, beg, org, num, held, part, yqueue, ath, got, size, used, yenv, args) := by
  unfold wpY_arrive
  dsimp only
  unfold gm_arr at h
  by_cases h1 : fresh = 0
  · rw [if_pos h1] at h
    exact br_t h1 h
  · rw [if_neg h1] at h
    by_cases h2 : ysty = 0
    · rw [if_pos h2] at h
      exact br_f h1 (br_t h2 (nm_e h))
    · rw [if_neg h2] at h
      exact br_f h1 (br_f h2 h)
theorem gm_ych33 {post : SY → Prop} {f d q : Nat} (hf : f < 256) (hd : d < 256) :
    ∀ (e i : Nat) (yenv : Nat → Int32), i + e = 12 → post (ylim, yfuel, ystored, comp, opn, heap, ycur, yfoc, ypend, left, yalloc, yout, nI (d + 1), res, ysty, fail, fresh, 0, ykinds, yvalues, ar, beg, org, num, held, part, yqueue, upd ath d (nI q), got, size, used, gm_cp e (d * 12 + i) (f * 12 + i) yenv, args) → wY_child_33 post (nI f) (nI q) ylim yfuel ystored comp opn heap ycur yfoc ypend left yalloc yout (nI d) res ysty fail fresh ready (e + 1) (nI i) ykinds yvalues ar beg org num held part yqueue ath got size used yenv args
  | 0, i, yenv, hi, h => by
    refine br_t (nI_le (a := 12) (by omega) (by omega)) (nm_r (nI_1 _) ?_)
    rw [nI_clamp (show d < 2 ^ 31 by omega)]
    exact ⟨vp_in_nI hd (by decide), nm_e h⟩
  | e + 1, i, yenv, hi, h => by
    refine br_f (nI_ge (b := 12) (by omega) (by decide)) ?_
    rw [show nI f * 12 + nI i = nI (f * 12 + i) from by rw [← nI_add]; exact congrArg (· + nI i) (pk_mul f 12), show nI d * 12 + nI i = nI (d * 12 + i) from by rw [← nI_add]; exact congrArg (· + nI i) (pk_mul d 12), nI_clamp (show f * 12 + i < 2 ^ 31 by omega), nI_clamp (show d * 12 + i < 2 ^ 31 by omega)]
    refine ⟨vp_in_nI (by omega) (by decide), vp_in_nI (by omega) (by decide), nm_e (nm_r (nI_1 _) ?_)⟩
    exact gm_ych33 hf hd e (i + 1) _ (by omega) h
theorem gm_ych12 {post : SY → Prop} {E st f C p : Nat} (hst : st ≤ 64) (hok : ∀ i, i < st → gm_ok ykinds yvalues scopes E i) (hC : C < 100) :
    ∀ (c n m : Nat), gm_Chd (gm_w (gm_kd ykinds yvalues)) p c n → c ≤ C → n ≤ st → wY_child_12 post (nI f) (nI C) ylim yfuel (nI st) comp opn heap ycur yfoc ypend left yalloc yout depth res ysty fail fresh ready ykinds yvalues ar beg org num held part yqueue ath got size used yenv args m (nI n) (nI c) → wY_child_12 post (nI f) (nI C) ylim yfuel (nI st) comp opn heap ycur yfoc ypend left yalloc yout depth res ysty fail fresh ready ykinds yvalues ar beg org num held part yqueue ath got size used yenv args (m + c) (nI (p + 1)) (nI 0)
  | 0, n, m, hc, _, _, h => by
    have e : n = p + 1 := hc
    subst e
    exact h
  | c + 1, n, m, hc, hcC, hn, h => by
    obtain ⟨q, h1, h2⟩ := hc
    have := h2.1
    have h3 : wY_child_12 post (nI f) (nI C) ylim yfuel (nI st) comp opn heap ycur yfoc ypend left yalloc yout depth res ysty fail fresh ready ykinds yvalues ar beg org num held part yqueue ath got size used yenv args (m + 1) (nI q) (nI c) := by
      refine br_f (nI_ge (by omega) (by omega)) ?_
      refine gm_yend_t hst hok h2 hn ?_
      exact nm_r (nI_1 _) h
    have := gm_ych12 hst hok hC c q (m + 1) h1 (by omega) (by omega) h3
    rw [show m + (c + 1) = m + 1 + c by omega]
    exact this
theorem gm_ychild {post : SY → Prop} {E st f d p c q : Nat} (hst : st ≤ 64) (hok : ∀ i, i < st → gm_ok ykinds yvalues scopes E i) (hf : f < 256) (hd : d < 256) (hp : ath f = nI p) (hc : gm_Chd (gm_w (gm_kd ykinds yvalues)) p c q) (hcC : c < 100) (hq : q ≤ st) (h : post (ylim, yfuel, nI st, comp, opn, heap, ycur, yfoc, ypend, left, yalloc, yout, nI (d + 1), res, ysty, fail, fresh, 0, ykinds, yvalues, ar, beg, org, num, held, part, yqueue, upd ath d (nI q), got, size, used, gm_cp 12 (d * 12) (f * 12) yenv, args)) : wpY_child post (ylim, yfuel, nI st, comp, opn, heap, ycur, yfoc, ypend, left, yalloc, yout, nI d, res, ysty, fail, fresh, ready, ykinds, yvalues, ar, beg, org, num, held, part, yqueue, ath, got, size, used, yenv, args) (nI f) (nI c) := by
  unfold wpY_child
  dsimp only
  refine ⟨vp_in_nI hf (by decide), nm_r (e' := nI (p + 1)) (by rw [nI_clamp (by omega), hp, nI_1]) ⟨1 + c, ?_⟩⟩
  refine gm_ych12 hst hok hcC c q 1 hc (Nat.le_refl _) hq ?_
  exact br_t (nI_le (Nat.le_refl _) (by omega)) ⟨13, gm_ych33 hf hd 12 0 yenv (by omega) h⟩
theorem gm_ypar {post : Int32 → Prop} {o : Nat} (ho : gm_OO ar yvalues scopes o) (hp : post (nI (gm_par ar yvalues o))) : wpY_params post (ylim, yfuel, ystored, comp, opn, heap, ycur, yfoc, ypend, left, yalloc, yout, depth, res, ysty, fail, fresh, ready, ykinds, yvalues, ar, beg, org, num, held, part, yqueue, ath, got, size, used, yenv, args) (nI o) := by
  unfold wpY_params
  dsimp only
  unfold gm_par at hp
  rcases ho with ⟨h1, h2⟩ | ⟨h1, h2, h3, h4⟩
  · rw [if_pos h1] at hp
    refine br_f (nI_ge (b := 8) h1 (by decide)) ⟨vp_in_nI h1 (by decide), ?_⟩
    rw [nI_clamp (by omega), h2]
    exact hp
  · rw [if_neg (by omega)] at hp
    refine br_t (nI_le (a := 8) h1 (by omega)) ?_
    rw [show nI o - 8 = nI (o - 8) from pk_sub (b := 8) h1]
    refine ⟨vp_in_nI h2 (by decide), ?_⟩
    rw [nI_clamp (by omega), h3]
    exact hp
theorem gm_ykept {post : Int32 → Prop} {o : Nat} (ho : o < 100) (hsc : 8 ≤ o → ∀ post : Int32 → Prop, post (nI (gm_vl scopes (o - 8))) → wpY_scopeAt post (ylim, yfuel, ystored, comp, opn, heap, ycur, yfoc, ypend, left, yalloc, yout, depth, res, ysty, fail, fresh, ready, ykinds, yvalues, ar, beg, org, num, held, part, yqueue, ath, got, size, used, yenv, args) (nI (o - 8))) (hp : post (nI (gm_kp scopes o))) : wpY_kept post (ylim, yfuel, ystored, comp, opn, heap, ycur, yfoc, ypend, left, yalloc, yout, depth, res, ysty, fail, fresh, ready, ykinds, yvalues, ar, beg, org, num, held, part, yqueue, ath, got, size, used, yenv, args) (nI o) := by
  unfold wpY_kept
  dsimp only
  unfold gm_kp at hp
  rcases Nat.lt_or_ge o 8 with h1 | h1
  · rw [if_pos h1] at hp
    exact br_f (nI_ge (b := 8) h1 (by decide)) hp
  · rw [if_neg (by omega)] at hp
    refine br_t (nI_le (a := 8) h1 (by omega)) ?_
    rw [show nI o - 8 = nI (o - 8) from pk_sub (b := 8) h1]
    exact hsc h1 _ hp
/-- start, up to the child or the leaf -/
theorem gm_yst_0 {post : SY → Prop} {d : Nat} (h : post (ylim, yfuel, ystored, comp, opn, heap, ycur, yfoc, ypend, nI 0, yalloc, yout, depth, res, ysty, 3, fresh, ready, ykinds, yvalues, ar, beg, org, num, held, part, yqueue, ath, got, size, used, yenv, args)) : wpY_start post (ylim, yfuel, ystored, comp, opn, heap, ycur, yfoc, ypend, nI 0, yalloc, yout, depth, res, ysty, fail, fresh, ready, ykinds, yvalues, ar, beg, org, num, held, part, yqueue, ath, got, size, used, yenv, args) (nI d) := by
  unfold wpY_start
  dsimp only
  exact br_t rfl h
theorem gm_yst_1 {post : SY → Prop} {fu d p : Nat} (hfu : fu < 1000) (hd : d < 256) (hp : ath d = nI p) (hp64 : p < 64)
    (h : wY_start_75 post (nI d) (nI p) (ykinds p) (yvalues p) (if ykinds p = 4 then yvalues p else 0) (nI d) ylim yfuel ystored comp opn heap ycur yfoc ypend (nI fu) yalloc yout depth res ysty fail fresh ready ykinds yvalues ar beg org num held part yqueue ath (upd got d 0) size (upd used d 0) yenv args) : wpY_start post (ylim, yfuel, ystored, comp, opn, heap, ycur, yfoc, ypend, nI (fu + 1), yalloc, yout, depth, res, ysty, fail, fresh, ready, ykinds, yvalues, ar, beg, org, num, held, part, yqueue, ath, got, size, used, yenv, args) (nI d) := by
  have hv : vp_in (nI d) 256 := vp_in_nI hd (by decide)
  have hv2 : vp_in (nI p) 64 := vp_in_nI hp64 (by decide)
  unfold wpY_start
  dsimp only
  rw [nI_clamp (show d < 2 ^ 31 by omega)]
  refine br_f (nI_ne0 (by omega) (by omega)) (nm_r (nI_pred _) ⟨hv, nm_r hp ⟨hv2, ?_⟩⟩)
  rw [nI_clamp (show p < 2 ^ 31 by omega)]
  refine nm_e ⟨hv2, nm_e ⟨hv, nm_e ⟨hv, nm_e ?_⟩⟩⟩
  by_cases hk : ykinds p = 4
  · rw [if_pos hk] at h
    exact br_t hk h
  · rw [if_neg hk] at h
    exact br_f hk h
/-- inner nodes: kinds 4, 5, 6 -/
theorem gm_yst_c {post : SY → Prop} {d p : Nat} {x3 x4 z : Int32} (hd : d < 256) (hk : 4 ≤ x3) (hk3 : x3 ≠ 3)
    (h : wpY_child post (ylim, yfuel, ystored, comp, opn, heap, ycur, yfoc, ypend, left, yalloc, yout, depth, res, ysty, fail, 0, 0, ykinds, yvalues, ar, beg, org, num, held, part, yqueue, ath, got, upd size d z, used, yenv, args) (nI d) z) : wY_start_75 post (nI d) (nI p) x3 x4 z (nI d) ylim yfuel ystored comp opn heap ycur yfoc ypend left yalloc yout depth res ysty fail fresh ready ykinds yvalues ar beg org num held part yqueue ath got size used yenv args := by
  have hv : vp_in (nI d) 256 := vp_in_nI hd (by decide)
  unfold wY_start_75
  rw [nI_clamp (show d < 2 ^ 31 by omega)]
  refine ⟨hv, nm_e (br_f hk3 ?_)⟩
  unfold wY_start_87
  refine ⟨narrow_b0, gm_f0, br_t hk ?_⟩
  unfold wY_start_101
  refine ⟨narrow_b0, gm_f0, br_t rfl ⟨hv, ?_⟩⟩
  rw [nI_clamp (show d < 2 ^ 31 by omega), pk_us]
  exact h
theorem gm_yst_int {post : SY → Prop} {d p H : Nat} {x4 z : Int32} (hd : d < 256) (hH : H < 512)
    (h : post (ylim, yfuel, ystored, comp, opn, nI (H + 1), ycur, yfoc, ypend, left, yalloc, yout, nI d, nI H, ysty, fail, 0, 1, ykinds, yvalues, ar, beg, upd org H (-1), upd num H x4, upd held H 0, part, yqueue, ath, got, upd size d z, used, yenv, args)) : wY_start_75 post (nI d) (nI p) 0 x4 z (nI d) ylim yfuel ystored comp opn (nI H) ycur yfoc ypend left yalloc yout (nI (d + 1)) res ysty fail fresh ready ykinds yvalues ar beg org num held part yqueue ath got size used yenv args := by
  have hv : vp_in (nI d) 256 := vp_in_nI hd (by decide)
  unfold wY_start_75
  rw [nI_clamp (show d < 2 ^ 31 by omega)]
  refine ⟨hv, nm_e (br_f (by decide) ?_)⟩
  unfold wY_start_87
  refine ⟨narrow_b0, gm_f0, br_f (by decide) ?_⟩
  unfold wY_start_101
  refine ⟨narrow_b1, gm_f1, br_f (by decide) (br_f (by decide) (br_t rfl ?_))⟩
  unfold wY_start_171
  refine br_t rfl ?_
  unfold wY_start_181
  refine gm_ymake hH ?_
  dsimp only
  unfold wY_start_187
  exact br_f (by decide) (nm_r (nI_pred _) h)
theorem gm_yst_var {post : SY → Prop} {d p v : Nat} {z : Int32} (hd : d < 256) (hv12 : v < 12)
    (h : post (ylim, yfuel, ystored, comp, opn, heap, ycur, yfoc, ypend, left, yalloc, yout, nI d, yenv (d * 12 + v), ysty, fail, 0, 1, ykinds, yvalues, ar, beg, org, num, held, part, yqueue, ath, got, upd size d z, used, yenv, args)) : wY_start_75 post (nI d) (nI p) 1 (nI v) z (nI d) ylim yfuel ystored comp opn heap ycur yfoc ypend left yalloc yout (nI (d + 1)) res ysty fail fresh ready ykinds yvalues ar beg org num held part yqueue ath got size used yenv args := by
  have hv : vp_in (nI d) 256 := vp_in_nI hd (by decide)
  unfold wY_start_75
  rw [nI_clamp (show d < 2 ^ 31 by omega)]
  refine ⟨hv, nm_e (br_f (by decide) ?_)⟩
  unfold wY_start_87
  refine ⟨narrow_b0, gm_f0, br_f (by decide) ?_⟩
  unfold wY_start_101
  refine ⟨narrow_b1, gm_f1, br_f (by decide) (br_t rfl ?_)⟩
  rw [show nI d * 12 + nI v = nI (d * 12 + v) from by rw [← nI_add]; exact congrArg (· + nI v) (pk_mul d 12), nI_clamp (show d * 12 + v < 2 ^ 31 by omega)]
  refine ⟨vp_in_nI (by omega) (by decide), nm_e ?_⟩
  unfold wY_start_187
  exact br_f (by decide) (nm_r (nI_pred _) h)
theorem gm_yst_glob {post : SY → Prop} {d p H : Nat} {x4 z : Int32} (hd : d < 256) (hH : H < 512)
    (h : post (ylim, yfuel, ystored, comp, opn, nI (H + 1), ycur, yfoc, ypend, left, yalloc, yout, nI d, nI H, ysty, fail, 0, 1, ykinds, yvalues, ar, beg, upd org H x4, upd num H 0, upd held H 0, part, yqueue, ath, got, upd size d z, used, yenv, args)) : wY_start_75 post (nI d) (nI p) 2 x4 z (nI d) ylim yfuel ystored comp opn (nI H) ycur yfoc ypend left yalloc yout (nI (d + 1)) res ysty fail fresh ready ykinds yvalues ar beg org num held part yqueue ath got size used yenv args := by
  have hv : vp_in (nI d) 256 := vp_in_nI hd (by decide)
  unfold wY_start_75
  rw [nI_clamp (show d < 2 ^ 31 by omega)]
  refine ⟨hv, nm_e (br_f (by decide) ?_)⟩
  unfold wY_start_87
  refine ⟨narrow_b0, gm_f0, br_f (by decide) ?_⟩
  unfold wY_start_101
  refine ⟨narrow_b1, gm_f1, br_f (by decide) (br_f (by decide) (br_f (by decide) (br_t rfl ?_)))⟩
  unfold wY_start_171
  refine br_f (by decide) ?_
  unfold wY_start_181
  refine gm_ymake hH ?_
  dsimp only
  unfold wY_start_187
  exact br_f (by decide) (nm_r (nI_pred _) h)
/-- whether a FUN node stands directly under a large enough call -/
def gm_Dir (kinds values : Nat → Int32) (p : Nat) : Prop := 0 < p ∧ kinds (p - 1) = 4 ∧ gm_vl values p ≤ gm_vl values (p - 1)
theorem gm_yst202 {post : SY → Prop} {d p sc H : Nat} {E : Nat} (hd : d < 256) (hH : H < 512) (hp64 : p < 64) (hsc : sc ≤ 12) (ok : ∀ i, i ≤ p → gm_ok ykinds yvalues scopes E i) (h3 : ykinds p = 3)
    (al : Int32) (hal : (ysty = 1 ∧ ¬ gm_Dir ykinds yvalues p ∧ al = yalloc + 1) ∨ ((¬ ysty = 1 ∨ gm_Dir ykinds yvalues p) ∧ al = yalloc)) :
    ∀ (e i : Nat) (part : Nat → Int32), i + e = sc → post (ylim, yfuel, ystored, comp, opn, heap, ycur, yfoc, ypend, left, al, yout, nI d, nI H, ysty, fail, fresh, ready, ykinds, yvalues, ar, beg, org, num, held, gm_cq yenv e (H * 16 + i) (d * 12 + i) part, yqueue, ath, got, size, used, yenv, args) → wY_start_202 post (nI d) (nI p) (yvalues p) (nI sc) ylim yfuel ystored comp opn heap ycur yfoc ypend left yalloc yout (nI (d + 1)) (nI H) ysty fail fresh ready (e + 1) (nI i) ykinds yvalues ar beg org num held part yqueue ath got size used yenv args
  | 0, i, part, hi, h => by
    refine br_t (nI_le (by omega) (by omega)) ?_
    have n1 : al = yalloc → wY_start_276 post 1 ylim yfuel ystored comp opn heap ycur yfoc ypend left yalloc yout (nI (d + 1)) (nI H) ysty fail fresh ready ykinds yvalues ar beg org num held part yqueue ath got size used yenv args := by
      intro e
      subst e
      unfold wY_start_276
      exact br_c (fun _ => br_f (by decide) (nm_r (nI_pred _) h)) (fun _ => nm_r (nI_pred _) h)
    have n0 : ¬ gm_Dir ykinds yvalues p → wY_start_275 post ylim yfuel ystored comp opn heap ycur yfoc ypend left yalloc yout (nI (d + 1)) (nI H) ysty fail fresh ready ykinds yvalues ar beg org num held part yqueue ath got size used yenv args := by
      intro hnd
      unfold wY_start_275 wY_start_276
      rcases hal with ⟨s1, -, e⟩ | ⟨s1, e⟩
      · subst e
        exact br_t s1 (br_t rfl (nm_e (nm_r (nI_pred _) h)))
      · subst e
        rcases s1 with s1 | s1
        · exact br_f s1 (nm_r (nI_pred _) h)
        · exact absurd s1 hnd
    rcases Nat.eq_zero_or_pos p with z | z
    · subst z
      exact br_t (by rw [nI_0]; decide) (n0 (fun q => absurd q.1 (by omega)))
    · obtain ⟨p, rfl⟩ : ∃ q, p = q + 1 := ⟨p - 1, by omega⟩
      refine br_f (nI_nle (by omega) (by omega)) ?_
      rw [nI_pred, nI_clamp (show p < 2 ^ 31 by omega)]
      refine ⟨vp_in_nI (by omega) (by decide), ?_⟩
      have ev : yvalues (p + 1) = nI (gm_vl yvalues (p + 1)) := by
        rcases (ok (p + 1) (by omega)).2 with q | ⟨ev, -⟩
        · rw [q] at h3; exact absurd h3 (by decide)
        · exact ev
      have hle : gm_vl yvalues (p + 1) ≤ 4 := by
        rcases (ok (p + 1) (by omega)).2 with q | ⟨-, q | q | q | q | q | q⟩
        · rw [q] at h3; exact absurd h3 (by decide)
        · rw [q.1] at h3; exact absurd h3 (by decide)
        · rw [q.1] at h3; exact absurd h3 (by decide)
        · omega
        · omega
        · omega
        · omega
      by_cases h4 : ykinds p = 4
      · refine br_t h4 ⟨vp_in_nI (by omega) (by decide), ?_⟩
        obtain ⟨ev2, hle2⟩ : yvalues p = nI (gm_vl yvalues p) ∧ gm_vl yvalues p ≤ 4 := by
          rcases (ok p (by omega)).2 with q | ⟨ev, q | q | q | q | q | q⟩
          · rw [q] at h4; exact absurd h4 (by decide)
          · rw [q.1] at h4; exact absurd h4 (by decide)
          · rw [q.1] at h4; exact absurd h4 (by decide)
          · exact ⟨ev, by omega⟩
          · exact ⟨ev, by omega⟩
          · exact ⟨ev, by omega⟩
          · exact ⟨ev, by omega⟩
        rw [ev, ev2]
        rcases Nat.lt_or_ge (gm_vl yvalues p) (gm_vl yvalues (p + 1)) with y | y
        · exact br_t (nI_lt y (by omega)) (n0 (fun q => by have := q.2.2; simp only [Nat.add_sub_cancel] at this; omega))
        · refine br_f (nI_nlt y (by omega)) (n1 ?_)
          have hdir : gm_Dir ykinds yvalues (p + 1) := ⟨by omega, h4, y⟩
          rcases hal with ⟨-, s2, -⟩ | ⟨-, e⟩
          · exact absurd hdir s2
          · exact e
      · exact br_f h4 (n0 (fun q => h4 q.2.1))
  | e + 1, i, part, hi, h => by
    refine br_f (nI_ge (by omega) (by omega)) ?_
    rw [show nI d * 12 + nI i = nI (d * 12 + i) from by rw [← nI_add]; exact congrArg (· + nI i) (pk_mul d 12), show nI H * 16 + nI i = nI (H * 16 + i) from by rw [← nI_add]; exact congrArg (· + nI i) (pk_mul H 16), nI_clamp (show d * 12 + i < 2 ^ 31 by omega), nI_clamp (show H * 16 + i < 2 ^ 31 by omega)]
    refine ⟨vp_in_nI (by omega) (by decide), vp_in_nI (by omega) (by decide), nm_e (nm_r (nI_1 _) ?_)⟩
    exact gm_yst202 hd hH hp64 hsc ok h3 al hal e (i + 1) _ (by omega) h
theorem gm_yst_fun {post : SY → Prop} {d p sc H : Nat} {E : Nat} {z : Int32} (hd : d < 256) (hH : H < 512) (hp64 : p < 64) (hsc : sc ≤ 12) (ok : ∀ i, i ≤ p → gm_ok ykinds yvalues scopes E i) (h3 : ykinds p = 3)
    (al : Int32) (hal : (ysty = 1 ∧ ¬ gm_Dir ykinds yvalues p ∧ al = yalloc + 1) ∨ ((¬ ysty = 1 ∨ gm_Dir ykinds yvalues p) ∧ al = yalloc))
    (hsa : ∀ post : Int32 → Prop, post (nI sc) → wpY_scopeAt post (ylim, yfuel, ystored, comp, opn, nI (H + 1), ycur, yfoc, ypend, left, yalloc, yout, nI (d + 1), nI H, ysty, fail, 1, 1, ykinds, yvalues, ar, beg, upd org H (nI (8 + p)), upd num H 0, upd held H 0, part, yqueue, ath, got, upd size d z, used, yenv, args) (nI p))
    (h : post (ylim, yfuel, ystored, comp, opn, nI (H + 1), ycur, yfoc, ypend, left, al, yout, nI d, nI H, ysty, fail, 1, 1, ykinds, yvalues, ar, beg, upd org H (nI (8 + p)), upd num H 0, upd held H 0, gm_cq yenv sc (H * 16) (d * 12) part, yqueue, ath, got, upd size d z, used, yenv, args)) : wY_start_75 post (nI d) (nI p) 3 (yvalues p) z (nI d) ylim yfuel ystored comp opn (nI H) ycur yfoc ypend left yalloc yout (nI (d + 1)) res ysty fail fresh ready ykinds yvalues ar beg org num held part yqueue ath got size used yenv args := by
  have hv : vp_in (nI d) 256 := vp_in_nI hd (by decide)
  unfold wY_start_75
  rw [nI_clamp (show d < 2 ^ 31 by omega)]
  refine ⟨hv, nm_e (br_t rfl ?_)⟩
  unfold wY_start_87
  refine ⟨narrow_b1, gm_f1, br_f (by decide) ?_⟩
  unfold wY_start_101
  refine ⟨narrow_b1, gm_f1, br_f (by decide) (br_f (by decide) (br_f (by decide) (br_f (by decide) ?_)))⟩
  unfold wY_start_171
  refine br_f (by decide) ?_
  unfold wY_start_181
  rw [show (8 : Int32) + nI p = nI (8 + p) from nI_add 8 p]
  refine gm_ymake hH ?_
  dsimp only
  unfold wY_start_187
  refine br_t rfl (hsa _ ⟨sc + 1, ?_⟩)
  exact gm_yst202 hd hH hp64 hsc ok h3 al hal sc 0 part (by omega) h
end
end
section
/-! the reference's receive and apply -/
theorem gm_m8 (d i : Nat) : nI d * 8 + nI i = nI (d * 8 + i) := by rw [← nI_add]; exact congrArg (· + nI i) (pk_mul d 8)
theorem gm_m12 (d i : Nat) : nI d * 12 + nI i = nI (d * 12 + i) := by rw [← nI_add]; exact congrArg (· + nI i) (pk_mul d 12)
theorem gm_m16 (d i : Nat) : nI d * 16 + nI i = nI (d * 16 + i) := by rw [← nI_add]; exact congrArg (· + nI i) (pk_mul d 16)
def gm_op (v x y : Int32) : Int32 := if v = 0 then x + y else if v = 1 then x - y else x * y
/-- the environment behind a call, the parts behind a call with too few arguments -/
def gm_eg (e d r h us ms kp : Nat) (part args yenv : Nat → Int32) : Nat → Int32 :=
  gm_cq part kp (e * 12 + h + ms) (r * 16 + h) (gm_cq args ms (e * 12 + h) (d * 8 + us) (gm_cq part h (e * 12) (r * 16) yenv))
def gm_pg (H d r h us k kp : Nat) (args part : Nat → Int32) : Nat → Int32 :=
  gm_cp kp (H * 16 + h + k) (r * 16 + h) (gm_cq args k (H * 16 + h) (d * 8 + us) (gm_cp h (H * 16) (r * 16) part))
section
variable {e d r h us ms kp H k : Nat} {part args yenv : Nat → Int32}
theorem gm_eg_lo {j : Nat} (hj : j < e * 12) : gm_eg e d r h us ms kp part args yenv j = yenv j := by
  unfold gm_eg
  rw [gm_cq_lo _ _ _ _ _ (by omega), gm_cq_lo _ _ _ _ _ (by omega), gm_cq_lo _ _ _ _ _ hj]
theorem gm_eg_h {i : Nat} (hi : i < h) : gm_eg e d r h us ms kp part args yenv (e * 12 + i) = part (r * 16 + i) := by
  unfold gm_eg
  rw [gm_cq_lo _ _ _ _ _ (by omega), gm_cq_lo _ _ _ _ _ (by omega), gm_cq_at _ _ _ _ _ hi]
theorem gm_eg_a {i : Nat} (hi : i < ms) : gm_eg e d r h us ms kp part args yenv (e * 12 + h + i) = args (d * 8 + us + i) := by
  unfold gm_eg
  rw [gm_cq_lo _ _ _ _ _ (by omega), gm_cq_at _ _ _ _ _ hi]
theorem gm_eg_k {i : Nat} (hi : i < kp) : gm_eg e d r h us ms kp part args yenv (e * 12 + h + ms + i) = part (r * 16 + h + i) := by
  unfold gm_eg
  rw [gm_cq_at _ _ _ _ _ hi]
theorem gm_pg_lo {j : Nat} (hj : j < H * 16) : gm_pg H d r h us k kp args part j = part j := by
  unfold gm_pg
  rw [gm_cp_lo _ _ _ _ _ (by omega), gm_cq_lo _ _ _ _ _ (by omega), gm_cp_lo _ _ _ _ _ hj]
theorem gm_pg_h (hr : r < H) (hh : h ≤ 16) {i : Nat} (hi : i < h) : gm_pg H d r h us k kp args part (H * 16 + i) = part (r * 16 + i) := by
  unfold gm_pg
  rw [gm_cp_lo _ _ _ _ _ (by omega), gm_cq_lo _ _ _ _ _ (by omega), gm_cp_at _ _ _ _ _ (by omega) hi]
theorem gm_pg_a {i : Nat} (hi : i < k) : gm_pg H d r h us k kp args part (H * 16 + h + i) = args (d * 8 + us + i) := by
  unfold gm_pg
  rw [gm_cp_lo _ _ _ _ _ (by omega), gm_cq_at _ _ _ _ _ hi]
theorem gm_pg_k (hr : r < H) (hh : h + kp ≤ 16) {i : Nat} (hi : i < kp) : gm_pg H d r h us k kp args part (H * 16 + h + k + i) = part (r * 16 + h + i) := by
  unfold gm_pg
  rw [gm_cp_at _ _ _ _ _ (by omega) hi, gm_cq_lo _ _ _ _ _ (by omega), gm_cp_lo _ _ _ _ _ (by omega)]
end
section
variable {ylim yfuel ystored comp opn heap ycur yfoc ypend left yalloc yout depth res ysty fail fresh ready : Int32} {ykinds yvalues ar beg org num held part yqueue ath got size used yenv args : Nat → Int32} {scopes : Nat → Int32}
theorem gm_yr24 {post : SY → Prop} {d p : Nat} (hd : d < 256) (hp : ath d = nI p) (hp64 : p < 64) (h : wY_receive_24 post (nI d) (ykinds p) ylim yfuel ystored comp opn heap ycur yfoc ypend left yalloc yout depth res ysty fail fresh ready ykinds yvalues ar beg org num held part yqueue ath got size used yenv args) : wpY_receive post (ylim, yfuel, ystored, comp, opn, heap, ycur, yfoc, ypend, left, yalloc, yout, depth, res, ysty, fail, fresh, ready, ykinds, yvalues, ar, beg, org, num, held, part, yqueue, ath, got, size, used, yenv, args) (nI d) := by
  have hv : vp_in (nI d) 256 := vp_in_nI hd (by decide)
  unfold wpY_receive
  dsimp only
  rw [nI_clamp (show d < 2 ^ 31 by omega), hp, nI_clamp (show p < 2 ^ 31 by omega)]
  exact ⟨hv, br_t (nI_pos' (by omega)) ⟨hv, vp_in_nI hp64 (by decide), h⟩⟩
/-- an argument arrives -/
theorem gm_yr_arg {post : SY → Prop} {E st d p g sz c q : Nat} (hst : st ≤ 64) (hok : ∀ i, i < st → gm_ok ykinds yvalues scopes E i) (hd : d + 1 < 256) (hp : ath d = nI p) (hp64 : p < 64) (hk : ykinds p = 4) (hg : got d = nI g) (hsz : size d = nI sz) (hgs : g < sz) (hs8 : sz ≤ 8)
    (hcc : g + 1 + c = sz) (hc : gm_Chd (gm_w (gm_kd ykinds yvalues)) p c q) (hq : q ≤ st)
    (h : post (ylim, yfuel, nI st, comp, opn, heap, ycur, yfoc, ypend, left, gm_arr fresh ysty yalloc, yout, nI (d + 1 + 1), res, ysty, fail, 0, 0, ykinds, yvalues, ar, beg, org, num, held, part, yqueue, upd ath (d + 1) (nI q), upd got d (nI (g + 1)), size, used, gm_cp 12 ((d + 1) * 12) (d * 12) yenv, upd args (d * 8 + c) res)) : wpY_receive post (ylim, yfuel, nI st, comp, opn, heap, ycur, yfoc, ypend, left, yalloc, yout, nI (d + 1), res, ysty, fail, fresh, ready, ykinds, yvalues, ar, beg, org, num, held, part, yqueue, ath, got, size, used, yenv, args) (nI d) := by
  have hv : vp_in (nI d) 256 := vp_in_nI (by omega) (by decide)
  refine gm_yr24 (by omega) hp hp64 ?_
  rw [hk]
  unfold wY_receive_24
  rw [nI_clamp (show d < 2 ^ 31 by omega), hg, hsz]
  refine br_t rfl ⟨hv, hv, br_f (nI_ge hgs (by omega)) (gm_yarr ?_)⟩
  dsimp only
  rw [hg, hsz, nI_1]
  refine ⟨hv, hv, nm_e ⟨hv, hv, ?_⟩⟩
  rw [pk_us, gm_m8, pk_sub (show g + 1 ≤ d * 8 + sz by omega), show d * 8 + sz - (g + 1) = d * 8 + c by omega, nI_clamp (show d * 8 + c < 2 ^ 31 by omega), pk_sub (show g + 1 ≤ sz by omega), show sz - (g + 1) = c by omega]
  refine ⟨vp_in_nI (by omega) (by decide), nm_e ⟨hv, hv, ?_⟩⟩
  exact gm_ychild hst hok (by omega) (by omega) hp hc (by omega) hq h
/-- a frame of an application: 4, or the run itself -/
def gm_Apf (ykinds ath : Nat → Int32) (d : Nat) : Prop := ath d = -1 ∨ ∃ p, p < 64 ∧ ath d = nI p ∧ ykinds p = 4
theorem gm_yr_app0 {post : SY → Prop} {d sz : Nat} (hd : d < 256) (hp : gm_Apf ykinds ath d) (hg : got d = nI sz) (hsz : size d = nI sz) (hs8 : sz ≤ 8) (h : wY_receive_107 post (nI d) 4 ylim yfuel ystored comp opn heap ycur yfoc ypend left yalloc yout depth res ysty fail fresh ready ykinds yvalues ar beg org num held part yqueue ath got size used yenv args) : wpY_receive post (ylim, yfuel, ystored, comp, opn, heap, ycur, yfoc, ypend, left, yalloc, yout, depth, res, ysty, fail, fresh, ready, ykinds, yvalues, ar, beg, org, num, held, part, yqueue, ath, got, size, used, yenv, args) (nI d) := by
  have hv : vp_in (nI d) 256 := vp_in_nI hd (by decide)
  have h24 : wY_receive_24 post (nI d) 4 ylim yfuel ystored comp opn heap ycur yfoc ypend left yalloc yout depth res ysty fail fresh ready ykinds yvalues ar beg org num held part yqueue ath got size used yenv args := by
    unfold wY_receive_24
    rw [nI_clamp (show d < 2 ^ 31 by omega), hg, hsz]
    exact br_t rfl ⟨hv, hv, br_t (nI_le (Nat.le_refl _) (by omega)) h⟩
  rcases hp with hp | ⟨p, p1, p2, p3⟩
  · unfold wpY_receive
    dsimp only
    rw [nI_clamp (show d < 2 ^ 31 by omega), hp]
    exact ⟨hv, br_f (by decide) h24⟩
  · refine gm_yr24 hd p2 p1 ?_
    rw [p3]
    exact h24
theorem gm_yr_pop {post : SY → Prop} {d sz : Nat} (hd : d < 256) (hp : gm_Apf ykinds ath d) (hg : got d = nI sz) (hsz : size d = nI sz) (hus : used d = nI sz) (hs8 : sz ≤ 8) (h : post (ylim, yfuel, ystored, comp, opn, heap, ycur, yfoc, ypend, left, yalloc, yout, nI d, res, ysty, fail, fresh, ready, ykinds, yvalues, ar, beg, org, num, held, part, yqueue, ath, got, size, used, yenv, args)) : wpY_receive post (ylim, yfuel, ystored, comp, opn, heap, ycur, yfoc, ypend, left, yalloc, yout, nI (d + 1), res, ysty, fail, fresh, ready, ykinds, yvalues, ar, beg, org, num, held, part, yqueue, ath, got, size, used, yenv, args) (nI d) := by
  have hv : vp_in (nI d) 256 := vp_in_nI hd (by decide)
  refine gm_yr_app0 hd hp hg hsz hs8 ?_
  unfold wY_receive_107
  rw [nI_clamp (show d < 2 ^ 31 by omega), hsz, hus]
  refine br_t rfl ⟨hv, hv, br_t (nI_le (Nat.le_refl _) (by omega)) ?_⟩
  unfold wY_receive_135
  refine br_t rfl ?_
  unfold wY_receive_156
  exact nm_r (nI_pred _) h
theorem gm_yr_br {post : SY → Prop} {d p : Nat} (hd : d < 256) (hp : ath d = nI p) (hp64 : p < 64) (hk : ykinds p = 6) (hg : got d = nI 1) (h : post (ylim, yfuel, ystored, comp, opn, heap, ycur, yfoc, ypend, left, yalloc, yout, nI d, res, ysty, fail, fresh, ready, ykinds, yvalues, ar, beg, org, num, held, part, yqueue, ath, got, size, used, yenv, args)) : wpY_receive post (ylim, yfuel, ystored, comp, opn, heap, ycur, yfoc, ypend, left, yalloc, yout, nI (d + 1), res, ysty, fail, fresh, ready, ykinds, yvalues, ar, beg, org, num, held, part, yqueue, ath, got, size, used, yenv, args) (nI d) := by
  have hv : vp_in (nI d) 256 := vp_in_nI hd (by decide)
  refine gm_yr24 hd hp hp64 ?_
  rw [hk]
  unfold wY_receive_24
  refine br_f (by decide) ?_
  unfold wY_receive_107
  refine br_f (by decide) ?_
  unfold wY_receive_135
  rw [nI_clamp (show d < 2 ^ 31 by omega), hg]
  refine br_f (by decide) (br_t rfl ⟨hv, br_t rfl ?_⟩)
  unfold wY_receive_156
  exact nm_r (nI_pred _) h
/-- an operand or a condition: into row 169 -/
theorem gm_yr_o {post : SY → Prop} {d p : Nat} (hd : d < 256) (hp : ath d = nI p) (hp64 : p < 64) (hk : ykinds p = 5 ∨ (ykinds p = 6 ∧ got d = nI 0)) (h : wY_receive_169 post (nI d) (ykinds p) ylim yfuel ystored comp opn heap ycur yfoc ypend left yalloc yout depth res ysty fail fresh ready ykinds yvalues ar beg org num held part yqueue ath got size used yenv args) : wpY_receive post (ylim, yfuel, ystored, comp, opn, heap, ycur, yfoc, ypend, left, yalloc, yout, depth, res, ysty, fail, fresh, ready, ykinds, yvalues, ar, beg, org, num, held, part, yqueue, ath, got, size, used, yenv, args) (nI d) := by
  have hv : vp_in (nI d) 256 := vp_in_nI hd (by decide)
  refine gm_yr24 hd hp hp64 ?_
  have hk4 : ¬ ykinds p = 4 := by
    rcases hk with z | z
    · rw [z]; decide
    · rw [z.1]; decide
  unfold wY_receive_24
  refine br_f hk4 ?_
  unfold wY_receive_107
  refine br_f hk4 ?_
  unfold wY_receive_135
  refine br_f hk4 ?_
  rcases hk with z | ⟨z1, z2⟩
  · exact br_f (by rw [z]; decide) h
  · rw [nI_clamp (show d < 2 ^ 31 by omega), z2]
    exact br_t z1 ⟨hv, br_f (by decide) h⟩
theorem gm_yr_of {post : SY → Prop} {d p r o : Nat} (hd : d < 256) (hp : ath d = nI p) (hp64 : p < 64) (hk : ykinds p = 5 ∨ (ykinds p = 6 ∧ got d = nI 0)) (hr : r < 512) (ho : org r = nI o) (ho2 : o < 100) (h : post (ylim, yfuel, ystored, comp, opn, heap, ycur, yfoc, ypend, left, gm_arr fresh ysty yalloc, yout, depth, nI r, ysty, 5, 0, ready, ykinds, yvalues, ar, beg, org, num, held, part, yqueue, ath, got, size, used, yenv, args)) : wpY_receive post (ylim, yfuel, ystored, comp, opn, heap, ycur, yfoc, ypend, left, yalloc, yout, depth, nI r, ysty, fail, fresh, ready, ykinds, yvalues, ar, beg, org, num, held, part, yqueue, ath, got, size, used, yenv, args) (nI d) := by
  refine gm_yr_o hd hp hp64 hk ?_
  unfold wY_receive_169
  refine gm_yarr ?_
  dsimp only
  rw [nI_clamp (show r < 2 ^ 31 by omega), ho]
  exact ⟨vp_in_nI hr (by decide), br_f (nI_pos (by omega)) h⟩
/-- up to the branch over the kind -/
theorem gm_yr_or {post : SY → Prop} {d p r g : Nat} {x2 : Int32} (hd : d < 256) (hp : ath d = nI p) (hp64 : p < 64) (hr : r < 512) (ho : org r = -1) (ha : vp_in (args (d * 8)) 512) (hg : got d = nI g)
    (h : (x2 = 6 → ((num r = 0 → wY_receive_257 post 1 (nI d) ylim yfuel ystored comp opn heap ycur yfoc ypend left (gm_arr fresh ysty yalloc) yout depth (nI r) ysty fail 0 ready ykinds yvalues ar beg org num held part yqueue ath (upd got d (nI (g + 1))) size used yenv args) ∧ (¬ num r = 0 → wY_receive_257 post 2 (nI d) ylim yfuel ystored comp opn heap ycur yfoc ypend left (gm_arr fresh ysty yalloc) yout depth (nI r) ysty fail 0 ready ykinds yvalues ar beg org num held part yqueue ath (upd got d (nI (g + 1))) size used yenv args))) ∧
      (¬ x2 = 6 → (nI (g + 1) = 1 → wpY_child (fun u => match u with | (ylim, yfuel, ystored, comp, opn, heap, ycur, yfoc, ypend, left, yalloc, yout, depth, res, ysty, fail, fresh, ready, ykinds, yvalues, ar, beg, org, num, held, part, yqueue, ath, got, size, used, yenv, args) => post (ylim, yfuel, ystored, comp, opn, heap, ycur, yfoc, ypend, left, yalloc, yout, depth, res, ysty, fail, fresh, ready, ykinds, yvalues, ar, beg, org, num, held, part, yqueue, ath, got, size, used, yenv, args)) (ylim, yfuel, ystored, comp, opn, heap, ycur, yfoc, ypend, left, gm_arr fresh ysty yalloc, yout, depth, nI r, ysty, fail, 0, ready, ykinds, yvalues, ar, beg, org, num, held, part, yqueue, ath, upd got d (nI (g + 1)), size, used, yenv, upd args (d * 8) (nI r)) (nI d) 1) ∧
        (¬ nI (g + 1) = 1 → wY_receive_327 post (gm_op (yvalues p) (num (args (d * 8)).toNatClampNeg) (num r)) (-1) ylim yfuel ystored comp opn heap ycur yfoc ypend left (gm_arr fresh ysty yalloc) yout depth (nI r) ysty fail 0 ready ykinds yvalues ar beg org num held part yqueue ath (upd got d (nI (g + 1))) size used yenv args))) : wY_receive_169 post (nI d) x2 ylim yfuel ystored comp opn heap ycur yfoc ypend left yalloc yout depth (nI r) ysty fail fresh ready ykinds yvalues ar beg org num held part yqueue ath got size used yenv args := by
  have hv : vp_in (nI d) 256 := vp_in_nI hd (by decide)
  unfold wY_receive_169
  refine gm_yarr ?_
  dsimp only
  rw [nI_clamp (show r < 2 ^ 31 by omega), nI_clamp (show d < 2 ^ 31 by omega), ho, hp, hg, nI_clamp (show p < 2 ^ 31 by omega), show nI d * 8 = nI (d * 8) from pk_mul d 8, nI_clamp (show d * 8 < 2 ^ 31 by omega), nI_1]
  refine ⟨vp_in_nI hr (by decide), br_t (by decide) ⟨vp_in_nI hr (by decide), nm_e ⟨vp_in_nI (by omega) (by decide), ha, nm_e ⟨hv, vp_in_nI hp64 (by decide), nm_e ⟨hv, hv, nm_e ?_⟩⟩⟩⟩⟩
  refine br_c (fun z => h.1 z) (fun z => ⟨hv, ?_⟩)
  rw [pk_us]
  refine br_c (fun y => ⟨vp_in_nI (by omega) (by decide), nm_e ((h.2 z).1 y)⟩) (fun y => ?_)
  have h3 := (h.2 z).2 y
  unfold gm_op at h3
  by_cases v0 : yvalues p = 0
  · rw [if_pos v0] at h3
    exact br_t v0 h3
  · rw [if_neg v0] at h3
    by_cases v1 : yvalues p = 1
    · rw [if_pos v1] at h3
      exact br_f v0 (br_t v1 h3)
    · rw [if_neg v1] at h3
      exact br_f v0 (br_f v1 h3)
theorem gm_yr_if {post : SY → Prop} {E st d p r c q : Nat} (hst : st ≤ 64) (hok : ∀ i, i < st → gm_ok ykinds yvalues scopes E i) (hd : d + 1 < 256) (hp : ath d = nI p) (hp64 : p < 64) (hk : ykinds p = 6) (hg : got d = nI 0) (hr : r < 512) (ho : org r = -1) (ha : vp_in (args (d * 8)) 512)
    (hcc : (num r = 0 ∧ c = 1) ∨ (¬ num r = 0 ∧ c = 2)) (hc : gm_Chd (gm_w (gm_kd ykinds yvalues)) p c q) (hq : q ≤ st)
    (h : post (ylim, yfuel, nI st, comp, opn, heap, ycur, yfoc, ypend, left, gm_arr fresh ysty yalloc, yout, nI (d + 1 + 1), nI r, ysty, fail, 0, 0, ykinds, yvalues, ar, beg, org, num, held, part, yqueue, upd ath (d + 1) (nI q), upd got d (nI 1), size, used, gm_cp 12 ((d + 1) * 12) (d * 12) yenv, args)) : wpY_receive post (ylim, yfuel, nI st, comp, opn, heap, ycur, yfoc, ypend, left, yalloc, yout, nI (d + 1), nI r, ysty, fail, fresh, ready, ykinds, yvalues, ar, beg, org, num, held, part, yqueue, ath, got, size, used, yenv, args) (nI d) := by
  refine gm_yr_o (by omega) hp hp64 (Or.inr ⟨hk, hg⟩) (gm_yr_or (by omega) hp hp64 hr ho ha hg ?_)
  refine br_t hk ?_
  rcases hcc with ⟨z, rfl⟩ | ⟨z, rfl⟩
  · refine br_t z ?_
    unfold wY_receive_257
    exact gm_ychild (c := 1) hst hok (by omega) (by omega) hp hc (by omega) hq h
  · refine br_f z ?_
    unfold wY_receive_257
    exact gm_ychild (c := 2) hst hok (by omega) (by omega) hp hc (by omega) hq h
theorem gm_yr_ol {post : SY → Prop} {E st d p r q : Nat} (hst : st ≤ 64) (hok : ∀ i, i < st → gm_ok ykinds yvalues scopes E i) (hd : d + 1 < 256) (hp : ath d = nI p) (hp64 : p < 64) (hk : ykinds p = 5) (hg : got d = nI 0) (hr : r < 512) (ho : org r = -1) (ha : vp_in (args (d * 8)) 512)
    (hc : gm_Chd (gm_w (gm_kd ykinds yvalues)) p 1 q) (hq : q ≤ st)
    (h : post (ylim, yfuel, nI st, comp, opn, heap, ycur, yfoc, ypend, left, gm_arr fresh ysty yalloc, yout, nI (d + 1 + 1), nI r, ysty, fail, 0, 0, ykinds, yvalues, ar, beg, org, num, held, part, yqueue, upd ath (d + 1) (nI q), upd got d (nI 1), size, used, gm_cp 12 ((d + 1) * 12) (d * 12) yenv, upd args (d * 8) (nI r))) : wpY_receive post (ylim, yfuel, nI st, comp, opn, heap, ycur, yfoc, ypend, left, yalloc, yout, nI (d + 1), nI r, ysty, fail, fresh, ready, ykinds, yvalues, ar, beg, org, num, held, part, yqueue, ath, got, size, used, yenv, args) (nI d) := by
  refine gm_yr_o (by omega) hp hp64 (Or.inl hk) (gm_yr_or (by omega) hp hp64 hr ho ha hg ?_)
  refine br_f (by rw [hk]; decide) (br_t rfl ?_)
  exact gm_ychild (c := 1) hst hok (by omega) (by omega) hp hc (by omega) hq h
theorem gm_yr_or2 {post : SY → Prop} {d p r a H : Nat} (hd : d < 256) (hp : ath d = nI p) (hp64 : p < 64) (hk : ykinds p = 5) (hg : got d = nI 1) (hr : r < 512) (ho : org r = -1) (ha : args (d * 8) = nI a) (ha2 : a < 512) (hH : H < 512)
    (h : post (ylim, yfuel, ystored, comp, opn, nI (H + 1), ycur, yfoc, ypend, left, gm_arr fresh ysty yalloc, yout, nI d, nI H, ysty, fail, 0, ready, ykinds, yvalues, ar, beg, upd org H (-1), upd num H (gm_op (yvalues p) (num a) (num r)), upd held H 0, part, yqueue, ath, upd got d (nI 2), size, used, yenv, args)) : wpY_receive post (ylim, yfuel, ystored, comp, opn, nI H, ycur, yfoc, ypend, left, yalloc, yout, nI (d + 1), nI r, ysty, fail, fresh, ready, ykinds, yvalues, ar, beg, org, num, held, part, yqueue, ath, got, size, used, yenv, args) (nI d) := by
  refine gm_yr_o hd hp hp64 (Or.inl hk) (gm_yr_or hd hp hp64 hr ho (by rw [ha]; exact vp_in_nI ha2 (by decide)) hg ?_)
  refine br_f (by rw [hk]; decide) (br_f (by decide) ?_)
  rw [ha, nI_clamp (show a < 2 ^ 31 by omega)]
  unfold wY_receive_327
  refine gm_ymake hH ?_
  dsimp only
  exact nm_r (nI_pred _) h
/-- apply -/
theorem gm_ya0 {post : SY → Prop} {d sz us r o h : Nat} (hd : d < 256) (hp : gm_Apf ykinds ath d) (hg : got d = nI sz) (hsz : size d = nI sz) (hus : used d = nI us) (hs8 : sz ≤ 8) (hu : us < sz) (hw : wpY_apply (fun u => match u with | (ylim, yfuel, ystored, comp, opn, heap, ycur, yfoc, ypend, left, yalloc, yout, depth, res, ysty, fail, fresh, ready, ykinds, yvalues, ar, beg, org, num, held, part, yqueue, ath, got, size, used, yenv, args) => post (ylim, yfuel, ystored, comp, opn, heap, ycur, yfoc, ypend, left, yalloc, yout, depth, res, ysty, fail, fresh, ready, ykinds, yvalues, ar, beg, org, num, held, part, yqueue, ath, got, size, used, yenv, args)) (ylim, yfuel, ystored, comp, opn, heap, ycur, yfoc, ypend, left, yalloc, yout, depth, res, ysty, fail, fresh, ready, ykinds, yvalues, ar, beg, org, num, held, part, yqueue, ath, got, size, used, yenv, args) (nI d)) : wpY_receive post (ylim, yfuel, ystored, comp, opn, heap, ycur, yfoc, ypend, left, yalloc, yout, depth, res, ysty, fail, fresh, ready, ykinds, yvalues, ar, beg, org, num, held, part, yqueue, ath, got, size, used, yenv, args) (nI d) := by
  have hv : vp_in (nI d) 256 := vp_in_nI hd (by decide)
  refine gm_yr_app0 hd hp hg hsz hs8 ?_
  unfold wY_receive_107
  rw [nI_clamp (show d < 2 ^ 31 by omega), hsz, hus]
  exact br_t rfl ⟨hv, hv, br_f (nI_ge hu (by omega)) hw⟩
theorem gm_yap_f {post : SY → Prop} {d sz us r : Nat} (hd : d < 256) (hp : gm_Apf ykinds ath d) (hg : got d = nI sz) (hsz : size d = nI sz) (hus : used d = nI us) (hs8 : sz ≤ 8) (hu : us < sz) (hr : r < 512) (ho : org r = -1) (h : post (ylim, yfuel, ystored, comp, opn, heap, ycur, yfoc, ypend, left, yalloc, yout, depth, nI r, ysty, 4, fresh, ready, ykinds, yvalues, ar, beg, org, num, held, part, yqueue, ath, got, size, used, yenv, args)) : wpY_receive post (ylim, yfuel, ystored, comp, opn, heap, ycur, yfoc, ypend, left, yalloc, yout, depth, nI r, ysty, fail, fresh, ready, ykinds, yvalues, ar, beg, org, num, held, part, yqueue, ath, got, size, used, yenv, args) (nI d) := by
  have hv : vp_in (nI d) 256 := vp_in_nI hd (by decide)
  have hv2 : vp_in (nI r) 512 := vp_in_nI hr (by decide)
  refine gm_ya0 (r := r) (o := 0) (h := 0) hd hp hg hsz hus hs8 hu ?_
  unfold wpY_apply
  dsimp only
  rw [nI_clamp (show r < 2 ^ 31 by omega)]
  exact ⟨hv2, nm_r ho ⟨hv2, nm_e ⟨hv, hv, nm_e ⟨hv, nm_e (br_f (by decide) h)⟩⟩⟩⟩
theorem gm_ya368 {post : SY → Prop} {d r o h ms kp e us : Nat} {q : Int32} (hd : d < 256) (he : e < 256) (hr : r < 512) (hk : h + ms + kp ≤ 12) (hus : used d = nI us) (hq : gm_Ent beg o q) :
    ∀ (n i : Nat) (yenv : Nat → Int32), i + n = kp → post (ylim, yfuel, ystored, comp, opn, heap, ycur, yfoc, ypend, left, yalloc, yout, nI (e + 1), res, ysty, fail, fresh, 0, ykinds, yvalues, ar, beg, org, num, held, part, yqueue, upd ath e q, got, size, upd used d (nI (us + ms)), gm_cq part n (e * 12 + h + ms + i) (r * 16 + h + i) yenv, args) → wY_apply_368 post (nI d) (nI r) (nI o) (nI h) (nI ms) (nI kp) (nI (e * 12)) ylim yfuel ystored comp opn heap ycur yfoc ypend left yalloc yout (nI e) res ysty fail fresh ready (n + 1) (nI i) ykinds yvalues ar beg org num held part yqueue ath got size used yenv args
  | 0, i, yenv, hi, hp => by
    have hv : vp_in (nI d) 256 := vp_in_nI hd (by decide)
    refine br_t (nI_le (by omega) (by omega)) ⟨hv, hv, ?_⟩
    rw [nI_clamp (show d < 2 ^ 31 by omega), nI_clamp (show e < 2 ^ 31 by omega), hus, nI_add]
    refine nm_e (nm_r (nI_1 _) ?_)
    rcases hq with ⟨h1, h2, h3⟩ | ⟨h1, h3⟩
    · subst h3
      refine br_t (nI_le (a := 8) h1 (by omega)) ⟨vp_in_nI he (by decide), ?_⟩
      rw [show nI o - 7 = nI (o - 7) from pk_sub (b := 7) (by omega)]
      exact nm_e hp
    · subst h3
      refine br_f (nI_ge (b := 8) h1 (by decide)) ⟨vp_in_nI h1 (by decide), vp_in_nI he (by decide), ?_⟩
      rw [nI_clamp (show o < 2 ^ 31 by omega)]
      exact nm_e hp
  | n + 1, i, yenv, hi, hp => by
    refine br_f (nI_ge (by omega) (by omega)) ?_
    rw [gm_m16, gm_i2, gm_i2, gm_i2, gm_i2, nI_clamp (show r * 16 + h + i < 2 ^ 31 by omega), nI_clamp (show e * 12 + h + ms + i < 2 ^ 31 by omega)]
    refine ⟨vp_in_nI (by omega) (by decide), vp_in_nI (by omega) (by decide), nm_e (nm_r (nI_1 _) ?_)⟩
    exact gm_ya368 hd he hr hk hus hq n (i + 1) _ (by omega) hp
theorem gm_ya329 {post : SY → Prop} {d r o h ms kp e us : Nat} {q : Int32} (hd : d < 256) (he : e < 256) (hr : r < 512) (hk : h + ms + kp ≤ 12) (hum : us + ms ≤ 8) (hus : used d = nI us) (hq : gm_Ent beg o q) :
    ∀ (n i : Nat) (yenv : Nat → Int32), i + n = ms → post (ylim, yfuel, ystored, comp, opn, heap, ycur, yfoc, ypend, left, yalloc, yout, nI (e + 1), res, ysty, fail, fresh, 0, ykinds, yvalues, ar, beg, org, num, held, part, yqueue, upd ath e q, got, size, upd used d (nI (us + ms)), gm_cq part kp (e * 12 + h + ms) (r * 16 + h) (gm_cq args n (e * 12 + h + i) (d * 8 + us + i) yenv), args) → wY_apply_329 post (nI d) (nI r) (nI o) (nI h) (nI (d * 8 + us)) (nI ms) (nI kp) (nI (e * 12)) ylim yfuel ystored comp opn heap ycur yfoc ypend left yalloc yout (nI e) res ysty fail fresh ready (n + 1) (nI i) ykinds yvalues ar beg org num held part yqueue ath got size used yenv args
  | 0, i, yenv, hi, hp => br_t (nI_le (by omega) (by omega)) ⟨kp + 1, gm_ya368 hd he hr hk hus hq kp 0 _ (by omega) hp⟩
  | n + 1, i, yenv, hi, hp => by
    refine br_f (nI_ge (by omega) (by omega)) ?_
    rw [gm_i2, gm_i2, gm_i2, nI_clamp (show d * 8 + us + i < 2 ^ 31 by omega), nI_clamp (show e * 12 + h + i < 2 ^ 31 by omega)]
    refine ⟨vp_in_nI (by omega) (by decide), vp_in_nI (by omega) (by decide), nm_e (nm_r (nI_1 _) ?_)⟩
    exact gm_ya329 hd he hr hk hum hus hq n (i + 1) _ (by omega) hp
theorem gm_ya291 {post : SY → Prop} {d r o h ms kp e us : Nat} {q : Int32} (hd : d < 256) (he : e < 256) (hr : r < 512) (hk : h + ms + kp ≤ 12) (hum : us + ms ≤ 8) (hus : used d = nI us) (hq : gm_Ent beg o q) :
    ∀ (n i : Nat) (yenv : Nat → Int32), i + n = h → post (ylim, yfuel, ystored, comp, opn, heap, ycur, yfoc, ypend, left, yalloc, yout, nI (e + 1), res, ysty, fail, fresh, 0, ykinds, yvalues, ar, beg, org, num, held, part, yqueue, upd ath e q, got, size, upd used d (nI (us + ms)), gm_cq part kp (e * 12 + h + ms) (r * 16 + h) (gm_cq args ms (e * 12 + h) (d * 8 + us) (gm_cq part n (e * 12 + i) (r * 16 + i) yenv)), args) → wY_apply_291 post (nI d) (nI r) (nI o) (nI h) (nI (d * 8 + us)) (nI ms) (nI kp) (nI (e * 12)) ylim yfuel ystored comp opn heap ycur yfoc ypend left yalloc yout (nI e) res ysty fail fresh ready (n + 1) (nI i) ykinds yvalues ar beg org num held part yqueue ath got size used yenv args
  | 0, i, yenv, hi, hp => br_t (nI_le (by omega) (by omega)) ⟨ms + 1, gm_ya329 hd he hr hk hum hus hq ms 0 _ (by omega) hp⟩
  | n + 1, i, yenv, hi, hp => by
    refine br_f (nI_ge (by omega) (by omega)) ?_
    rw [gm_m16, gm_i2, nI_clamp (show r * 16 + i < 2 ^ 31 by omega), nI_clamp (show e * 12 + i < 2 ^ 31 by omega)]
    refine ⟨vp_in_nI (by omega) (by decide), vp_in_nI (by omega) (by decide), nm_e (nm_r (nI_1 _) ?_)⟩
    exact gm_ya291 hd he hr hk hum hus hq n (i + 1) _ (by omega) hp
theorem gm_ya196 {post : SY → Prop} {d r h k kp H : Nat} (hr : r < 512) (hH : H < 512) (hk : h + k + kp ≤ 12) {al : Int32} (hal : (ysty = 1 ∧ al = yalloc + 1) ∨ (¬ ysty = 1 ∧ al = yalloc)) :
    ∀ (n i : Nat) (part : Nat → Int32), i + n = kp → post (ylim, yfuel, ystored, comp, opn, heap, ycur, yfoc, ypend, left, al, yout, nI d, nI H, ysty, fail, 1, ready, ykinds, yvalues, ar, beg, org, num, held, gm_cp n (H * 16 + h + k + i) (r * 16 + h + i) part, yqueue, ath, got, size, used, yenv, args) → wY_apply_196 post (nI r) (nI h) (nI k) (nI kp) ylim yfuel ystored comp opn heap ycur yfoc ypend left yalloc yout (nI (d + 1)) (nI H) ysty fail fresh ready (n + 1) (nI i) ykinds yvalues ar beg org num held part yqueue ath got size used yenv args
  | 0, i, part, hi, hp => by
    refine br_t (nI_le (by omega) (by omega)) ?_
    rcases hal with ⟨h1, rfl⟩ | ⟨h1, rfl⟩
    · refine br_t h1 (nm_e ?_)
      unfold wY_apply_263
      exact nm_r (nI_pred _) hp
    · refine br_f h1 ?_
      unfold wY_apply_263
      exact nm_r (nI_pred _) hp
  | n + 1, i, part, hi, hp => by
    refine br_f (nI_ge (by omega) (by omega)) ?_
    rw [gm_m16, gm_m16, gm_i2, gm_i2, gm_i2, nI_clamp (show r * 16 + h + i < 2 ^ 31 by omega), nI_clamp (show H * 16 + h + k + i < 2 ^ 31 by omega)]
    refine ⟨vp_in_nI (by omega) (by decide), vp_in_nI (by omega) (by decide), nm_e (nm_r (nI_1 _) ?_)⟩
    exact gm_ya196 hr hH hk hal n (i + 1) _ (by omega) hp
theorem gm_ya152 {post : SY → Prop} {d r h k kp H us : Nat} (hd : d < 256) (hr : r < 512) (hH : H < 512) (hk : h + k + kp ≤ 12) (huk : us + k ≤ 8) {al : Int32} (hal : (ysty = 1 ∧ al = yalloc + 1) ∨ (¬ ysty = 1 ∧ al = yalloc)) :
    ∀ (n i : Nat) (part : Nat → Int32), i + n = k → post (ylim, yfuel, ystored, comp, opn, heap, ycur, yfoc, ypend, left, al, yout, nI d, nI H, ysty, fail, 1, ready, ykinds, yvalues, ar, beg, org, num, held, gm_cp kp (H * 16 + h + k) (r * 16 + h) (gm_cq args n (H * 16 + h + i) (d * 8 + us + i) part), yqueue, ath, got, size, used, yenv, args) → wY_apply_152 post (nI r) (nI h) (nI k) (nI (d * 8 + us)) (nI kp) ylim yfuel ystored comp opn heap ycur yfoc ypend left yalloc yout (nI (d + 1)) (nI H) ysty fail fresh ready (n + 1) (nI i) ykinds yvalues ar beg org num held part yqueue ath got size used yenv args
  | 0, i, part, hi, hp => br_t (nI_le (by omega) (by omega)) ⟨kp + 1, gm_ya196 hr hH hk hal kp 0 _ (by omega) hp⟩
  | n + 1, i, part, hi, hp => by
    refine br_f (nI_ge (by omega) (by omega)) ?_
    rw [gm_m16, gm_i2, gm_i2, nI_clamp (show d * 8 + us + i < 2 ^ 31 by omega), nI_clamp (show H * 16 + h + i < 2 ^ 31 by omega)]
    refine ⟨vp_in_nI (by omega) (by decide), vp_in_nI (by omega) (by decide), nm_e (nm_r (nI_1 _) ?_)⟩
    exact gm_ya152 hd hr hH hk huk hal n (i + 1) _ (by omega) hp
theorem gm_ya109 {post : SY → Prop} {d r h k kp H us : Nat} (hd : d < 256) (hr : r < 512) (hH : H < 512) (hk : h + k + kp ≤ 12) (huk : us + k ≤ 8) {al : Int32} (hal : (ysty = 1 ∧ al = yalloc + 1) ∨ (¬ ysty = 1 ∧ al = yalloc)) :
    ∀ (n i : Nat) (part : Nat → Int32), i + n = h → post (ylim, yfuel, ystored, comp, opn, heap, ycur, yfoc, ypend, left, al, yout, nI d, nI H, ysty, fail, 1, ready, ykinds, yvalues, ar, beg, org, num, held, gm_cp kp (H * 16 + h + k) (r * 16 + h) (gm_cq args k (H * 16 + h) (d * 8 + us) (gm_cp n (H * 16 + i) (r * 16 + i) part)), yqueue, ath, got, size, used, yenv, args) → wY_apply_109 post (nI r) (nI h) (nI k) (nI (d * 8 + us)) (nI kp) ylim yfuel ystored comp opn heap ycur yfoc ypend left yalloc yout (nI (d + 1)) (nI H) ysty fail fresh ready (n + 1) (nI i) ykinds yvalues ar beg org num held part yqueue ath got size used yenv args
  | 0, i, part, hi, hp => br_t (nI_le (by omega) (by omega)) ⟨k + 1, gm_ya152 hd hr hH hk huk hal k 0 _ (by omega) hp⟩
  | n + 1, i, part, hi, hp => by
    refine br_f (nI_ge (by omega) (by omega)) ?_
    rw [gm_m16, gm_m16, nI_clamp (show r * 16 + i < 2 ^ 31 by omega), nI_clamp (show H * 16 + i < 2 ^ 31 by omega)]
    refine ⟨vp_in_nI (by omega) (by decide), vp_in_nI (by omega) (by decide), nm_e (nm_r (nI_1 _) ?_)⟩
    exact gm_ya109 hd hr hH hk huk hal n (i + 1) _ (by omega) hp
/-- apply with all that is missing -/
theorem gm_yap_e {post : SY → Prop} {d sz us r o hl ms e : Nat} {q : Int32} (hd : d < 256) (he : e < 256) (hp : gm_Apf ykinds ath d) (hg : got d = nI sz) (hsz : size d = nI sz) (hus : used d = nI us) (hs8 : sz ≤ 8) (hr : r < 512) (ho : org r = nI o) (ho2 : o < 100) (hh : held r = nI hl) (hO : gm_OO ar yvalues scopes o) (hms : hl + ms = gm_par ar yvalues o) (h1 : 1 ≤ ms) (hum : us + ms ≤ sz) (hk : hl + ms + gm_kp scopes o ≤ 12) (hq : gm_Ent beg o q)
    (hsc : 8 ≤ o → ∀ post : Int32 → Prop, post (nI (gm_vl scopes (o - 8))) → wpY_scopeAt post (ylim, yfuel, ystored, comp, opn, heap, ycur, yfoc, ypend, left, yalloc, yout, nI e, nI r, ysty, fail, fresh, ready, ykinds, yvalues, ar, beg, org, num, held, part, yqueue, ath, got, size, used, yenv, args) (nI (o - 8)))
    (h : post (ylim, yfuel, ystored, comp, opn, heap, ycur, yfoc, ypend, left, yalloc, yout, nI (e + 1), nI r, ysty, fail, fresh, 0, ykinds, yvalues, ar, beg, org, num, held, part, yqueue, upd ath e q, got, size, upd used d (nI (us + ms)), gm_eg e d r hl us ms (gm_kp scopes o) part args yenv, args)) : wpY_receive post (ylim, yfuel, ystored, comp, opn, heap, ycur, yfoc, ypend, left, yalloc, yout, nI e, nI r, ysty, fail, fresh, ready, ykinds, yvalues, ar, beg, org, num, held, part, yqueue, ath, got, size, used, yenv, args) (nI d) := by
  have hv : vp_in (nI d) 256 := vp_in_nI hd (by decide)
  have hv2 : vp_in (nI r) 512 := vp_in_nI hr (by decide)
  refine gm_ya0 (r := r) (o := 0) (h := 0) hd hp hg hsz hus hs8 (by omega) ?_
  unfold wpY_apply
  dsimp only
  rw [nI_clamp (show r < 2 ^ 31 by omega), nI_clamp (show d < 2 ^ 31 by omega), hsz, hus, gm_m8, pk_sub (show us ≤ sz by omega)]
  refine ⟨hv2, nm_r ho ⟨hv2, nm_r hh ⟨hv, hv, nm_e ⟨hv, nm_e (br_t (nI_pos' (by omega)) ?_)⟩⟩⟩⟩
  refine gm_ypar hO (nm_r (e' := nI ms) (by rw [← hms, pk_sub (by omega)]; exact congrArg nI (by omega)) ?_)
  refine gm_ykept ho2 hsc ?_
  refine br_t (nI_le (by omega) (by omega)) (nm_r (e' := nI (e * 12)) (pk_mul e 12) ⟨hl + 1, ?_⟩)
  exact gm_ya291 hd he hr hk (by omega) hus hq hl 0 yenv (by omega) h
/-- apply with too few -/
theorem gm_yap_p {post : SY → Prop} {d sz us r o hl H : Nat} (hd : d < 256) (hp : gm_Apf ykinds ath d) (hg : got d = nI sz) (hsz : size d = nI sz) (hus : used d = nI us) (hs8 : sz ≤ 8) (hu : us < sz) (hr : r < 512) (hH : H < 512) (ho : org r = nI o) (ho2 : o < 100) (hh : held r = nI hl) (hO : gm_OO ar yvalues scopes o) (hms : hl + (sz - us) < gm_par ar yvalues o) (hpl : gm_par ar yvalues o < 100) (hk : hl + (sz - us) + gm_kp scopes o ≤ 12) {al : Int32} (hal : (ysty = 1 ∧ al = yalloc + 1) ∨ (¬ ysty = 1 ∧ al = yalloc))
    (hsc : 8 ≤ o → ∀ post : Int32 → Prop, post (nI (gm_vl scopes (o - 8))) → wpY_scopeAt post (ylim, yfuel, ystored, comp, opn, nI H, ycur, yfoc, ypend, left, yalloc, yout, nI (d + 1), nI r, ysty, fail, fresh, ready, ykinds, yvalues, ar, beg, org, num, held, part, yqueue, ath, got, size, used, yenv, args) (nI (o - 8)))
    (h : post (ylim, yfuel, ystored, comp, opn, nI (H + 1), ycur, yfoc, ypend, left, al, yout, nI d, nI H, ysty, fail, 1, ready, ykinds, yvalues, ar, beg, upd org H (nI o), upd num H 0, upd (upd held H 0) H (nI (hl + (sz - us))), gm_pg H d r hl us (sz - us) (gm_kp scopes o) args part, yqueue, ath, got, size, used, yenv, args)) : wpY_receive post (ylim, yfuel, ystored, comp, opn, nI H, ycur, yfoc, ypend, left, yalloc, yout, nI (d + 1), nI r, ysty, fail, fresh, ready, ykinds, yvalues, ar, beg, org, num, held, part, yqueue, ath, got, size, used, yenv, args) (nI d) := by
  have hv : vp_in (nI d) 256 := vp_in_nI hd (by decide)
  have hv2 : vp_in (nI r) 512 := vp_in_nI hr (by decide)
  refine gm_ya0 (r := r) (o := 0) (h := 0) hd hp hg hsz hus hs8 (by omega) ?_
  unfold wpY_apply
  dsimp only
  rw [nI_clamp (show r < 2 ^ 31 by omega), nI_clamp (show d < 2 ^ 31 by omega), hsz, hus, gm_m8, pk_sub (show us ≤ sz by omega)]
  refine ⟨hv2, nm_r ho ⟨hv2, nm_r hh ⟨hv, hv, nm_e ⟨hv, nm_e (br_t (nI_pos' (by omega)) ?_)⟩⟩⟩⟩
  refine gm_ypar hO (nm_r (pk_sub (by omega)) ?_)
  refine gm_ykept ho2 hsc ?_
  refine br_f (nI_ge (by omega) (by omega)) (gm_ymake hH ?_)
  dsimp only
  rw [nI_clamp (show H < 2 ^ 31 by omega), nI_add]
  refine ⟨vp_in_nI hH (by decide), nm_e ⟨hl + 1, ?_⟩⟩
  exact gm_ya109 hd hr hH hk (by omega) hal hl 0 part (by omega) h
end
end
section
/-! the component's evaluate, apply, resume, each case with a general post -/
section
variable {t0 t1 t2 t3 t4 : Int32} {fb im : Int64} {lim defs stored wanted blocks sp mark frames style ev pc env : Int32} {acc : Int64} {budget fuel alloc out pres : Int32} {cur foc : Int64} {qd : Int32} {params first kinds values scopes child place : Nat → Int32} {cells : Nat → Int64} {orgs helds : Nat → Int32} {pend : Nat → Int64} {fT fN fE fM fD queue : Nat → Int32}
theorem gm_xe_0 {post : SX → Prop} (h : post (t0, t1, t2, t3, t4, fb, im, lim, defs, stored, wanted, blocks, sp, mark, frames, style, ev, pc, env, acc, budget, nI 0, alloc, 3, pres, cur, foc, qd, params, first, kinds, values, scopes, child, place, cells, orgs, helds, pend, fT, fN, fE, fM, fD, queue)) : wpX_evaluate post (t0, t1, t2, t3, t4, fb, im, lim, defs, stored, wanted, blocks, sp, mark, frames, style, ev, pc, env, acc, budget, nI 0, alloc, out, pres, cur, foc, qd, params, first, kinds, values, scopes, child, place, cells, orgs, helds, pend, fT, fN, fE, fM, fD, queue) := by
  unfold wpX_evaluate
  dsimp only
  exact br_t rfl h
theorem gm_xe_int {post : SX → Prop} {fu p : Nat} (hfu : fu < 1000) (hp : p < 64) (hk : kinds p = 0) (h : post (t0, t1, t2, t3, t4, fb, im, lim, defs, stored, wanted, blocks, sp, mark, frames, style, 0, nI p, env, gm_enc (values p), budget, nI fu, alloc, out, pres, cur, foc, qd, params, first, kinds, values, scopes, child, place, cells, orgs, helds, pend, fT, fN, fE, fM, fD, queue)) : wpX_evaluate post (t0, t1, t2, t3, t4, fb, im, lim, defs, stored, wanted, blocks, sp, mark, frames, style, ev, nI p, env, acc, budget, nI (fu + 1), alloc, out, pres, cur, foc, qd, params, first, kinds, values, scopes, child, place, cells, orgs, helds, pend, fT, fN, fE, fM, fD, queue) := by
  have hv : vp_in (nI p) 64 := vp_in_nI hp (by decide)
  unfold wpX_evaluate
  dsimp only
  rw [nI_clamp (show p < 2 ^ 31 by omega), hk]
  exact br_f (nI_ne0 (by omega) (by omega)) (nm_r (nI_pred _) ⟨hv, nm_e ⟨hv, nm_e (br_f (by decide) (br_f (by decide) (br_t rfl h)))⟩⟩)
theorem gm_xe_var {post : SX → Prop} {fu p e v : Nat} (hfu : fu < 1000) (hp : p < 64) (hk : kinds p = 1) (hv2 : values p = nI v) (hv12 : v < 12) (he : e < 512) (h : post (t0, t1, t2, t3, t4, fb, im, lim, defs, stored, wanted, blocks, sp, mark, frames, style, 0, nI p, nI e, cells (e * 12 + v), budget, nI fu, alloc, out, pres, cur, foc, qd, params, first, kinds, values, scopes, child, place, cells, orgs, helds, pend, fT, fN, fE, fM, fD, queue)) : wpX_evaluate post (t0, t1, t2, t3, t4, fb, im, lim, defs, stored, wanted, blocks, sp, mark, frames, style, ev, nI p, nI e, acc, budget, nI (fu + 1), alloc, out, pres, cur, foc, qd, params, first, kinds, values, scopes, child, place, cells, orgs, helds, pend, fT, fN, fE, fM, fD, queue) := by
  have hv : vp_in (nI p) 64 := vp_in_nI hp (by decide)
  unfold wpX_evaluate
  dsimp only
  rw [nI_clamp (show p < 2 ^ 31 by omega), hk]
  refine br_f (nI_ne0 (by omega) (by omega)) (nm_r (nI_pred _) ⟨hv, nm_r hv2 ⟨hv, nm_e (br_f (by decide) (br_f (by decide) (br_f (by decide) (br_t rfl ?_))))⟩⟩)
  rw [gm_m12, nI_clamp (show e * 12 + v < 2 ^ 31 by omega)]
  exact ⟨vp_in_nI (by omega) (by decide), h⟩
theorem gm_xe_glob {post : SX → Prop} {fu p v : Nat} (hfu : fu < 1000) (hp : p < 64) (hk : kinds p = 2) (hv2 : values p = nI v) (h : post (t0, t1, t2, t3, t4, fb, im, lim, defs, stored, wanted, blocks, sp, mark, frames, style, 0, nI p, env, gm_fb v, budget, nI fu, alloc, out, pres, cur, foc, qd, params, first, kinds, values, scopes, child, place, cells, orgs, helds, pend, fT, fN, fE, fM, fD, queue)) : wpX_evaluate post (t0, t1, t2, t3, t4, fb, im, lim, defs, stored, wanted, blocks, sp, mark, frames, style, ev, nI p, env, acc, budget, nI (fu + 1), alloc, out, pres, cur, foc, qd, params, first, kinds, values, scopes, child, place, cells, orgs, helds, pend, fT, fN, fE, fM, fD, queue) := by
  have hv : vp_in (nI p) 64 := vp_in_nI hp (by decide)
  unfold wpX_evaluate
  dsimp only
  rw [nI_clamp (show p < 2 ^ 31 by omega), hk, hv2]
  exact br_f (nI_ne0 (by omega) (by omega)) (nm_r (nI_pred _) ⟨hv, nm_e ⟨hv, nm_e (br_f (by decide) (br_f (by decide) (br_f (by decide) (br_f (by decide) (br_t rfl h)))))⟩⟩)
theorem gm_xe_fun {post : SX → Prop} {fu p : Nat} (hfu : fu < 1000) (hp : p < 64) (hk : kinds p = 3) (h : ∀ C : SX → Prop, (∀ {t0 t1 t2 t3 t4 : Int32} {fb im : Int64} {lim defs stored wanted blocks sp mark frames style ev pc env : Int32} {acc : Int64} {budget fuel alloc out pres : Int32} {cur foc : Int64} {qd : Int32} {params first kinds values scopes child place : Nat → Int32} {cells : Nat → Int64} {orgs helds : Nat → Int32} {pend : Nat → Int64} {fT fN fE fM fD queue : Nat → Int32}, post (t0, t1, t2, t3, t4, fb, im, lim, defs, stored, wanted, blocks, sp, mark, frames, style, ev, pc, env, acc, budget, fuel, alloc, out, pres, cur, foc, qd, params, first, kinds, values, scopes, child, place, cells, orgs, helds, pend, fT, fN, fE, fM, fD, queue) → C (t0, t1, t2, t3, t4, fb, im, lim, defs, stored, wanted, blocks, sp, mark, frames, style, ev, pc, env, acc, budget, fuel, alloc, out, pres, cur, foc, qd, params, first, kinds, values, scopes, child, place, cells, orgs, helds, pend, fT, fN, fE, fM, fD, queue)) → wpX_grab C (t0, t1, t2, t3, t4, fb, im, lim, defs, stored, wanted, blocks, sp, mark, frames, style, ev, nI p, env, acc, budget, nI fu, alloc, out, pres, cur, foc, qd, params, first, kinds, values, scopes, child, place, cells, orgs, helds, pend, fT, fN, fE, fM, fD, queue) (nI (8 + p)) env (nI 0)) : wpX_evaluate post (t0, t1, t2, t3, t4, fb, im, lim, defs, stored, wanted, blocks, sp, mark, frames, style, ev, nI p, env, acc, budget, nI (fu + 1), alloc, out, pres, cur, foc, qd, params, first, kinds, values, scopes, child, place, cells, orgs, helds, pend, fT, fN, fE, fM, fD, queue) := by
  have hv : vp_in (nI p) 64 := vp_in_nI hp (by decide)
  unfold wpX_evaluate
  dsimp only
  rw [nI_clamp (show p < 2 ^ 31 by omega), hk]
  refine br_f (nI_ne0 (by omega) (by omega)) (nm_r (nI_pred _) ⟨hv, nm_e ⟨hv, nm_e (br_f (by decide) (br_f (by decide) (br_f (by decide) (br_f (by decide) (br_f (by decide) (br_t rfl ?_))))))⟩⟩)
  rw [show (8 : Int32) + nI p = nI (8 + p) from nI_add 8 p]
  refine h _ ?_
  intros
  assumption
theorem gm_xe_app {post : SX → Prop} {fu p F v q : Nat} (hfu : fu < 1000) (hp : p < 64) (hk : kinds p = 4) (hv2 : values p = nI v) (hv4 : v < 5) (hF : F < 512) (hq : child (p * 5 + v) = nI q) (h : post (t0, t1, t2, t3, t4, fb, im, lim, defs, stored, wanted, blocks, sp, sp, nI (F + 1), style, 1, nI q, env, acc, budget, nI fu, alloc, out, pres, cur, foc, qd, params, first, kinds, values, scopes, child, place, cells, orgs, helds, pend, upd fT F 0, upd fN F (nI p), upd fE F env, upd fM F mark, upd fD F (nI v), queue)) : wpX_evaluate post (t0, t1, t2, t3, t4, fb, im, lim, defs, stored, wanted, blocks, sp, mark, nI F, style, ev, nI p, env, acc, budget, nI (fu + 1), alloc, out, pres, cur, foc, qd, params, first, kinds, values, scopes, child, place, cells, orgs, helds, pend, fT, fN, fE, fM, fD, queue) := by
  have hv : vp_in (nI p) 64 := vp_in_nI hp (by decide)
  unfold wpX_evaluate
  dsimp only
  rw [nI_clamp (show p < 2 ^ 31 by omega), hk, hv2]
  refine br_f (nI_ne0 (by omega) (by omega)) (nm_r (nI_pred _) ⟨hv, nm_e ⟨hv, nm_e (br_f (by decide) (br_f (by decide) (br_f (by decide) (br_f (by decide) (br_f (by decide) (br_f (by decide) (br_t rfl ?_)))))))⟩⟩)
  exact gm_xdesc hF hp hv4 hq h
theorem gm_xe_op {post : SX → Prop} {fu p F q : Nat} (hfu : fu < 1000) (hp : p < 64) (hk : kinds p = 5) (hF : F < 512) (hq : child (p * 5 + 0) = nI q) (h : post (t0, t1, t2, t3, t4, fb, im, lim, defs, stored, wanted, blocks, sp, sp, nI (F + 1), style, 1, nI q, env, acc, budget, nI fu, alloc, out, pres, cur, foc, qd, params, first, kinds, values, scopes, child, place, cells, orgs, helds, pend, upd fT F 1, upd fN F (nI p), upd fE F env, upd fM F mark, upd fD F 0, queue)) : wpX_evaluate post (t0, t1, t2, t3, t4, fb, im, lim, defs, stored, wanted, blocks, sp, mark, nI F, style, ev, nI p, env, acc, budget, nI (fu + 1), alloc, out, pres, cur, foc, qd, params, first, kinds, values, scopes, child, place, cells, orgs, helds, pend, fT, fN, fE, fM, fD, queue) := by
  have hv : vp_in (nI p) 64 := vp_in_nI hp (by decide)
  unfold wpX_evaluate
  dsimp only
  rw [nI_clamp (show p < 2 ^ 31 by omega), hk]
  refine br_f (nI_ne0 (by omega) (by omega)) (nm_r (nI_pred _) ⟨hv, nm_e ⟨hv, nm_e (br_f (by decide) (br_f (by decide) (br_f (by decide) (br_f (by decide) (br_f (by decide) (br_f (by decide) (br_f (by decide) (br_t rfl ?_))))))))⟩⟩)
  exact gm_xdesc (c := 0) hF hp (by omega) hq h
theorem gm_xe_if {post : SX → Prop} {fu p F q : Nat} (hfu : fu < 1000) (hp : p < 64) (hk : kinds p = 6) (hF : F < 512) (hq : child (p * 5 + 0) = nI q) (h : post (t0, t1, t2, t3, t4, fb, im, lim, defs, stored, wanted, blocks, sp, sp, nI (F + 1), style, 1, nI q, env, acc, budget, nI fu, alloc, out, pres, cur, foc, qd, params, first, kinds, values, scopes, child, place, cells, orgs, helds, pend, upd fT F 3, upd fN F (nI p), upd fE F env, upd fM F mark, upd fD F 0, queue)) : wpX_evaluate post (t0, t1, t2, t3, t4, fb, im, lim, defs, stored, wanted, blocks, sp, mark, nI F, style, ev, nI p, env, acc, budget, nI (fu + 1), alloc, out, pres, cur, foc, qd, params, first, kinds, values, scopes, child, place, cells, orgs, helds, pend, fT, fN, fE, fM, fD, queue) := by
  have hv : vp_in (nI p) 64 := vp_in_nI hp (by decide)
  unfold wpX_evaluate
  dsimp only
  rw [nI_clamp (show p < 2 ^ 31 by omega), hk]
  refine br_f (nI_ne0 (by omega) (by omega)) (nm_r (nI_pred _) ⟨hv, nm_e ⟨hv, nm_e (br_f (by decide) (br_t (by decide) ?_))⟩⟩)
  exact gm_xdesc (c := 0) hF hp (by omega) hq h
theorem gm_xif_0 {post : Int32 → Prop} {z : Int32} (h : post 0) : wpX_isFunction post (t0, t1, t2, t3, t4, fb, im, lim, defs, stored, wanted, blocks, sp, mark, frames, style, ev, pc, env, acc, budget, fuel, alloc, out, pres, cur, foc, qd, params, first, kinds, values, scopes, child, place, cells, orgs, helds, pend, fT, fN, fE, fM, fD, queue) (gm_enc z) := by
  unfold wpX_isFunction
  dsimp only
  exact br_t (gm_enc_lt z) h
theorem gm_xif_1 {post : Int32 → Prop} {b : Nat} (hb : b < 512) (h : post 1) : wpX_isFunction post (t0, t1, t2, t3, t4, fb, im, lim, defs, stored, wanted, blocks, sp, mark, frames, style, ev, pc, env, acc, budget, fuel, alloc, out, pres, cur, foc, qd, params, first, kinds, values, scopes, child, place, cells, orgs, helds, pend, fT, fN, fE, fM, fD, queue) (gm_fb b) := by
  unfold wpX_isFunction
  dsimp only
  exact br_f (gm_fb_ge (by omega)) h
theorem gm_xa_0 {post : SX → Prop} {z : Int32} (h : post (t0, t1, t2, t3, t4, fb, im, lim, defs, stored, wanted, blocks, sp, mark, frames, style, ev, pc, env, gm_enc z, budget, fuel, alloc, 4, pres, cur, foc, qd, params, first, kinds, values, scopes, child, place, cells, orgs, helds, pend, fT, fN, fE, fM, fD, queue)) : wpX_apply post (t0, t1, t2, t3, t4, fb, im, lim, defs, stored, wanted, blocks, sp, mark, frames, style, ev, pc, env, gm_enc z, budget, fuel, alloc, out, pres, cur, foc, qd, params, first, kinds, values, scopes, child, place, cells, orgs, helds, pend, fT, fN, fE, fM, fD, queue) := by
  unfold wpX_apply
  dsimp only
  exact gm_xif_0 (br_t rfl h)
theorem gm_xa_1 {post : SX → Prop} {b o hl : Nat} (hb : b < 512) (ho : orgs b = nI o) (hh : helds b = nI hl) (h : ∀ C : SX → Prop, (∀ {t0 t1 t2 t3 t4 : Int32} {fb im : Int64} {lim defs stored wanted blocks sp mark frames style ev pc env : Int32} {acc : Int64} {budget fuel alloc out pres : Int32} {cur foc : Int64} {qd : Int32} {params first kinds values scopes child place : Nat → Int32} {cells : Nat → Int64} {orgs helds : Nat → Int32} {pend : Nat → Int64} {fT fN fE fM fD queue : Nat → Int32}, post (t0, t1, t2, t3, t4, fb, im, lim, defs, stored, wanted, blocks, sp, mark, frames, style, ev, pc, env, acc, budget, fuel, alloc, out, pres, cur, foc, qd, params, first, kinds, values, scopes, child, place, cells, orgs, helds, pend, fT, fN, fE, fM, fD, queue) → C (t0, t1, t2, t3, t4, fb, im, lim, defs, stored, wanted, blocks, sp, mark, frames, style, ev, pc, env, acc, budget, fuel, alloc, out, pres, cur, foc, qd, params, first, kinds, values, scopes, child, place, cells, orgs, helds, pend, fT, fN, fE, fM, fD, queue)) → wpX_grab C (t0, t1, t2, t3, t4, fb, im, lim, defs, stored, wanted, blocks, sp, mark, frames, style, ev, pc, env, gm_fb b, budget, fuel, alloc, out, pres, cur, foc, qd, params, first, kinds, values, scopes, child, place, cells, orgs, helds, pend, fT, fN, fE, fM, fD, queue) (nI o) (nI b) (nI hl)) : wpX_apply post (t0, t1, t2, t3, t4, fb, im, lim, defs, stored, wanted, blocks, sp, mark, frames, style, ev, pc, env, gm_fb b, budget, fuel, alloc, out, pres, cur, foc, qd, params, first, kinds, values, scopes, child, place, cells, orgs, helds, pend, fT, fN, fE, fM, fD, queue) := by
  have hv : vp_in (nI b) 512 := vp_in_nI hb (by decide)
  unfold wpX_apply
  dsimp only
  refine gm_xif_1 hb (br_f (by decide) ?_)
  rw [gm_fb_i (by omega), nI_clamp (show b < 2 ^ 31 by omega), ho, hh]
  refine ⟨hv, hv, h _ ?_⟩
  intros
  assumption
theorem gm_xr_e0 {post : SX → Prop} {z : Int32} (h : post (t0, t1, t2, t3, t4, fb, im, lim, defs, stored, wanted, blocks, sp, mark, nI 0, style, ev, pc, env, gm_enc z, budget, fuel, alloc, 1, pres, cur, foc, qd, params, first, kinds, values, scopes, child, place, cells, orgs, helds, pend, fT, fN, fE, fM, fD, queue)) : wpX_resume post (t0, t1, t2, t3, t4, fb, im, lim, defs, stored, wanted, blocks, sp, mark, nI 0, style, ev, pc, env, gm_enc z, budget, fuel, alloc, out, pres, cur, foc, qd, params, first, kinds, values, scopes, child, place, cells, orgs, helds, pend, fT, fN, fE, fM, fD, queue) := by
  unfold wpX_resume
  dsimp only
  exact br_t rfl (gm_xif_0 (br_t rfl h))
theorem gm_xr_e1 {post : SX → Prop} {b : Nat} (hb : b < 512) (h : post (t0, t1, t2, t3, t4, fb, im, lim, defs, stored, wanted, blocks, sp, mark, nI 0, style, ev, pc, env, gm_fb b, budget, fuel, alloc, 2, pres, cur, foc, qd, params, first, kinds, values, scopes, child, place, cells, orgs, helds, pend, fT, fN, fE, fM, fD, queue)) : wpX_resume post (t0, t1, t2, t3, t4, fb, im, lim, defs, stored, wanted, blocks, sp, mark, nI 0, style, ev, pc, env, gm_fb b, budget, fuel, alloc, out, pres, cur, foc, qd, params, first, kinds, values, scopes, child, place, cells, orgs, helds, pend, fT, fN, fE, fM, fD, queue) := by
  unfold wpX_resume
  dsimp only
  exact br_t rfl (gm_xif_1 hb (br_f (by decide) h))
/-- resume with a frame, up to the branch over the task -/
theorem gm_xr_0 {post : SX → Prop} {F : Nat} {nd en mk dt tk : Int32} (hF : F < 512) (e1 : fN F = nd) (e2 : fE F = en) (e3 : fM F = mk) (e4 : fD F = dt) (e5 : fT F = tk)
    (h : (tk = 0 → wpX_acceptArgument (fun u => match u with | (t0, t1, t2, t3, t4, fb, im, lim, defs, stored, wanted, blocks, sp, mark, frames, style, ev, pc, env, acc, budget, fuel, alloc, out, pres, cur, foc, qd, params, first, kinds, values, scopes, child, place, cells, orgs, helds, pend, fT, fN, fE, fM, fD, queue) => post (t0, t1, t2, t3, t4, fb, im, lim, defs, stored, wanted, blocks, sp, mark, frames, style, ev, pc, env, acc, budget, fuel, alloc, out, pres, cur, foc, qd, params, first, kinds, values, scopes, child, place, cells, orgs, helds, pend, fT, fN, fE, fM, fD, queue)) (t0, t1, t2, t3, t4, fb, im, lim, defs, stored, wanted, blocks, sp, mk, nI F, style, ev, nd, en, acc, budget, fuel, alloc, out, pres, cur, foc, qd, params, first, kinds, values, scopes, child, place, cells, orgs, helds, pend, fT, fN, fE, fM, fD, queue) dt) ∧ (¬ tk = 0 → ((tk = 4 → post (t0, t1, t2, t3, t4, fb, im, lim, defs, stored, wanted, blocks, sp, mk, nI F, style, ev, nd, en, acc, budget, fuel, alloc, out, pres, cur, foc, qd, params, first, kinds, values, scopes, child, place, cells, orgs, helds, pend, fT, fN, fE, fM, fD, queue)) ∧ (¬ tk = 4 → wpX_acceptOperand (fun u => match u with | (t0, t1, t2, t3, t4, fb, im, lim, defs, stored, wanted, blocks, sp, mark, frames, style, ev, pc, env, acc, budget, fuel, alloc, out, pres, cur, foc, qd, params, first, kinds, values, scopes, child, place, cells, orgs, helds, pend, fT, fN, fE, fM, fD, queue) => post (t0, t1, t2, t3, t4, fb, im, lim, defs, stored, wanted, blocks, sp, mark, frames, style, ev, pc, env, acc, budget, fuel, alloc, out, pres, cur, foc, qd, params, first, kinds, values, scopes, child, place, cells, orgs, helds, pend, fT, fN, fE, fM, fD, queue)) (t0, t1, t2, t3, t4, fb, im, lim, defs, stored, wanted, blocks, sp, mk, nI F, style, ev, nd, en, acc, budget, fuel, alloc, out, pres, cur, foc, qd, params, first, kinds, values, scopes, child, place, cells, orgs, helds, pend, fT, fN, fE, fM, fD, queue) tk dt)))) : wpX_resume post (t0, t1, t2, t3, t4, fb, im, lim, defs, stored, wanted, blocks, sp, mark, nI (F + 1), style, ev, pc, env, acc, budget, fuel, alloc, out, pres, cur, foc, qd, params, first, kinds, values, scopes, child, place, cells, orgs, helds, pend, fT, fN, fE, fM, fD, queue) := by
  have hv : vp_in (nI F) 512 := vp_in_nI hF (by decide)
  unfold wpX_resume
  dsimp only
  refine br_f (nI_ne0 (by omega) (by omega)) (nm_r (nI_pred _) ?_)
  rw [nI_clamp (show F < 2 ^ 31 by omega)]
  exact ⟨hv, nm_r e1 ⟨hv, nm_r e2 ⟨hv, nm_r e3 ⟨hv, nm_r e4 ⟨hv, nm_r e5 h⟩⟩⟩⟩⟩
theorem gm_xr_call {post : SX → Prop} {F : Nat} {mk : Int32} (hF : F < 512) (e3 : fM F = mk) (e5 : fT F = 4) (h : post (t0, t1, t2, t3, t4, fb, im, lim, defs, stored, wanted, blocks, sp, mk, nI F, style, ev, fN F, fE F, acc, budget, fuel, alloc, out, pres, cur, foc, qd, params, first, kinds, values, scopes, child, place, cells, orgs, helds, pend, fT, fN, fE, fM, fD, queue)) : wpX_resume post (t0, t1, t2, t3, t4, fb, im, lim, defs, stored, wanted, blocks, sp, mark, nI (F + 1), style, ev, pc, env, acc, budget, fuel, alloc, out, pres, cur, foc, qd, params, first, kinds, values, scopes, child, place, cells, orgs, helds, pend, fT, fN, fE, fM, fD, queue) :=
  gm_xr_0 hF rfl rfl e3 rfl e5 (br_f (by decide) (br_t rfl h))
/-- an argument, with one more to come -/
theorem gm_xr_arg {post : SX → Prop} {F S p c q : Nat} {en mk : Int32} (hF : F < 512) (hS : S < 512) (hp : p < 64) (hc1 : 1 ≤ c) (hc : c < 5) (hq : child (p * 5 + c) = nI q) (e1 : fN F = nI p) (e2 : fE F = en) (e3 : fM F = mk) (e4 : fD F = nI (c + 1)) (e5 : fT F = 0)
    (h : post (t0, t1, t2, t3, t4, fb, im, lim, defs, stored, wanted, blocks, nI (S + 1), nI (S + 1), nI (F + 1), style, 1, nI q, en, acc, budget, fuel, alloc, out, pres, cur, foc, qd, params, first, kinds, values, scopes, child, place, cells, orgs, helds, vp_updL pend S acc, upd fT F 0, upd fN F (nI p), upd fE F en, upd fM F mk, upd fD F (nI c), queue)) : wpX_resume post (t0, t1, t2, t3, t4, fb, im, lim, defs, stored, wanted, blocks, nI S, mark, nI (F + 1), style, ev, pc, env, acc, budget, fuel, alloc, out, pres, cur, foc, qd, params, first, kinds, values, scopes, child, place, cells, orgs, helds, pend, fT, fN, fE, fM, fD, queue) := by
  refine gm_xr_0 hF e1 e2 e3 e4 e5 (br_t rfl ?_)
  unfold wpX_acceptArgument
  dsimp only
  rw [nI_clamp (show S < 2 ^ 31 by omega)]
  refine ⟨vp_in_nI hS (by decide), nm_e (nm_r (nI_1 _) (br_f (nI_ge (a := 1) (b := c + 1) (by omega) (by omega)) ?_))⟩
  rw [nI_pred]
  exact gm_xdesc hF hp hc hq h
/-- the head behind the last argument: hidden or not -/
theorem gm_xr_head {post : SX → Prop} {F S p q : Nat} {en mk : Int32} (hF : F < 512) (hS : S < 512) (hp : p < 64) (hq : child (p * 5 + 0) = nI q) (hq64 : q < 64) (e1 : fN F = nI p) (e2 : fE F = en) (e3 : fM F = mk) (e4 : fD F = nI 1) (e5 : fT F = 0)
    (hvq : kinds q = 3 → values q = nI (gm_vl values q) ∧ gm_vl values q < 100) (hvp : values p = nI (gm_vl values p) ∧ gm_vl values p < 100)
    (h : (¬ style = 1 ∨ kinds q = 2 ∨ (kinds q = 3 ∧ gm_vl values q ≤ gm_vl values p)) → post (t0, t1, t2, t3, t4, fb, im, lim, defs, stored, wanted, blocks, nI (S + 1), mk, nI F, style, 1, nI q, en, acc, budget, fuel, alloc, out, pres, cur, foc, qd, params, first, kinds, values, scopes, child, place, cells, orgs, helds, vp_updL pend S acc, fT, fN, fE, fM, fD, queue))
    (h' : style = 1 → ¬ kinds q = 2 → (kinds q = 3 → gm_vl values p < gm_vl values q) → post (t0, t1, t2, t3, t4, fb, im, lim, defs, stored, wanted, blocks, nI (S + 1), nI (S + 1), nI (F + 1), style, 1, nI q, en, acc, budget, fuel, alloc, out, pres, cur, foc, qd, params, first, kinds, values, scopes, child, place, cells, orgs, helds, vp_updL pend S acc, upd fT F 4, upd fN F (nI p), upd fE F en, upd fM F mk, upd fD F 0, queue)) : wpX_resume post (t0, t1, t2, t3, t4, fb, im, lim, defs, stored, wanted, blocks, nI S, mark, nI (F + 1), style, ev, pc, env, acc, budget, fuel, alloc, out, pres, cur, foc, qd, params, first, kinds, values, scopes, child, place, cells, orgs, helds, pend, fT, fN, fE, fM, fD, queue) := by
  have hv : vp_in (nI q) 64 := vp_in_nI hq64 (by decide)
  refine gm_xr_0 hF e1 e2 e3 e4 e5 (br_t rfl ?_)
  unfold wpX_acceptArgument
  dsimp only
  rw [nI_clamp (show S < 2 ^ 31 by omega)]
  refine ⟨vp_in_nI hS (by decide), nm_e (nm_r (nI_1 _) (br_t (by decide) ?_))⟩
  unfold wpX_evaluateHead
  dsimp only
  rw [show nI p * 5 = nI (p * 5) from pk_mul p 5]
  refine ⟨vp_in_nI (by omega) (by decide), nm_r (e' := nI q) (by rw [nI_clamp (by omega)]; exact hq) ⟨hv, ?_⟩⟩
  rw [nI_clamp (show q < 2 ^ 31 by omega), nI_clamp (show p < 2 ^ 31 by omega)]
  have kn : (¬ style = 1 ∨ kinds q = 2 ∨ (kinds q = 3 ∧ gm_vl values q ≤ gm_vl values p)) → ∀ C : SX → Prop, (∀ {t0 t1 t2 t3 t4 : Int32} {fb im : Int64} {lim defs stored wanted blocks sp mark frames style ev pc env : Int32} {acc : Int64} {budget fuel alloc out pres : Int32} {cur foc : Int64} {qd : Int32} {params first kinds values scopes child place : Nat → Int32} {cells : Nat → Int64} {orgs helds : Nat → Int32} {pend : Nat → Int64} {fT fN fE fM fD queue : Nat → Int32}, post (t0, t1, t2, t3, t4, fb, im, lim, defs, stored, wanted, blocks, sp, mark, frames, style, ev, pc, env, acc, budget, fuel, alloc, out, pres, cur, foc, qd, params, first, kinds, values, scopes, child, place, cells, orgs, helds, pend, fT, fN, fE, fM, fD, queue) → C (t0, t1, t2, t3, t4, fb, im, lim, defs, stored, wanted, blocks, sp, mark, frames, style, ev, pc, env, acc, budget, fuel, alloc, out, pres, cur, foc, qd, params, first, kinds, values, scopes, child, place, cells, orgs, helds, pend, fT, fN, fE, fM, fD, queue)) → wX_evaluateHead_50 C (nI q) t0 t1 t2 t3 t4 fb im lim defs stored wanted blocks (nI (S + 1)) mk (nI F) style ev (nI p) en acc budget fuel alloc out pres cur foc qd params first kinds values scopes child place cells orgs helds (vp_updL pend S acc) fT fN fE fM fD queue := by
    intro z C hC
    unfold wX_evaluateHead_50 wX_evaluateHead_55
    exact br_c (fun _ => br_f (by decide) (hC (h z))) (fun _ => hC (h z))
  have nk : ¬ kinds q = 2 → (kinds q = 3 → gm_vl values p < gm_vl values q) → ∀ C : SX → Prop, (∀ {t0 t1 t2 t3 t4 : Int32} {fb im : Int64} {lim defs stored wanted blocks sp mark frames style ev pc env : Int32} {acc : Int64} {budget fuel alloc out pres : Int32} {cur foc : Int64} {qd : Int32} {params first kinds values scopes child place : Nat → Int32} {cells : Nat → Int64} {orgs helds : Nat → Int32} {pend : Nat → Int64} {fT fN fE fM fD queue : Nat → Int32}, post (t0, t1, t2, t3, t4, fb, im, lim, defs, stored, wanted, blocks, sp, mark, frames, style, ev, pc, env, acc, budget, fuel, alloc, out, pres, cur, foc, qd, params, first, kinds, values, scopes, child, place, cells, orgs, helds, pend, fT, fN, fE, fM, fD, queue) → C (t0, t1, t2, t3, t4, fb, im, lim, defs, stored, wanted, blocks, sp, mark, frames, style, ev, pc, env, acc, budget, fuel, alloc, out, pres, cur, foc, qd, params, first, kinds, values, scopes, child, place, cells, orgs, helds, pend, fT, fN, fE, fM, fD, queue)) → wX_evaluateHead_54 C (nI q) t0 t1 t2 t3 t4 fb im lim defs stored wanted blocks (nI (S + 1)) mk (nI F) style ev (nI p) en acc budget fuel alloc out pres cur foc qd params first kinds values scopes child place cells orgs helds (vp_updL pend S acc) fT fN fE fM fD queue := by
    intro z1 z2 C hC
    unfold wX_evaluateHead_54 wX_evaluateHead_55
    refine br_c (fun s => br_t rfl (gm_xpush hF ?_)) (fun s => hC (h (Or.inl s)))
    exact hC (h' s z1 z2)
  by_cases k2 : kinds q = 2
  · exact br_t k2 (kn (Or.inr (Or.inl k2)) _ (by intros; assumption))
  · refine br_f k2 ⟨hv, ?_⟩
    by_cases k3 : kinds q = 3
    · refine br_t k3 ⟨hv, vp_in_nI hp (by decide), ?_⟩
      obtain ⟨v1, v2⟩ := hvq k3
      rw [v1, hvp.1]
      rcases Nat.lt_or_ge (gm_vl values p) (gm_vl values q) with y | y
      · exact br_t (nI_lt y (by omega)) (nk k2 (fun _ => y) _ (by intros; assumption))
      · exact br_f (nI_nlt y (by omega)) (kn (Or.inr (Or.inr ⟨k3, y⟩)) _ (by intros; assumption))
    · exact br_f k3 (nk k2 (fun z => absurd z k3) _ (by intros; assumption))
theorem gm_xr_of {post : SX → Prop} {F b : Nat} {mk tk : Int32} (hF : F < 512) (hb : b < 512) (e3 : fM F = mk) (e5 : fT F = tk) (ht : tk = 1 ∨ tk = 2 ∨ tk = 3) (h : post (t0, t1, t2, t3, t4, fb, im, lim, defs, stored, wanted, blocks, sp, mk, nI F, style, ev, fN F, fE F, gm_fb b, budget, fuel, alloc, 5, pres, cur, foc, qd, params, first, kinds, values, scopes, child, place, cells, orgs, helds, pend, fT, fN, fE, fM, fD, queue)) : wpX_resume post (t0, t1, t2, t3, t4, fb, im, lim, defs, stored, wanted, blocks, sp, mark, nI (F + 1), style, ev, pc, env, gm_fb b, budget, fuel, alloc, out, pres, cur, foc, qd, params, first, kinds, values, scopes, child, place, cells, orgs, helds, pend, fT, fN, fE, fM, fD, queue) := by
  refine gm_xr_0 hF rfl rfl e3 rfl e5 (br_f ?_ (br_f ?_ ?_))
  · rcases ht with z | z | z <;> rw [z] <;> decide
  · rcases ht with z | z | z <;> rw [z] <;> decide
  · unfold wpX_acceptOperand
    dsimp only
    exact gm_xif_1 hb (br_f (by decide) h)
theorem gm_xr_ol {post : SX → Prop} {F p q : Nat} {en mk z : Int32} (hF : F < 512) (hp : p < 64) (hq : child (p * 5 + 1) = nI q) (e1 : fN F = nI p) (e2 : fE F = en) (e3 : fM F = mk) (e5 : fT F = 1)
    (h : post (t0, t1, t2, t3, t4, fb, im, lim, defs, stored, wanted, blocks, sp, sp, nI (F + 1), style, 1, nI q, en, gm_enc z, budget, fuel, alloc, out, pres, cur, foc, qd, params, first, kinds, values, scopes, child, place, cells, orgs, helds, pend, upd fT F 2, upd fN F (nI p), upd fE F en, upd fM F mk, upd fD F z, queue)) : wpX_resume post (t0, t1, t2, t3, t4, fb, im, lim, defs, stored, wanted, blocks, sp, mark, nI (F + 1), style, ev, pc, env, gm_enc z, budget, fuel, alloc, out, pres, cur, foc, qd, params, first, kinds, values, scopes, child, place, cells, orgs, helds, pend, fT, fN, fE, fM, fD, queue) := by
  refine gm_xr_0 hF e1 e2 e3 rfl e5 (br_f (by decide) (br_f (by decide) ?_))
  unfold wpX_acceptOperand
  dsimp only
  refine gm_xif_0 (br_t rfl (br_t rfl ?_))
  rw [gm_enc_i]
  exact gm_xdesc (c := 1) hF hp (by omega) hq h
theorem gm_xr_or {post : SX → Prop} {F p : Nat} {en mk dt z : Int32} (hF : F < 512) (hp : p < 64) (e1 : fN F = nI p) (e2 : fE F = en) (e3 : fM F = mk) (e4 : fD F = dt) (e5 : fT F = 2)
    (h : post (t0, t1, t2, t3, t4, fb, im, lim, defs, stored, wanted, blocks, sp, mk, nI F, style, 0, nI p, en, gm_enc (gm_op (values p) dt z), budget, fuel, alloc, out, pres, cur, foc, qd, params, first, kinds, values, scopes, child, place, cells, orgs, helds, pend, fT, fN, fE, fM, fD, queue)) : wpX_resume post (t0, t1, t2, t3, t4, fb, im, lim, defs, stored, wanted, blocks, sp, mark, nI (F + 1), style, ev, pc, env, gm_enc z, budget, fuel, alloc, out, pres, cur, foc, qd, params, first, kinds, values, scopes, child, place, cells, orgs, helds, pend, fT, fN, fE, fM, fD, queue) := by
  refine gm_xr_0 hF e1 e2 e3 e4 e5 (br_f (by decide) (br_f (by decide) ?_))
  unfold wpX_acceptOperand
  dsimp only
  refine gm_xif_0 (br_t rfl (br_f (by decide) (br_t rfl ⟨vp_in_nI hp (by decide), ?_⟩)))
  rw [gm_enc_i, nI_clamp (show p < 2 ^ 31 by omega)]
  unfold wpX_compute
  dsimp only
  unfold gm_op at h
  by_cases v0 : values p = 0
  · rw [if_pos v0] at h
    exact br_t v0 h
  · rw [if_neg v0] at h
    by_cases v1 : values p = 1
    · rw [if_pos v1] at h
      exact br_f v0 (br_t v1 h)
    · rw [if_neg v1] at h
      exact br_f v0 (br_f v1 h)
theorem gm_xr_if {post : SX → Prop} {F p c q : Nat} {en mk z : Int32} (hF : F < 512) (hp : p < 64) (hcc : (z = 0 ∧ c = 1) ∨ (¬ z = 0 ∧ c = 2)) (hq : child (p * 5 + c) = nI q) (e1 : fN F = nI p) (e2 : fE F = en) (e3 : fM F = mk) (e5 : fT F = 3)
    (h : post (t0, t1, t2, t3, t4, fb, im, lim, defs, stored, wanted, blocks, sp, mk, nI F, style, 1, nI q, en, gm_enc z, budget, fuel, alloc, out, pres, cur, foc, qd, params, first, kinds, values, scopes, child, place, cells, orgs, helds, pend, fT, fN, fE, fM, fD, queue)) : wpX_resume post (t0, t1, t2, t3, t4, fb, im, lim, defs, stored, wanted, blocks, sp, mark, nI (F + 1), style, ev, pc, env, gm_enc z, budget, fuel, alloc, out, pres, cur, foc, qd, params, first, kinds, values, scopes, child, place, cells, orgs, helds, pend, fT, fN, fE, fM, fD, queue) := by
  refine gm_xr_0 hF e1 e2 e3 rfl e5 (br_f (by decide) (br_f (by decide) ?_))
  unfold wpX_acceptOperand
  dsimp only
  refine gm_xif_0 (br_t rfl (br_f (by decide) (br_f (by decide) ?_)))
  rw [gm_enc_i]
  rcases hcc with ⟨z0, rfl⟩ | ⟨z0, rfl⟩
  · refine br_t z0 ?_
    rw [show nI p * 5 + 1 = nI (p * 5 + 1) from gm_ix (c := 1)]
    exact ⟨vp_in_nI (by omega) (by decide), nm_r (e' := nI q) (by rw [nI_clamp (by omega)]; exact hq) h⟩
  · refine br_f z0 ?_
    rw [show nI p * 5 + 2 = nI (p * 5 + 2) from gm_ix (c := 2)]
    exact ⟨vp_in_nI (by omega) (by decide), nm_r (e' := nI q) (by rw [nI_clamp (by omega)]; exact hq) h⟩
end
end
section
/-! what the machines need of the program -/
theorem gm_find {b : Nat → Nat} {p : Nat} (h0 : b 0 = 0) : ∀ D : Nat, p < b D → ∃ g, g < D ∧ b g ≤ p ∧ p < b (g + 1)
  | 0, h => by omega
  | D + 1, h => by
    rcases Nat.lt_or_ge p (b D) with z | z
    · obtain ⟨g, h1, h2⟩ := gm_find h0 D z
      exact ⟨g, by omega, h2⟩
    · exact ⟨D, by omega, z, h⟩
def gm_Opn (opn : Int32) (wn : Nat) : Prop := (opn = 0 ∧ wn = 0) ∨ (opn = 1 ∧ 0 < wn)
section
variable {params first kinds values scopes child place : Nat → Int32} {lim D N st wn : Nat} {b : Nat → Nat}
theorem gm_pi_n (h : (gm_PI params first kinds values scopes child place lim D N st wn b)) : D ≤ 8 ∧ N ≤ 64 ∧ st ≤ 64 ∧ N ≤ st ∧ (∀ i, i < st → gm_ok kinds values scopes (D + 1) i) ∧ (∀ i, i < N → gm_ok kinds values scopes D i) := by
  obtain ⟨⟨a1, a2, a3, a4, a5, a6, a7, a8, a9, a10⟩, ⟨b1, b2, b3⟩, -, -⟩ := h
  exact ⟨a3, by omega, by omega, a4, b2, b1⟩
theorem gm_pi_sc (h : (gm_PI params first kinds values scopes child place lim D N st wn b)) : ∀ p, p < N → gm_vl scopes p ≤ 12 := fun p hp => ((gm_pi_n h).2.2.2.2.2 p hp).1.2
theorem gm_pi_va (h : (gm_PI params first kinds values scopes child place lim D N st wn b)) : ∀ p, p < N → kinds p = 4 → gm_vl values p ≤ 8 := by
  intro p hp hk
  rcases ((gm_pi_n h).2.2.2.2.2 p hp).2 with z | ⟨ev, z | z | z | z | z | z⟩
  · rw [z] at hk; exact absurd hk (by decide)
  all_goals first | omega | (rw [z.1] at hk; exact absurd hk (by decide))
theorem gm_ok_4 {E p : Nat} (h : gm_ok kinds values scopes E p) (hk : kinds p = 4) : values p = nI (gm_vl values p) ∧ 1 ≤ gm_vl values p ∧ gm_vl values p ≤ 4 := by
  rcases h.2 with z | ⟨ev, z | z | z | z | z | z⟩
  · rw [z] at hk; exact absurd hk (by decide)
  all_goals first | exact ⟨ev, by omega, by omega⟩ | (rw [z.1] at hk; exact absurd hk (by decide))
theorem gm_ok_3 {E p : Nat} (h : gm_ok kinds values scopes E p) (hk : kinds p = 3) : values p = nI (gm_vl values p) ∧ 1 ≤ gm_vl values p ∧ gm_vl values p ≤ 4 ∧ gm_vl scopes p + gm_vl values p ≤ 12 := by
  rcases h.2 with z | ⟨ev, z | z | z | z | z | z⟩
  · rw [z] at hk; exact absurd hk (by decide)
  all_goals first | exact ⟨ev, by omega, by omega, by omega⟩ | (rw [z.1] at hk; exact absurd hk (by decide))
theorem gm_ok_1 {E p : Nat} (h : gm_ok kinds values scopes E p) (hk : kinds p = 1) : values p = nI (gm_vl values p) ∧ gm_vl values p < gm_vl scopes p := by
  rcases h.2 with z | ⟨ev, z | z | z | z | z | z⟩
  · rw [z] at hk; exact absurd hk (by decide)
  all_goals first | exact ⟨ev, z.2⟩ | (rw [z.1] at hk; exact absurd hk (by decide))
theorem gm_ok_2 {E p : Nat} (h : gm_ok kinds values scopes E p) (hk : kinds p = 2) : values p = nI (gm_vl values p) ∧ gm_vl values p < E := by
  rcases h.2 with z | ⟨ev, z | z | z | z | z | z⟩
  · rw [z] at hk; exact absurd hk (by decide)
  all_goals first | (rw [z.1] at hk; exact absurd hk (by decide)) | exact ⟨ev, z.2⟩
theorem gm_pi_ch (h : (gm_PI params first kinds values scopes child place lim D N st wn b)) {i c : Nat} (hi : i < N) (hc : c < gm_kd kinds values i) : ∃ q, q < N ∧ child (i * 5 + c) = nI q ∧ gm_Chd (gm_w (gm_kd kinds values)) i c q ∧ gm_vl scopes q = gm_vl scopes i + (if kinds i = 3 then gm_vl values i else 0) ∧ (c = 0 → q = i + 1) ∧ (0 < c → 0 < q ∧ gm_kd kinds values (q - 1) = 0) := by
  obtain ⟨-, ⟨b1, b2, b3⟩, -, -⟩ := h
  obtain ⟨p, e1, e2, e3, e4, e5, e6⟩ := b3 i hi c hc
  have hch := gm_chd c p e4 e5
  refine ⟨p, e2, e3, hch, e6, fun z => ?_, fun z => ?_⟩
  · subst z
    exact hch
  · obtain ⟨c, rfl⟩ : ∃ q, c = q + 1 := ⟨c - 1, by omega⟩
    exact gm_chd_leaf hch
theorem gm_pi_first (h : (gm_PI params first kinds values scopes child place lim D N st wn b)) {g : Nat} (hg : g < D) : (params g = nI (gm_vl params g) ∧ 1 ≤ gm_vl params g ∧ gm_vl params g ≤ 4) ∧ ∃ q, q < N ∧ first g = nI q ∧ gm_vl scopes q = gm_vl params g ∧ (0 < q → gm_kd kinds values (q - 1) = 0) := by
  obtain ⟨⟨a1, a2, a3, a4, a5, a6, a7, a8, a9, a10⟩, -, ⟨c1, c2, c3⟩, -⟩ := h
  obtain ⟨f1, f2⟩ := a10 g (Or.inl hg)
  have h1 := a9 g hg
  have h2 := gm_b_mono a9 (D - (g + 1)) (g + 1) (by omega)
  rw [show g + 1 + (D - (g + 1)) = D by omega, a8] at h2
  refine ⟨f2, b g, by omega, f1, ?_, fun z => gm_low_leaf (c1 g (by omega)) z⟩
  rw [c2 g hg (b g) (Nat.le_refl _) h1, gm_SF_low (c1 g (by omega))]
  rfl
theorem gm_kd_n4 {q : Nat} (h : gm_kd kinds values q = 0) : ¬ kinds q = 4 := by
  intro z
  rw [gm_kd_4 z] at h
  omega
theorem gm_pi_OK (h : (gm_PI params first kinds values scopes child place lim D N st wn b)) {o : Nat} (ho : gm_OK kinds D N o) : o < 100 ∧ gm_OO params values scopes o ∧ 1 ≤ gm_par params values o ∧ gm_par params values o ≤ 4 ∧ gm_par params values o + gm_kp scopes o ≤ 12 ∧
    ∃ q, gm_Ent first o (nI q) ∧ q < N ∧ gm_vl scopes q = gm_par params values o + gm_kp scopes o ∧ (0 < q → ¬ kinds (q - 1) = 4) := by
  obtain ⟨n1, n2, n3, n4, n5, n6⟩ := gm_pi_n h
  unfold gm_par gm_kp
  rcases ho with ⟨h1, h2⟩ | ⟨h1, h2, h3⟩
  · obtain ⟨⟨f1, f2, f3⟩, q, q1, q2, q3, q4⟩ := gm_pi_first h h1
    rw [if_pos h2, if_pos h2]
    exact ⟨by omega, Or.inl ⟨h2, f1⟩, f2, f3, by omega, q, Or.inr ⟨h2, q2.symm⟩, q1, by omega, fun z => gm_kd_n4 (q4 z)⟩
  · have ok := n6 _ h2
    obtain ⟨g1, g2, g3, g4⟩ := gm_ok_3 ok h3
    obtain ⟨q, q1, q2, q3, q4, q5, q6⟩ := gm_pi_ch h h2 (c := 0) (by rw [gm_kd_3 h3]; omega)
    rw [if_neg (by omega), if_neg (by omega)]
    have e := q5 rfl
    rw [if_pos h3] at q4
    refine ⟨by omega, Or.inr ⟨h1, by omega, g1, ok.1.1⟩, g2, g3, by omega, q, Or.inl ⟨h1, by omega, by rw [e]; exact congrArg nI (by omega)⟩, q1, by omega, fun z => ?_⟩
    rw [e, show o - 8 + 1 - 1 = o - 8 by omega, h3]
    decide
end
section
variable {ylim yfuel ystored comp opn heap ycur yfoc ypend left yalloc yout depth res ysty fail fresh ready : Int32} {ykinds yvalues ar beg org num held part yqueue ath got size used yenv args : Nat → Int32} {params first kinds values scopes child place : Nat → Int32} {lim D N st wn sty : Nat} {b : Nat → Nat}
theorem gm_pi_yb (h : (gm_PI params first kinds values scopes child place lim D N st wn b)) (ho : gm_Opn opn wn) : ∃ T, T ≤ 8 ∧ D ≤ T ∧ T ≤ D + 1 ∧ (∀ i, i < T → first i = nI (b i) ∧ b i ≤ 64) ∧ ((opn = 0 ∧ T = D) ∨ (opn = 1 ∧ T = D + 1)) ∧ (0 < wn → T = D + 1) := by
  obtain ⟨⟨a1, a2, a3, a4, a5, a6, a7, a8, a9, a10⟩, -, -, -⟩ := h
  have hb : ∀ i, i ≤ D → b i ≤ 64 := by
    intro i hi
    have := gm_b_mono a9 (D - i) i (by omega)
    rw [show i + (D - i) = D by omega, a8] at this
    omega
  rcases ho with ⟨o1, o2⟩ | ⟨o1, o2⟩
  · exact ⟨D, a3, Nat.le_refl _, by omega, fun i hi => ⟨(a10 i (Or.inl hi)).1, hb i (by omega)⟩, Or.inl ⟨o1, rfl⟩, fun z => by omega⟩
  · refine ⟨D + 1, by have := a6 o2; omega, by omega, Nat.le_refl _, fun i hi => ⟨(a10 i ?_).1, hb i (by omega)⟩, Or.inr ⟨o1, rfl⟩, fun _ => rfl⟩
    rcases Nat.lt_or_ge i D with z | z
    · exact Or.inl z
    · exact Or.inr ⟨by omega, o2⟩
theorem gm_pi_ysc (h : (gm_PI params first kinds values scopes child place lim D N st wn b)) (ho : gm_Opn opn wn) {p : Nat} (hp : p < N) {post : Int32 → Prop} (hpost : post (nI (gm_vl scopes p))) : wpY_scopeAt post (ylim, yfuel, nI st, nI D, opn, heap, ycur, yfoc, ypend, left, yalloc, yout, depth, res, ysty, fail, fresh, ready, kinds, values, params, first, org, num, held, part, yqueue, ath, got, size, used, yenv, args) (nI p) := by
  obtain ⟨n1, n2, n3, n4, n5, n6⟩ := gm_pi_n h
  obtain ⟨T, t1, t2, t3, t4, t5, t6⟩ := gm_pi_yb h ho
  obtain ⟨⟨a1, a2, a3, a4, a5, a6, a7, a8, a9, a10⟩, -, ⟨c1, c2, c3⟩, -⟩ := h
  obtain ⟨g, g1, g2, g3⟩ := gm_find (b := b) (p := p) a7 D (by omega)
  rw [c2 g g1 p g2 g3] at hpost
  refine gm_yscope (b := b) (T := T) (g0 := g) n3 n5 t1 t4 (by omega) (fun i hi => ?_) (fun i h1 h2 => ?_) (by omega) t5 (a10 g (Or.inl g1)).2.1 (c1 g (by omega)) hpost
  · have := gm_b_mono a9 (g - i) i (by omega)
    rw [show i + (g - i) = g by omega] at this
    omega
  · have := gm_b_mono a9 (i - (g + 1)) (g + 1) (by omega)
    rw [show g + 1 + (i - (g + 1)) = i by omega] at this
    omega
/-- the scope at the next place, on both sides -/
theorem gm_pi_yst (h : (gm_PI params first kinds values scopes child place lim D N st wn b)) (hw : 0 < wn) {post : Int32 → Prop} (hpost : post (nI (gm_vl params D + gm_SF kinds values (gm_w (gm_kd kinds values)) st st))) : wpY_scopeAt post (ylim, yfuel, nI st, nI D, 1, heap, ycur, yfoc, ypend, left, yalloc, yout, depth, res, ysty, fail, fresh, ready, kinds, values, params, first, org, num, held, part, yqueue, ath, got, size, used, yenv, args) (nI st) := by
  obtain ⟨n1, n2, n3, n4, n5, n6⟩ := gm_pi_n h
  obtain ⟨T, t1, t2, t3, t4, t5, t6⟩ := gm_pi_yb (opn := 1) h (Or.inr ⟨rfl, hw⟩)
  obtain ⟨⟨a1, a2, a3, a4, a5, a6, a7, a8, a9, a10⟩, -, ⟨c1, c2, c3⟩, -⟩ := h
  have hT := t6 hw
  refine gm_yscope (b := b) (T := T) (g0 := D) n3 n5 t1 t4 (Nat.le_refl _) (fun i hi => ?_) (fun i h1 h2 => by omega) (by omega) t5 (a10 D (Or.inr ⟨rfl, hw⟩)).2.1 (c1 D (Nat.le_refl _)) hpost
  have := gm_b_mono a9 (D - i) i (by omega)
  rw [show i + (D - i) = D by omega] at this
  omega
end
end
section
/-! runs of the two machines: one outcome for both -/
def gm_xw (post : SX → Prop) (n : Nat) (x1 : Int32) (u : SX) : Prop := match u with
  | (t0, t1, t2, t3, t4, fb, im, lim, defs, stored, wanted, blocks, sp, mark, frames, style, ev, pc, env, acc, budget, fuel, alloc, out, pres, cur, foc, qd, params, first, kinds, values, scopes, child, place, cells, orgs, helds, pend, fT, fN, fE, fM, fD, queue) => wX_execute_2 post n x1 t0 t1 t2 t3 t4 fb im lim defs stored wanted blocks sp mark frames style ev pc env acc budget fuel alloc out pres cur foc qd params first kinds values scopes child place cells orgs helds pend fT fN fE fM fD queue
def gm_yw (post : Int32 → SY → Prop) (n : Nat) (x2 : Int32) (v : SY) : Prop := match v with
  | (ylim, yfuel, ystored, comp, opn, heap, ycur, yfoc, ypend, left, yalloc, yout, depth, res, ysty, fail, fresh, ready, ykinds, yvalues, ar, beg, org, num, held, part, yqueue, ath, got, size, used, yenv, args) => wY_run_183 post n x2 ylim yfuel ystored comp opn heap ycur yfoc ypend left yalloc yout depth res ysty fail fresh ready ykinds yvalues ar beg org num held part yqueue ath got size used yenv args
def gm_y240 (post : Int32 → SY → Prop) (v : SY) : Prop := match v with
  | (ylim, yfuel, ystored, comp, opn, heap, ycur, yfoc, ypend, left, yalloc, yout, depth, res, ysty, fail, fresh, ready, ykinds, yvalues, ar, beg, org, num, held, part, yqueue, ath, got, size, used, yenv, args) => wY_run_240 post ylim yfuel ystored comp opn heap ycur yfoc ypend left yalloc yout depth res ysty fail fresh ready ykinds yvalues ar beg org num held part yqueue ath got size used yenv args
def gm_Sg (FP : SX → SY → Prop) (i j : Nat) (u : SX) (v : SY) : Prop :=
  ∃ (u' : SX) (v' : SY) (nX nY : Nat), FP u' v' ∧ (∀ post : SX → Prop, post u' → gm_xw post nX (nI i) u) ∧ (∀ post : Int32 → SY → Prop, gm_y240 post v' → gm_yw post nY (nI j) v)
theorem gm_Sg_x {FP : SX → SY → Prop} {i j : Nat} {u u1 : SX} {v : SY} (hs : ∀ (post : SX → Prop) (n : Nat), gm_xw post n (nI (i + 1)) u1 → gm_xw post (n + 1) (nI i) u) (h : gm_Sg FP (i + 1) j u1 v) : gm_Sg FP i j u v := by
  obtain ⟨u', v', nX, nY, h1, h2, h3⟩ := h
  exact ⟨u', v', nX + 1, nY, h1, fun post hp => hs post nX (h2 post hp), h3⟩
theorem gm_Sg_y {FP : SX → SY → Prop} {i j : Nat} {u : SX} {v v1 : SY} (hs : ∀ (post : Int32 → SY → Prop) (n : Nat), gm_yw post n (nI (j + 1)) v1 → gm_yw post (n + 1) (nI j) v) (h : gm_Sg FP i (j + 1) u v1) : gm_Sg FP i j u v := by
  obtain ⟨u', v', nX, nY, h1, h2, h3⟩ := h
  exact ⟨u', v', nX, nY + 1, h1, h2, fun post hp => hs post nY (h3 post hp)⟩
section
variable {t0 t1 t2 t3 t4 : Int32} {fb im : Int64} {lim defs stored wanted blocks sp mark frames style ev pc env : Int32} {acc : Int64} {budget fuel alloc out pres : Int32} {cur foc : Int64} {qd : Int32} {params first kinds values scopes child place : Nat → Int32} {cells : Nat → Int64} {orgs helds : Nat → Int32} {pend : Nat → Int64} {fT fN fE fM fD queue : Nat → Int32}
theorem gm_xs_e {post : SX → Prop} {n i : Nat} (hi : i < 8192) (h : ∀ C : SX → Prop, (∀ {t0 t1 t2 t3 t4 : Int32} {fb im : Int64} {lim defs stored wanted blocks sp mark frames style ev pc env : Int32} {acc : Int64} {budget fuel alloc out pres : Int32} {cur foc : Int64} {qd : Int32} {params first kinds values scopes child place : Nat → Int32} {cells : Nat → Int64} {orgs helds : Nat → Int32} {pend : Nat → Int64} {fT fN fE fM fD queue : Nat → Int32}, wX_execute_2 post n (nI (i + 1)) t0 t1 t2 t3 t4 fb im lim defs stored wanted blocks sp mark frames style ev pc env acc budget fuel alloc out pres cur foc qd params first kinds values scopes child place cells orgs helds pend fT fN fE fM fD queue → C (t0, t1, t2, t3, t4, fb, im, lim, defs, stored, wanted, blocks, sp, mark, frames, style, ev, pc, env, acc, budget, fuel, alloc, out, pres, cur, foc, qd, params, first, kinds, values, scopes, child, place, cells, orgs, helds, pend, fT, fN, fE, fM, fD, queue)) → wpX_evaluate C (t0, t1, t2, t3, t4, fb, im, lim, defs, stored, wanted, blocks, sp, mark, frames, style, 1, pc, env, acc, budget, fuel, alloc, 0, pres, cur, foc, qd, params, first, kinds, values, scopes, child, place, cells, orgs, helds, pend, fT, fN, fE, fM, fD, queue)) : gm_xw post (n + 1) (nI i) (t0, t1, t2, t3, t4, fb, im, lim, defs, stored, wanted, blocks, sp, mark, frames, style, 1, pc, env, acc, budget, fuel, alloc, 0, pres, cur, foc, qd, params, first, kinds, values, scopes, child, place, cells, orgs, helds, pend, fT, fN, fE, fM, fD, queue) := by
  show wX_execute_2 post (n + 1) (nI i) t0 t1 t2 t3 t4 fb im lim defs stored wanted blocks sp mark frames style 1 pc env acc budget fuel alloc 0 pres cur foc qd params first kinds values scopes child place cells orgs helds pend fT fN fE fM fD queue
  refine br_f (nI_ge (b := 8192) hi (by decide)) (br_t rfl (br_f (by decide) (h _ ?_)))
  intros
  exact nm_r (nI_1 _) (by assumption)
theorem gm_xs_a {post : SX → Prop} {n i S M : Nat} (hi : i < 8192) (hS : S < 1000) (hM : M < S) (h : ∀ C : SX → Prop, (∀ {t0 t1 t2 t3 t4 : Int32} {fb im : Int64} {lim defs stored wanted blocks sp mark frames style ev pc env : Int32} {acc : Int64} {budget fuel alloc out pres : Int32} {cur foc : Int64} {qd : Int32} {params first kinds values scopes child place : Nat → Int32} {cells : Nat → Int64} {orgs helds : Nat → Int32} {pend : Nat → Int64} {fT fN fE fM fD queue : Nat → Int32}, wX_execute_2 post n (nI (i + 1)) t0 t1 t2 t3 t4 fb im lim defs stored wanted blocks sp mark frames style ev pc env acc budget fuel alloc out pres cur foc qd params first kinds values scopes child place cells orgs helds pend fT fN fE fM fD queue → C (t0, t1, t2, t3, t4, fb, im, lim, defs, stored, wanted, blocks, sp, mark, frames, style, ev, pc, env, acc, budget, fuel, alloc, out, pres, cur, foc, qd, params, first, kinds, values, scopes, child, place, cells, orgs, helds, pend, fT, fN, fE, fM, fD, queue)) → wpX_apply C (t0, t1, t2, t3, t4, fb, im, lim, defs, stored, wanted, blocks, nI S, nI M, frames, style, 0, pc, env, acc, budget, fuel, alloc, 0, pres, cur, foc, qd, params, first, kinds, values, scopes, child, place, cells, orgs, helds, pend, fT, fN, fE, fM, fD, queue)) : gm_xw post (n + 1) (nI i) (t0, t1, t2, t3, t4, fb, im, lim, defs, stored, wanted, blocks, nI S, nI M, frames, style, 0, pc, env, acc, budget, fuel, alloc, 0, pres, cur, foc, qd, params, first, kinds, values, scopes, child, place, cells, orgs, helds, pend, fT, fN, fE, fM, fD, queue) := by
  show wX_execute_2 post (n + 1) (nI i) t0 t1 t2 t3 t4 fb im lim defs stored wanted blocks (nI S) (nI M) frames style 0 pc env acc budget fuel alloc 0 pres cur foc qd params first kinds values scopes child place cells orgs helds pend fT fN fE fM fD queue
  refine br_f (nI_ge (b := 8192) hi (by decide)) (br_t rfl (br_t rfl (br_f (nI_ge hM (by omega)) (h _ ?_))))
  intros
  exact nm_r (nI_1 _) (by assumption)
theorem gm_xs_r {post : SX → Prop} {n i S : Nat} (hi : i < 8192) (hS : S < 1000) (h : ∀ C : SX → Prop, (∀ {t0 t1 t2 t3 t4 : Int32} {fb im : Int64} {lim defs stored wanted blocks sp mark frames style ev pc env : Int32} {acc : Int64} {budget fuel alloc out pres : Int32} {cur foc : Int64} {qd : Int32} {params first kinds values scopes child place : Nat → Int32} {cells : Nat → Int64} {orgs helds : Nat → Int32} {pend : Nat → Int64} {fT fN fE fM fD queue : Nat → Int32}, wX_execute_2 post n (nI (i + 1)) t0 t1 t2 t3 t4 fb im lim defs stored wanted blocks sp mark frames style ev pc env acc budget fuel alloc out pres cur foc qd params first kinds values scopes child place cells orgs helds pend fT fN fE fM fD queue → C (t0, t1, t2, t3, t4, fb, im, lim, defs, stored, wanted, blocks, sp, mark, frames, style, ev, pc, env, acc, budget, fuel, alloc, out, pres, cur, foc, qd, params, first, kinds, values, scopes, child, place, cells, orgs, helds, pend, fT, fN, fE, fM, fD, queue)) → wpX_resume C (t0, t1, t2, t3, t4, fb, im, lim, defs, stored, wanted, blocks, nI S, nI S, frames, style, 0, pc, env, acc, budget, fuel, alloc, 0, pres, cur, foc, qd, params, first, kinds, values, scopes, child, place, cells, orgs, helds, pend, fT, fN, fE, fM, fD, queue)) : gm_xw post (n + 1) (nI i) (t0, t1, t2, t3, t4, fb, im, lim, defs, stored, wanted, blocks, nI S, nI S, frames, style, 0, pc, env, acc, budget, fuel, alloc, 0, pres, cur, foc, qd, params, first, kinds, values, scopes, child, place, cells, orgs, helds, pend, fT, fN, fE, fM, fD, queue) := by
  show wX_execute_2 post (n + 1) (nI i) t0 t1 t2 t3 t4 fb im lim defs stored wanted blocks (nI S) (nI S) frames style 0 pc env acc budget fuel alloc 0 pres cur foc qd params first kinds values scopes child place cells orgs helds pend fT fN fE fM fD queue
  refine br_f (nI_ge (b := 8192) hi (by decide)) (br_t rfl (br_t rfl (br_t (nI_le (Nat.le_refl _) (by omega)) (h _ ?_))))
  intros
  exact nm_r (nI_1 _) (by assumption)
theorem gm_xs_end {post : SX → Prop} {i : Nat} (hi : i < 8192) (ho : ¬ out = 0) (h : post (t0, t1, t2, t3, t4, fb, im, lim, defs, stored, wanted, blocks, sp, mark, frames, style, ev, pc, env, acc, budget, fuel, alloc, out, pres, cur, foc, qd, params, first, kinds, values, scopes, child, place, cells, orgs, helds, pend, fT, fN, fE, fM, fD, queue)) : gm_xw post 1 (nI i) (t0, t1, t2, t3, t4, fb, im, lim, defs, stored, wanted, blocks, sp, mark, frames, style, ev, pc, env, acc, budget, fuel, alloc, out, pres, cur, foc, qd, params, first, kinds, values, scopes, child, place, cells, orgs, helds, pend, fT, fN, fE, fM, fD, queue) := by
  show wX_execute_2 post (0 + 1) (nI i) t0 t1 t2 t3 t4 fb im lim defs stored wanted blocks sp mark frames style ev pc env acc budget fuel alloc out pres cur foc qd params first kinds values scopes child place cells orgs helds pend fT fN fE fM fD queue
  exact br_f (nI_ge (b := 8192) hi (by decide)) (br_f ho h)
end
section
variable {ylim yfuel ystored comp opn heap ycur yfoc ypend left yalloc yout depth res ysty fail fresh ready : Int32} {ykinds yvalues ar beg org num held part yqueue ath got size used yenv args : Nat → Int32}
theorem gm_ys_s {post : Int32 → SY → Prop} {n j d : Nat} (hj : j < 1000) (hd : d < 1000) (h : ∀ C : SY → Prop, (∀ {ylim yfuel ystored comp opn heap ycur yfoc ypend left yalloc yout depth res ysty fail fresh ready : Int32} {ykinds yvalues ar beg org num held part yqueue ath got size used yenv args : Nat → Int32}, wY_run_183 post n (nI (j + 1)) ylim yfuel ystored comp opn heap ycur yfoc ypend left yalloc yout depth res ysty fail fresh ready ykinds yvalues ar beg org num held part yqueue ath got size used yenv args → C (ylim, yfuel, ystored, comp, opn, heap, ycur, yfoc, ypend, left, yalloc, yout, depth, res, ysty, fail, fresh, ready, ykinds, yvalues, ar, beg, org, num, held, part, yqueue, ath, got, size, used, yenv, args)) → wpY_start C (ylim, yfuel, ystored, comp, opn, heap, ycur, yfoc, ypend, left, yalloc, yout, nI (d + 1), res, ysty, 0, fresh, 0, ykinds, yvalues, ar, beg, org, num, held, part, yqueue, ath, got, size, used, yenv, args) (nI d)) : gm_yw post (n + 1) (nI j) (ylim, yfuel, ystored, comp, opn, heap, ycur, yfoc, ypend, left, yalloc, yout, nI (d + 1), res, ysty, 0, fresh, 0, ykinds, yvalues, ar, beg, org, num, held, part, yqueue, ath, got, size, used, yenv, args) := by
  show wY_run_183 post (n + 1) (nI j) ylim yfuel ystored comp opn heap ycur yfoc ypend left yalloc yout (nI (d + 1)) res ysty 0 fresh 0 ykinds yvalues ar beg org num held part yqueue ath got size used yenv args
  refine br_f (nI_ge (b := 1000) hj (by decide)) (br_f (nI_nle (by omega) (by omega)) (br_t rfl (br_t rfl ?_)))
  rw [nI_pred]
  refine h _ ?_
  intros
  exact nm_r (nI_1 _) (by assumption)
theorem gm_ys_r {post : Int32 → SY → Prop} {n j d : Nat} (hj : j < 1000) (hd : d < 1000) (h : ∀ C : SY → Prop, (∀ {ylim yfuel ystored comp opn heap ycur yfoc ypend left yalloc yout depth res ysty fail fresh ready : Int32} {ykinds yvalues ar beg org num held part yqueue ath got size used yenv args : Nat → Int32}, wY_run_183 post n (nI (j + 1)) ylim yfuel ystored comp opn heap ycur yfoc ypend left yalloc yout depth res ysty fail fresh ready ykinds yvalues ar beg org num held part yqueue ath got size used yenv args → C (ylim, yfuel, ystored, comp, opn, heap, ycur, yfoc, ypend, left, yalloc, yout, depth, res, ysty, fail, fresh, ready, ykinds, yvalues, ar, beg, org, num, held, part, yqueue, ath, got, size, used, yenv, args)) → wpY_receive C (ylim, yfuel, ystored, comp, opn, heap, ycur, yfoc, ypend, left, yalloc, yout, nI (d + 1), res, ysty, 0, fresh, 1, ykinds, yvalues, ar, beg, org, num, held, part, yqueue, ath, got, size, used, yenv, args) (nI d)) : gm_yw post (n + 1) (nI j) (ylim, yfuel, ystored, comp, opn, heap, ycur, yfoc, ypend, left, yalloc, yout, nI (d + 1), res, ysty, 0, fresh, 1, ykinds, yvalues, ar, beg, org, num, held, part, yqueue, ath, got, size, used, yenv, args) := by
  show wY_run_183 post (n + 1) (nI j) ylim yfuel ystored comp opn heap ycur yfoc ypend left yalloc yout (nI (d + 1)) res ysty 0 fresh 1 ykinds yvalues ar beg org num held part yqueue ath got size used yenv args
  refine br_f (nI_ge (b := 1000) hj (by decide)) (br_f (nI_nle (by omega) (by omega)) (br_t rfl (br_f (by decide) ?_)))
  rw [nI_pred]
  refine h _ ?_
  intros
  exact nm_r (nI_1 _) (by assumption)
theorem gm_ys_end0 {post : Int32 → SY → Prop} {j : Nat} (hj : j < 1000) (h : gm_y240 post (ylim, yfuel, ystored, comp, opn, heap, ycur, yfoc, ypend, left, yalloc, yout, nI 0, res, ysty, fail, fresh, ready, ykinds, yvalues, ar, beg, org, num, held, part, yqueue, ath, got, size, used, yenv, args)) : gm_yw post 1 (nI j) (ylim, yfuel, ystored, comp, opn, heap, ycur, yfoc, ypend, left, yalloc, yout, nI 0, res, ysty, fail, fresh, ready, ykinds, yvalues, ar, beg, org, num, held, part, yqueue, ath, got, size, used, yenv, args) := by
  show wY_run_183 post (0 + 1) (nI j) ylim yfuel ystored comp opn heap ycur yfoc ypend left yalloc yout (nI 0) res ysty fail fresh ready ykinds yvalues ar beg org num held part yqueue ath got size used yenv args
  exact br_f (nI_ge (b := 1000) hj (by decide)) (br_t (by rw [nI_0]; decide) h)
theorem gm_ys_endf {post : Int32 → SY → Prop} {j d : Nat} (hj : j < 1000) (hd : d < 1000) (hf : ¬ fail = 0) (h : gm_y240 post (ylim, yfuel, ystored, comp, opn, heap, ycur, yfoc, ypend, left, yalloc, yout, nI (d + 1), res, ysty, fail, fresh, ready, ykinds, yvalues, ar, beg, org, num, held, part, yqueue, ath, got, size, used, yenv, args)) : gm_yw post 1 (nI j) (ylim, yfuel, ystored, comp, opn, heap, ycur, yfoc, ypend, left, yalloc, yout, nI (d + 1), res, ysty, fail, fresh, ready, ykinds, yvalues, ar, beg, org, num, held, part, yqueue, ath, got, size, used, yenv, args) := by
  show wY_run_183 post (0 + 1) (nI j) ylim yfuel ystored comp opn heap ycur yfoc ypend left yalloc yout (nI (d + 1)) res ysty fail fresh ready ykinds yvalues ar beg org num held part yqueue ath got size used yenv args
  exact br_f (nI_ge (b := 1000) hj (by decide)) (br_f (nI_nle (by omega) (by omega)) (br_f hf h))
end
end
section
/-! agreements of arrays, the three modes -/
def gm_agY (H : Nat) (org num held part org' num' held' part' : Nat → Int32) : Prop := (∀ y, y < H → org' y = org y ∧ num' y = num y ∧ held' y = held y) ∧ ∀ j, j < H * 16 → part' j = part j
def gm_agX (B : Nat) (orgs helds : Nat → Int32) (cells : Nat → Int64) (orgs' helds' : Nat → Int32) (cells' : Nat → Int64) : Prop := (∀ b, b < B → orgs' b = orgs b ∧ helds' b = helds b) ∧ ∀ j, j < B * 12 → cells' j = cells j
def gm_agF (F : Nat) (fT fN fE fM fD fT' fN' fE' fM' fD' : Nat → Int32) : Prop := ∀ j, j < F → fT' j = fT j ∧ fN' j = fN j ∧ fE' j = fE j ∧ fM' j = fM j ∧ fD' j = fD j
def gm_agD (d : Nat) (ath got size used yenv args ath' got' size' used' yenv' args' : Nat → Int32) : Prop := (∀ f, f < d → ath' f = ath f ∧ got' f = got f ∧ size' f = size f ∧ used' f = used f) ∧ (∀ j, j < d * 12 → yenv' j = yenv j) ∧ ∀ j, j < d * 8 → args' j = args j
theorem gm_agY_r {H : Nat} {org num held part : Nat → Int32} : gm_agY H org num held part org num held part := ⟨fun _ _ => ⟨rfl, rfl, rfl⟩, fun _ _ => rfl⟩
theorem gm_agX_r {B : Nat} {orgs helds : Nat → Int32} {cells : Nat → Int64} : gm_agX B orgs helds cells orgs helds cells := ⟨fun _ _ => ⟨rfl, rfl⟩, fun _ _ => rfl⟩
theorem gm_agF_r {F : Nat} {fT fN fE fM fD : Nat → Int32} : gm_agF F fT fN fE fM fD fT fN fE fM fD := fun _ _ => ⟨rfl, rfl, rfl, rfl, rfl⟩
theorem gm_agD_r {d : Nat} {ath got size used yenv args : Nat → Int32} : gm_agD d ath got size used yenv args ath got size used yenv args := ⟨fun _ _ => ⟨rfl, rfl, rfl, rfl⟩, fun _ _ => rfl, fun _ _ => rfl⟩
theorem gm_agY_m {H : Nat} {org num held part part' : Nat → Int32} {a b c : Int32} (hp : ∀ j, j < H * 16 → part' j = part j) : gm_agY H org num held part (upd org H a) (upd num H b) (upd held H c) part' := ⟨fun y hy => ⟨pk_un (by omega), pk_un (by omega), pk_un (by omega)⟩, hp⟩
theorem gm_agY_p {H : Nat} {org num held part part' : Nat → Int32} {a b c e : Int32} (hp : ∀ j, j < H * 16 → part' j = part j) : gm_agY H org num held part (upd org H a) (upd num H b) (upd (upd held H c) H e) part' := ⟨fun y hy => ⟨pk_un (by omega), pk_un (by omega), by rw [pk_un (by omega), pk_un (by omega)]⟩, hp⟩
theorem gm_agX_g {B src h t kp S : Nat} {orgs helds : Nat → Int32} {pend cells : Nat → Int64} : gm_agX B orgs helds cells orgs helds (gm_cg B src h t kp S pend cells) := ⟨fun _ _ => ⟨rfl, rfl⟩, fun _ hj => gm_cg_lo hj⟩
theorem gm_agX_b {B src h t kp S : Nat} {orgs helds : Nat → Int32} {pend cells : Nat → Int64} {a c : Int32} : gm_agX B orgs helds cells (upd orgs B a) (upd helds B c) (gm_cg B src h t kp S pend cells) := ⟨fun b hb => ⟨pk_un (by omega), pk_un (by omega)⟩, fun _ hj => gm_cg_lo hj⟩
theorem gm_agF_p {F F' : Nat} {fT fN fE fM fD : Nat → Int32} {a b c d e : Int32} (h : F' ≤ F) : gm_agF F' fT fN fE fM fD (upd fT F a) (upd fN F b) (upd fE F c) (upd fM F d) (upd fD F e) := fun j hj => ⟨pk_un (by omega), pk_un (by omega), pk_un (by omega), pk_un (by omega), pk_un (by omega)⟩
def gm_CF (B : Nat) (orgs helds args : Nat → Int32) : Prop := 8 ≤ B ∧ (∀ g, g < 8 → orgs g = nI g ∧ helds g = nI 0) ∧ ∀ j, vp_in (args j) 512
def gm_Vis (kinds values : Nat → Int32) (sty p S M : Nat) : Prop :=
  sty = 1 → (S = M ∧ (kinds p = 3 → ¬ gm_Dir kinds values p)) ∨ (M < S ∧ (kinds p = 2 ∨ (kinds p = 3 ∧ gm_Dir kinds values p ∧ gm_vl values p ≤ S - M)))
abbrev gm_mE (sty D N : Nat) (params kinds values scopes : Nat → Int32) (i j B S M F p e fu H d : Nat) (cells pend : Nat → Int64) (orgs helds fT fN fE fM fD org num held part ath got size used yenv args : Nat → Int32) : Prop :=
  gm_CF B orgs helds args ∧ (gm_Stk (gm_V D N params kinds values scopes B orgs helds cells H org num held part) sty N kinds values scopes B cells pend fT fN fE fM fD ath got size used yenv args) d F S M ∧ (p < N ∧ ath d = nI p ∧ e < B ∧ ∀ i, i < gm_vl scopes p → (gm_V D N params kinds values scopes B orgs helds cells H org num held part) (yenv (d * 12 + i)) (cells (e * 12 + i))) ∧ gm_Vis kinds values sty p S M ∧
  (B + S + F + 2 * fu ≤ 409 ∧ H + (d + 1) + 2 * fu ≤ 403 ∧ (d + 1) + fu ≤ 201 ∧ i + 4 * fu + 2 * S + F ≤ 1000 ∧ j + 2 * fu + (d + 1) ≤ 402)
abbrev gm_mR (sty D N : Nat) (params kinds values scopes : Nat → Int32) (i j B S M F fu H d : Nat) (acc : Int64) (alloc yalloc res fresh : Int32) (cells pend : Nat → Int64) (orgs helds fT fN fE fM fD org num held part ath got size used yenv args : Nat → Int32) : Prop :=
  gm_CF B orgs helds args ∧ (gm_Stk (gm_V D N params kinds values scopes B orgs helds cells H org num held part) sty N kinds values scopes B cells pend fT fN fE fM fD ath got size used yenv args) d F S M ∧ (gm_V D N params kinds values scopes B orgs helds cells H org num held part) res acc ∧ (alloc = gm_arr fresh (nI sty) yalloc ∧ (sty = 0 → fresh = 0 ∨ S = M)) ∧
  (B + S + F + 2 * fu ≤ 408 ∧ H + d + 2 * fu ≤ 401 ∧ d + fu ≤ 200 ∧ i + 4 * fu + 2 * S + F + 3 ≤ 1000 ∧ j + 2 * fu + d ≤ 400)
abbrev gm_mG (sty D N : Nat) (params kinds values scopes : Nat → Int32) (i j B S S' M F fu H d o src h t r : Nat) (alloc yalloc fresh : Int32) (cells pend : Nat → Int64) (orgs helds fT fN fE fM fD org num held part ath got size used yenv args : Nat → Int32) : Prop :=
  gm_CF B orgs helds args ∧ (gm_Stk (gm_V D N params kinds values scopes B orgs helds cells H org num held part) sty N kinds values scopes B cells pend fT fN fE fM fD ath got size used yenv args) d F S' M ∧ S' + t = S ∧
  (r < H ∧ org r = nI o ∧ held r = nI (h + t) ∧ num r = 0 ∧ gm_OK kinds D N o ∧ h + t < gm_par params values o ∧ src < B) ∧
  ((∀ i, i < h → (gm_V D N params kinds values scopes B orgs helds cells H org num held part) (part (r * 16 + i)) (cells (src * 12 + i))) ∧ (∀ i, i < t → (gm_V D N params kinds values scopes B orgs helds cells H org num held part) (part (r * 16 + h + i)) (pend (S - 1 - i))) ∧ (∀ i, i < gm_kp scopes o → (gm_V D N params kinds values scopes B orgs helds cells H org num held part) (part (r * 16 + (h + t) + i)) (cells (src * 12 + h + i)))) ∧
  ((S' = M → gm_arr fresh (nI sty) yalloc = alloc + 1) ∧ (M < S' → yalloc = alloc)) ∧
  (((B + S + F + 2 * fu + 1 ≤ 408 ∧ i + 1 + 4 * fu + 2 * S + F + 3 ≤ 1000) ∨ (B + S + F + 2 * fu ≤ 408 ∧ i + 4 * fu + 2 * S + F + 3 ≤ 1000 ∧ M < S)) ∧ H + d + 2 * fu ≤ 401 ∧ d + fu ≤ 200 ∧ j + 2 * fu + d ≤ 400)
section
variable {params first kinds values scopes child place : Nat → Int32} {lm D N st wn sty : Nat} {b : Nat → Nat} {B B' H H' : Nat} {orgs helds orgs' helds' : Nat → Int32} {cells pend cells' pend' : Nat → Int64} {org num held part org' num' held' part' : Nat → Int32} {fT fN fE fM fD ath got size used yenv args fT' fN' fE' fM' fD' ath' got' size' used' yenv' args' : Nat → Int32}
theorem gm_VX (hx : gm_agX B orgs helds cells orgs' helds' cells') (hy : gm_agY H org num held part org' num' held' part') (hB : B ≤ B') (hH : H ≤ H') {yi : Int32} {x : Int64} (h : (gm_V D N params kinds values scopes B orgs helds cells H org num held part) yi x) : (gm_V D N params kinds values scopes B' orgs' helds' cells' H' org' num' held' part') yi x :=
  gm_V_ext hH hy.1 hy.2 hB hx.1 hx.2 h
theorem gm_SV (hPI : (gm_PI params first kinds values scopes child place lm D N st wn b)) (hx : gm_agX B orgs helds cells orgs' helds' cells') (hy : gm_agY H org num held part org' num' held' part') (hB : B ≤ B') (hH : H ≤ H') {d F S M : Nat} (hp : ∀ j, j < S → pend' j = pend j) (hf : gm_agF F fT fN fE fM fD fT' fN' fE' fM' fD') (hd : gm_agD d ath got size used yenv args ath' got' size' used' yenv' args') (h : (gm_Stk (gm_V D N params kinds values scopes B orgs helds cells H org num held part) sty N kinds values scopes B cells pend fT fN fE fM fD ath got size used yenv args) d F S M) :
    (gm_Stk (gm_V D N params kinds values scopes B' orgs' helds' cells' H' org' num' held' part') sty N kinds values scopes B' cells' pend' fT' fN' fE' fM' fD' ath' got' size' used' yenv' args') d F S M :=
  gm_Stk_c (fun _ _ z => gm_VX hx hy hB hH z) hB hx.2 (gm_pi_sc hPI) (gm_pi_va hPI) hp hf hd.1 hd.2.1 hd.2.2 h
end
def gm_SgG (FP : SX → SY → Prop) (i j : Nat) (u : SX) (o src h : Int32) (v : SY) : Prop :=
  ∃ (u' : SX) (v' : SY) (nX nY : Nat), FP u' v' ∧ (∀ (post : SX → Prop) (C : SX → Prop), (∀ {t0 t1 t2 t3 t4 : Int32} {fb im : Int64} {lim defs stored wanted blocks sp mark frames style ev pc env : Int32} {acc : Int64} {budget fuel alloc out pres : Int32} {cur foc : Int64} {qd : Int32} {params first kinds values scopes child place : Nat → Int32} {cells : Nat → Int64} {orgs helds : Nat → Int32} {pend : Nat → Int64} {fT fN fE fM fD queue : Nat → Int32}, wX_execute_2 post nX (nI (i + 1)) t0 t1 t2 t3 t4 fb im lim defs stored wanted blocks sp mark frames style ev pc env acc budget fuel alloc out pres cur foc qd params first kinds values scopes child place cells orgs helds pend fT fN fE fM fD queue → C (t0, t1, t2, t3, t4, fb, im, lim, defs, stored, wanted, blocks, sp, mark, frames, style, ev, pc, env, acc, budget, fuel, alloc, out, pres, cur, foc, qd, params, first, kinds, values, scopes, child, place, cells, orgs, helds, pend, fT, fN, fE, fM, fD, queue)) → post u' → wpX_grab C u o src h) ∧ (∀ post : Int32 → SY → Prop, gm_y240 post v' → gm_yw post nY (nI j) v)
theorem gm_SgG_y {FP : SX → SY → Prop} {i j : Nat} {u : SX} {o src h : Int32} {v v1 : SY} (hs : ∀ (post : Int32 → SY → Prop) (n : Nat), gm_yw post n (nI (j + 1)) v1 → gm_yw post (n + 1) (nI j) v) (hg : gm_SgG FP i (j + 1) u o src h v1) : gm_SgG FP i j u o src h v := by
  obtain ⟨u', v', nX, nY, h1, h2, h3⟩ := hg
  exact ⟨u', v', nX, nY + 1, h1, h2, fun post hp => hs post nY (h3 post hp)⟩
section
variable {t0 t1 t2 t3 t4 : Int32} {fb im : Int64} {lim defs stored wanted blocks sp mark frames style ev pc env : Int32} {acc : Int64} {budget fuel alloc out pres : Int32} {cur foc : Int64} {qd : Int32} {params first kinds values scopes child place : Nat → Int32} {cells : Nat → Int64} {orgs helds : Nat → Int32} {pend : Nat → Int64} {fT fN fE fM fD queue : Nat → Int32}
theorem gm_SgG_x {FP : SX → SY → Prop} {i j : Nat} {u : SX} {o src h : Int32} {v : SY} (hs : ∀ C : SX → Prop, C (t0, t1, t2, t3, t4, fb, im, lim, defs, stored, wanted, blocks, sp, mark, frames, style, ev, pc, env, acc, budget, fuel, alloc, out, pres, cur, foc, qd, params, first, kinds, values, scopes, child, place, cells, orgs, helds, pend, fT, fN, fE, fM, fD, queue) → wpX_grab C u o src h) (hg : gm_Sg FP (i + 1) j (t0, t1, t2, t3, t4, fb, im, lim, defs, stored, wanted, blocks, sp, mark, frames, style, ev, pc, env, acc, budget, fuel, alloc, out, pres, cur, foc, qd, params, first, kinds, values, scopes, child, place, cells, orgs, helds, pend, fT, fN, fE, fM, fD, queue) v) : gm_SgG FP i j u o src h v := by
  obtain ⟨u', v', nX, nY, h1, h2, h3⟩ := hg
  exact ⟨u', v', nX, nY, h1, fun post C hC hp => hs C (hC (h2 post hp)), h3⟩
theorem gm_Sg_gA {FP : SX → SY → Prop} {i j S M b o hl : Nat} {v : SY} (hi : i < 8192) (hS : S < 1000) (hM : M < S) (hb : b < 512) (ho : orgs b = nI o) (hh : helds b = nI hl) (hg : gm_SgG FP i j (t0, t1, t2, t3, t4, fb, im, lim, defs, stored, wanted, blocks, nI S, nI M, frames, style, 0, pc, env, gm_fb b, budget, fuel, alloc, 0, pres, cur, foc, qd, params, first, kinds, values, scopes, child, place, cells, orgs, helds, pend, fT, fN, fE, fM, fD, queue) (nI o) (nI b) (nI hl) v) : gm_Sg FP i j (t0, t1, t2, t3, t4, fb, im, lim, defs, stored, wanted, blocks, nI S, nI M, frames, style, 0, pc, env, gm_fb b, budget, fuel, alloc, 0, pres, cur, foc, qd, params, first, kinds, values, scopes, child, place, cells, orgs, helds, pend, fT, fN, fE, fM, fD, queue) v := by
  obtain ⟨u', v', nX, nY, h1, h2, h3⟩ := hg
  refine ⟨u', v', nX + 1, nY, h1, fun post hp => gm_xs_a hi hS hM (fun C hC => gm_xa_1 hb ho hh (fun C' hC' => h2 post C' ?_ hp)), h3⟩
  intros
  exact hC' (hC (by assumption))
theorem gm_Sg_gE {FP : SX → SY → Prop} {i j fu p e : Nat} {v : SY} (hi : i < 8192) (hfu : fu < 1000) (hp64 : p < 64) (hk : kinds p = 3) (hg : gm_SgG FP i j (t0, t1, t2, t3, t4, fb, im, lim, defs, stored, wanted, blocks, sp, mark, frames, style, 1, nI p, nI e, acc, budget, nI fu, alloc, 0, pres, cur, foc, qd, params, first, kinds, values, scopes, child, place, cells, orgs, helds, pend, fT, fN, fE, fM, fD, queue) (nI (8 + p)) (nI e) (nI 0) v) : gm_Sg FP i j (t0, t1, t2, t3, t4, fb, im, lim, defs, stored, wanted, blocks, sp, mark, frames, style, 1, nI p, nI e, acc, budget, nI (fu + 1), alloc, 0, pres, cur, foc, qd, params, first, kinds, values, scopes, child, place, cells, orgs, helds, pend, fT, fN, fE, fM, fD, queue) v := by
  obtain ⟨u', v', nX, nY, h1, h2, h3⟩ := hg
  refine ⟨u', v', nX + 1, nY, h1, fun post hp => gm_xs_e hi (fun C hC => gm_xe_fun hfu hp64 hk (fun C' hC' => h2 post C' ?_ hp)), h3⟩
  intros
  exact hC' (hC (by assumption))
end
theorem gm_Sg_fin {FP : SX → SY → Prop} {i j : Nat} {u : SX} {v : SY} (h : FP u v) (hx : ∀ post : SX → Prop, post u → gm_xw post 1 (nI i) u) (hy : ∀ post : Int32 → SY → Prop, gm_y240 post v → gm_yw post 1 (nI j) v) : gm_Sg FP i j u v := ⟨u, v, 1, 1, h, hx, hy⟩
end
section
/-! the simulation's statements; mode G -/
def gm_SE (FP : SX → SY → Prop) (t0 t1 t2 t3 t4 : Int32) (fb im : Int64) (lm D st wn sty : Nat) (budget pres : Int32) (cur foc : Int64) (qd : Int32) (params first kinds values scopes child place queue : Nat → Int32) (N : Nat) (ylim yfuel opn ycur yfoc ypend yout : Int32) (yqueue : Nat → Int32) (m : Nat) : Prop :=
  ∀ {i j B S M F p e fu H d : Nat} {acc : Int64} {alloc res fresh : Int32} {cells pend : Nat → Int64} {orgs helds fT fN fE fM fD org num held part ath got size used yenv args : Nat → Int32}, 1500 ≤ i + j + m → (gm_mE sty D N params kinds values scopes i j B S M F p e fu H d cells pend orgs helds fT fN fE fM fD org num held part ath got size used yenv args) →
    gm_Sg FP i j (t0, t1, t2, t3, t4, fb, im, nI lm, nI D, nI st, nI wn, nI B, nI S, nI M, nI F, nI sty, 1, nI p, nI e, acc, budget, nI fu, alloc, 0, pres, cur, foc, qd, params, first, kinds, values, scopes, child, place, cells, orgs, helds, pend, fT, fN, fE, fM, fD, queue) (ylim, yfuel, nI st, nI D, opn, nI H, ycur, yfoc, ypend, nI fu, alloc, yout, nI (d + 1), res, nI sty, 0, fresh, 0, kinds, values, params, first, org, num, held, part, yqueue, ath, got, size, used, yenv, args)
def gm_SR (FP : SX → SY → Prop) (t0 t1 t2 t3 t4 : Int32) (fb im : Int64) (lm D st wn sty : Nat) (budget pres : Int32) (cur foc : Int64) (qd : Int32) (params first kinds values scopes child place queue : Nat → Int32) (N : Nat) (ylim yfuel opn ycur yfoc ypend yout : Int32) (yqueue : Nat → Int32) (m : Nat) : Prop :=
  ∀ {i j B S M F fu H d : Nat} {acc : Int64} {pc env alloc yalloc res fresh : Int32} {cells pend : Nat → Int64} {orgs helds fT fN fE fM fD org num held part ath got size used yenv args : Nat → Int32}, 1500 ≤ i + j + m → (gm_mR sty D N params kinds values scopes i j B S M F fu H d acc alloc yalloc res fresh cells pend orgs helds fT fN fE fM fD org num held part ath got size used yenv args) →
    gm_Sg FP i j (t0, t1, t2, t3, t4, fb, im, nI lm, nI D, nI st, nI wn, nI B, nI S, nI M, nI F, nI sty, 0, pc, env, acc, budget, nI fu, alloc, 0, pres, cur, foc, qd, params, first, kinds, values, scopes, child, place, cells, orgs, helds, pend, fT, fN, fE, fM, fD, queue) (ylim, yfuel, nI st, nI D, opn, nI H, ycur, yfoc, ypend, nI fu, yalloc, yout, nI d, res, nI sty, 0, fresh, 1, kinds, values, params, first, org, num, held, part, yqueue, ath, got, size, used, yenv, args)
def gm_SG (FP : SX → SY → Prop) (t0 t1 t2 t3 t4 : Int32) (fb im : Int64) (lm D st wn sty : Nat) (budget pres : Int32) (cur foc : Int64) (qd : Int32) (params first kinds values scopes child place queue : Nat → Int32) (N : Nat) (ylim yfuel opn ycur yfoc ypend yout : Int32) (yqueue : Nat → Int32) (m : Nat) : Prop :=
  ∀ {i j B S S' M F fu H d o src hl t r : Nat} {acc : Int64} {ev pc env alloc yalloc fresh : Int32} {cells pend : Nat → Int64} {orgs helds fT fN fE fM fD org num held part ath got size used yenv args : Nat → Int32}, 1500 ≤ i + j + m → (gm_mG sty D N params kinds values scopes i j B S S' M F fu H d o src hl t r alloc yalloc fresh cells pend orgs helds fT fN fE fM fD org num held part ath got size used yenv args) →
    gm_SgG FP i j (t0, t1, t2, t3, t4, fb, im, nI lm, nI D, nI st, nI wn, nI B, nI S, nI M, nI F, nI sty, ev, pc, env, acc, budget, nI fu, alloc, 0, pres, cur, foc, qd, params, first, kinds, values, scopes, child, place, cells, orgs, helds, pend, fT, fN, fE, fM, fD, queue) (nI o) (nI src) (nI hl) (ylim, yfuel, nI st, nI D, opn, nI H, ycur, yfoc, ypend, nI fu, yalloc, yout, nI d, nI r, nI sty, 0, fresh, 1, kinds, values, params, first, org, num, held, part, yqueue, ath, got, size, used, yenv, args)
section
variable {FP : SX → SY → Prop} {t0 t1 t2 t3 t4 : Int32} {fb im : Int64} {lm D st wn sty : Nat} {budget pres : Int32} {cur foc : Int64} {qd : Int32} {params first kinds values scopes child place queue : Nat → Int32} {N : Nat} {ylim yfuel opn ycur yfoc ypend yout : Int32} {yqueue : Nat → Int32} {m : Nat} {b : Nat → Nat}
variable {i j B S S' M F fu H d o src hl t r : Nat} {acc : Int64} {ev pc env alloc yalloc fresh : Int32} {cells pend : Nat → Int64} {orgs helds fT fN fE fM fD org num held part ath got size used yenv args : Nat → Int32}
theorem gm_CF_b {a c : Int32} (h : gm_CF B orgs helds args) : gm_CF (B + 1) (upd orgs B a) (upd helds B c) args := by
  obtain ⟨h1, h2, h3⟩ := h
  refine ⟨by omega, fun g hg => ?_, h3⟩
  rw [pk_un (by omega), pk_un (by omega)]
  exact h2 g hg
theorem gm_CF_g (h : gm_CF B orgs helds args) : gm_CF (B + 1) orgs helds args := ⟨by have := h.1; omega, h.2⟩
theorem gm_G_build (hPI : (gm_PI params first kinds values scopes child place lm D N st wn b)) (ihR : (gm_SR FP t0 t1 t2 t3 t4 fb im lm D st wn sty budget pres cur foc qd params first kinds values scopes child place queue N ylim yfuel opn ycur yfoc ypend yout yqueue) m) (hm : 1500 ≤ i + j + (m + 1)) (hg : (gm_mG sty D N params kinds values scopes i j B S S' M F fu H d o src hl t r alloc yalloc fresh cells pend orgs helds fT fN fE fM fD org num held part ath got size used yenv args)) (hS : S' = M) :
    gm_SgG FP i j (t0, t1, t2, t3, t4, fb, im, nI lm, nI D, nI st, nI wn, nI B, nI S, nI M, nI F, nI sty, ev, pc, env, acc, budget, nI fu, alloc, 0, pres, cur, foc, qd, params, first, kinds, values, scopes, child, place, cells, orgs, helds, pend, fT, fN, fE, fM, fD, queue) (nI o) (nI src) (nI hl) (ylim, yfuel, nI st, nI D, opn, nI H, ycur, yfoc, ypend, nI fu, yalloc, yout, nI d, nI r, nI sty, 0, fresh, 1, kinds, values, params, first, org, num, held, part, yqueue, ath, got, size, used, yenv, args) := by
  obtain ⟨c1, c2, c3, ⟨r1, r2, r3, r4, r5, r6, r7⟩, ⟨v1, v2, v3⟩, ⟨al1, al2⟩, ⟨pt, p2, p3, p4⟩⟩ := hg
  obtain ⟨o1, o2, o3, o4, o5, -⟩ := gm_pi_OK hPI r5
  subst hS
  have hag := gm_agX_b (B := B) (src := src) (h := hl) (t := t) (kp := gm_kp scopes o) (S := S) (orgs := orgs) (helds := helds) (pend := pend) (cells := cells) (a := nI o) (c := nI (hl + t))
  have up : ∀ yi x, (gm_V D N params kinds values scopes B orgs helds cells H org num held part) yi x → (gm_V D N params kinds values scopes (B + 1) (upd orgs B (nI o)) (upd helds B (nI (hl + t))) (gm_cg B src hl t (gm_kp scopes o) S pend cells) H org num held part) yi x := fun yi x z => gm_VX hag gm_agY_r (by omega) (Nat.le_refl _) z
  refine gm_SgG_x (fun C hC => gm_xgrab_b (t := t) o2 r6 (by omega) c3 (by omega) (by omega) (by omega) (by omega) hC) ?_
  refine ihR (by omega) ⟨gm_CF_b c1, gm_SV hPI hag gm_agY_r (by omega) (Nat.le_refl _) (fun _ _ => rfl) gm_agF_r gm_agD_r c2, ?_, ⟨(al1 rfl).symm, fun _ => Or.inr rfl⟩, by omega, p2, p3, by omega, p4⟩
  refine gm_V_in ⟨r, r1, rfl, Or.inr ⟨B, o, hl + t, by omega, rfl, pk_us, r2, pk_us, r3, r4, r5, r6, by omega, fun i hi => ?_⟩⟩
  rcases Nat.lt_or_ge i hl with z | z
  · rw [gm_cg_h r7 (by omega) z]
    exact up _ _ (v1 i z)
  · obtain ⟨k, rfl⟩ : ∃ k, i = hl + k := ⟨i - hl, by omega⟩
    rcases Nat.lt_or_ge k t with y | y
    · rw [show B * 12 + (hl + k) = B * 12 + hl + k by omega, show r * 16 + (hl + k) = r * 16 + hl + k by omega, gm_cg_t y]
      exact up _ _ (v2 k y)
    · obtain ⟨l, rfl⟩ : ∃ l, k = t + l := ⟨k - t, by omega⟩
      rw [show B * 12 + (hl + (t + l)) = B * 12 + hl + t + l by omega, show r * 16 + (hl + (t + l)) = r * 16 + (hl + t) + l by omega, gm_cg_k r7 (by omega) (by omega)]
      exact up _ _ (v3 l (by omega))
/-- the reference passes the value on -/
theorem gm_G_pop (ihG : (gm_SG FP t0 t1 t2 t3 t4 fb im lm D st wn sty budget pres cur foc qd params first kinds values scopes child place queue N ylim yfuel opn ycur yfoc ypend yout yqueue) m) (hm : 1500 ≤ i + j + (m + 1)) (hg : (gm_mG sty D N params kinds values scopes i j B S S' M F fu H (d + 1) o src hl t r alloc yalloc fresh cells pend orgs helds fT fN fE fM fD org num held part ath got size used yenv args)) (hs : (gm_Stk (gm_V D N params kinds values scopes B orgs helds cells H org num held part) sty N kinds values scopes B cells pend fT fN fE fM fD ath got size used yenv args) d F S' M)
    (hy : ∀ C : SY → Prop, C (ylim, yfuel, nI st, nI D, opn, nI H, ycur, yfoc, ypend, nI fu, yalloc, yout, nI d, nI r, nI sty, 0, fresh, 1, kinds, values, params, first, org, num, held, part, yqueue, ath, got, size, used, yenv, args) → wpY_receive C (ylim, yfuel, nI st, nI D, opn, nI H, ycur, yfoc, ypend, nI fu, yalloc, yout, nI (d + 1), nI r, nI sty, 0, fresh, 1, kinds, values, params, first, org, num, held, part, yqueue, ath, got, size, used, yenv, args) (nI d)) :
    gm_SgG FP i j (t0, t1, t2, t3, t4, fb, im, nI lm, nI D, nI st, nI wn, nI B, nI S, nI M, nI F, nI sty, ev, pc, env, acc, budget, nI fu, alloc, 0, pres, cur, foc, qd, params, first, kinds, values, scopes, child, place, cells, orgs, helds, pend, fT, fN, fE, fM, fD, queue) (nI o) (nI src) (nI hl) (ylim, yfuel, nI st, nI D, opn, nI H, ycur, yfoc, ypend, nI fu, yalloc, yout, nI (d + 1), nI r, nI sty, 0, fresh, 1, kinds, values, params, first, org, num, held, part, yqueue, ath, got, size, used, yenv, args) := by
  obtain ⟨c1, c2, c3, c4, c5, c6, ⟨pt, p2, p3, p4⟩⟩ := hg
  refine gm_SgG_y (v1 := (ylim, yfuel, nI st, nI D, opn, nI H, ycur, yfoc, ypend, nI fu, yalloc, yout, nI d, nI r, nI sty, 0, fresh, 1, kinds, values, params, first, org, num, held, part, yqueue, ath, got, size, used, yenv, args)) (fun post n hw => gm_ys_r (by omega) (by omega) (fun C hC => hy C (hC hw))) ?_
  exact ihG (by omega) ⟨c1, hs, c3, c4, c5, c6, pt, by omega, by omega, by omega⟩
theorem gm_ne1 (h : ¬ sty = 1) (h1 : sty ≤ 1) : ¬ nI sty = 1 := by
  have : sty = 0 := by omega
  subst this
  decide
theorem gm_eq1 (h : sty = 1) : nI sty = 1 := by subst h; rfl
theorem gm_arr1 {f a : Int32} (h : sty = 1) : gm_arr f (nI sty) a = a := by
  subst h
  unfold gm_arr
  by_cases z : f = 0
  · rw [if_pos z]
  · rw [if_neg z, if_neg (by decide)]
theorem gm_arr0 {a : Int32} : gm_arr 0 (nI sty) a = a := by
  unfold gm_arr
  rw [if_pos rfl]
theorem gm_arrf {a : Int32} (h : sty = 0) : gm_arr 1 (nI sty) a = a + 1 := by
  subst h
  unfold gm_arr
  rw [if_neg (by decide), if_pos nI_0]
/-- the reference builds a function with too few arguments -/
theorem gm_G_part (hPI : (gm_PI params first kinds values scopes child place lm D N st wn b)) (hop : gm_Opn opn wn) (hsty : sty ≤ 1) (ihG : (gm_SG FP t0 t1 t2 t3 t4 fb im lm D st wn sty budget pres cur foc qd params first kinds values scopes child place queue N ylim yfuel opn ycur yfoc ypend yout yqueue) m) (hm : 1500 ≤ i + j + (m + 1)) (hg : (gm_mG sty D N params kinds values scopes i j B S S' M F fu H (d + 1) o src hl t r alloc yalloc fresh cells pend orgs helds fT fN fE fM fD org num held part ath got size used yenv args)) (hMS : M < S') {sz us S'' : Nat} (hs : (gm_Stk (gm_V D N params kinds values scopes B orgs helds cells H org num held part) sty N kinds values scopes B cells pend fT fN fE fM fD ath got size used yenv args) d F S'' M) (hsv : sty = 1 → S'' = M) (h8 : sz ≤ 8) (hu : us < sz) (hap : ath d = -1 ∨ ∃ p, p < N ∧ ath d = nI p ∧ kinds p = 4) (e1 : got d = nI sz) (e2 : size d = nI sz) (e3 : used d = nI us) (e4 : S' = S'' + (sz - us)) (e5 : ∀ j, j < sz - us → (gm_V D N params kinds values scopes B orgs helds cells H org num held part) (args (d * 8 + (sz - 1 - j))) (pend (S'' + j)))
    (hk : hl + t + (sz - us) < gm_par params values o) :
    gm_SgG FP i j (t0, t1, t2, t3, t4, fb, im, nI lm, nI D, nI st, nI wn, nI B, nI S, nI M, nI F, nI sty, ev, pc, env, acc, budget, nI fu, alloc, 0, pres, cur, foc, qd, params, first, kinds, values, scopes, child, place, cells, orgs, helds, pend, fT, fN, fE, fM, fD, queue) (nI o) (nI src) (nI hl) (ylim, yfuel, nI st, nI D, opn, nI H, ycur, yfoc, ypend, nI fu, yalloc, yout, nI (d + 1), nI r, nI sty, 0, fresh, 1, kinds, values, params, first, org, num, held, part, yqueue, ath, got, size, used, yenv, args) := by
  obtain ⟨n1, n2, n3, n4, n5, n6⟩ := gm_pi_n hPI
  obtain ⟨c1, c2, c3, ⟨r1, r2, r3, r4, r5, r6, r7⟩, ⟨v1, v2, v3⟩, ⟨al1, al2⟩, ⟨pt, p2, p3, p4⟩⟩ := hg
  obtain ⟨o1, o2, o3, o4, o5, -⟩ := gm_pi_OK hPI r5
  have hal := al2 hMS
  subst hal
  have hap' : gm_Apf kinds ath d := by
    rcases hap with z | ⟨p, z1, z2⟩
    · exact Or.inl z
    · exact Or.inr ⟨p, by omega, z2⟩
  have hlo : ∀ jj, jj < H * 16 → gm_pg H d r (hl + t) us (sz - us) (gm_kp scopes o) args part jj = part jj := fun jj hj => gm_pg_lo hj
  have hag := gm_agY_p (H := H) (org := org) (num := num) (held := held) (part := part) (part' := gm_pg H d r (hl + t) us (sz - us) (gm_kp scopes o) args part) (a := nI o) (b := 0) (c := 0) (e := nI (hl + t + (sz - us))) hlo
  have up : ∀ yi x, (gm_V D N params kinds values scopes B orgs helds cells H org num held part) yi x → (gm_V D N params kinds values scopes B orgs helds cells (H + 1) (upd org H (nI o)) (upd num H 0) (upd (upd held H 0) H (nI (hl + t + (sz - us)))) (gm_pg H d r (hl + t) us (sz - us) (gm_kp scopes o) args part)) yi x := fun yi x z => gm_VX gm_agX_r hag (Nat.le_refl _) (by omega) z
  obtain ⟨al, hal⟩ : ∃ al : Int32, (nI sty = 1 ∧ al = yalloc + 1) ∨ (¬ nI sty = 1 ∧ al = yalloc) := by
    by_cases z : nI sty = 1
    · exact ⟨yalloc + 1, Or.inl ⟨z, rfl⟩⟩
    · exact ⟨yalloc, Or.inr ⟨z, rfl⟩⟩
  refine gm_SgG_y (v1 := (ylim, yfuel, nI st, nI D, opn, nI (H + 1), ycur, yfoc, ypend, nI fu, al, yout, nI d, nI H, nI sty, 0, 1, 1, kinds, values, params, first, upd org H (nI o), upd num H 0, upd (upd held H 0) H (nI (hl + t + (sz - us))), gm_pg H d r (hl + t) us (sz - us) (gm_kp scopes o) args part, yqueue, ath, got, size, used, yenv, args)) (fun post n hw => gm_ys_r (by omega) (by omega) (fun C hC => gm_yap_p (scopes := scopes) (by omega) hap' e1 e2 e3 h8 hu (by omega) (by omega) r2 o1 r3 o2 hk (by omega) (by omega) hal (fun h8o post hp => gm_pi_ysc hPI hop ?_ hp) (hC hw))) ?_
  · rcases r5 with z | z
    · omega
    · exact z.2.1
  refine ihG (t := t + (sz - us)) (S' := S'') (by omega) ⟨c1, gm_SV hPI gm_agX_r hag (Nat.le_refl _) (by omega) (fun _ _ => rfl) gm_agF_r gm_agD_r hs, by omega, ⟨by omega, pk_us, by rw [pk_us, Nat.add_assoc], pk_us, r5, by omega, r7⟩, ⟨fun i hi => ?_, fun i hi => ?_, fun i hi => ?_⟩, ⟨fun z => ?_, fun z => ?_⟩, pt, by omega, by omega, by omega⟩
  · rw [gm_pg_h r1 (by omega) (by omega)]
    exact up _ _ (v1 i hi)
  · rcases Nat.lt_or_ge i t with y | y
    · rw [show H * 16 + hl + i = H * 16 + (hl + i) by omega, gm_pg_h r1 (by omega) (by omega), show r * 16 + (hl + i) = r * 16 + hl + i by omega]
      exact up _ _ (v2 i y)
    · obtain ⟨k, rfl⟩ : ∃ k, i = t + k := ⟨i - t, by omega⟩
      rw [show H * 16 + hl + (t + k) = H * 16 + (hl + t) + k by omega, gm_pg_a (by omega)]
      have := up _ _ (e5 (sz - us - 1 - k) (by omega))
      rw [show d * 8 + (sz - 1 - (sz - us - 1 - k)) = d * 8 + us + k by omega, show S'' + (sz - us - 1 - k) = S - 1 - (t + k) by omega] at this
      exact this
  · rw [show H * 16 + (hl + (t + (sz - us))) + i = H * 16 + (hl + t) + (sz - us) + i by omega, gm_pg_k r1 (by omega) hi]
    exact up _ _ (v3 i hi)
  · rcases hal with ⟨s1, s2⟩ | ⟨s1, s2⟩
    · have : sty = 1 := by
        rcases Nat.lt_or_ge sty 1 with y | y
        · have : sty = 0 := by omega
          subst this
          exact absurd s1 (by decide)
        · omega
      rw [gm_arr1 this, s2]
    · have : sty = 0 := by
        rcases Nat.lt_or_ge sty 1 with y | y
        · omega
        · exact absurd (gm_eq1 (show sty = 1 by omega)) s1
      rw [gm_arrf this, s2]
  · rcases hal with ⟨s1, s2⟩ | ⟨s1, s2⟩
    · have : sty = 1 := by
        rcases Nat.lt_or_ge sty 1 with y | y
        · have : sty = 0 := by omega
          subst this
          exact absurd s1 (by decide)
        · omega
      have := hsv this
      omega
    · exact s2
/-- both enter a body -/
theorem gm_G_ent (hPI : (gm_PI params first kinds values scopes child place lm D N st wn b)) (hop : gm_Opn opn wn) (hsty : sty ≤ 1) (ihE : (gm_SE FP t0 t1 t2 t3 t4 fb im lm D st wn sty budget pres cur foc qd params first kinds values scopes child place queue N ylim yfuel opn ycur yfoc ypend yout yqueue) m) (hm : 1500 ≤ i + j + (m + 1)) (hg : (gm_mG sty D N params kinds values scopes i j B S S' M F fu H (d + 1) o src hl t r alloc yalloc fresh cells pend orgs helds fT fN fE fM fD org num held part ath got size used yenv args)) (hMS : M < S') {sz us S'' : Nat} (hs : (gm_Stk (gm_V D N params kinds values scopes B orgs helds cells H org num held part) sty N kinds values scopes B cells pend fT fN fE fM fD ath got size used yenv args) d F S'' M) (hsv : sty = 1 → S'' = M) (h8 : sz ≤ 8) (hu : us < sz) (hap : ath d = -1 ∨ ∃ p, p < N ∧ ath d = nI p ∧ kinds p = 4) (e1 : got d = nI sz) (e2 : size d = nI sz) (e3 : used d = nI us) (e4 : S' = S'' + (sz - us)) (e5 : ∀ j, j < sz - us → (gm_V D N params kinds values scopes B orgs helds cells H org num held part) (args (d * 8 + (sz - 1 - j))) (pend (S'' + j)))
    (hk : gm_par params values o ≤ hl + t + (sz - us)) :
    gm_SgG FP i j (t0, t1, t2, t3, t4, fb, im, nI lm, nI D, nI st, nI wn, nI B, nI S, nI M, nI F, nI sty, ev, pc, env, acc, budget, nI fu, alloc, 0, pres, cur, foc, qd, params, first, kinds, values, scopes, child, place, cells, orgs, helds, pend, fT, fN, fE, fM, fD, queue) (nI o) (nI src) (nI hl) (ylim, yfuel, nI st, nI D, opn, nI H, ycur, yfoc, ypend, nI fu, yalloc, yout, nI (d + 1), nI r, nI sty, 0, fresh, 1, kinds, values, params, first, org, num, held, part, yqueue, ath, got, size, used, yenv, args) := by
  obtain ⟨n1, n2, n3, n4, n5, n6⟩ := gm_pi_n hPI
  obtain ⟨c1, c2, c3, ⟨r1, r2, r3, r4, r5, r6, r7⟩, ⟨v1, v2, v3⟩, ⟨al1, al2⟩, ⟨pt, p2, p3, p4⟩⟩ := hg
  obtain ⟨o1, o2, o3, o4, o5, q, q1, q2, q3, q4⟩ := gm_pi_OK hPI r5
  have hal := al2 hMS
  subst hal
  obtain ⟨ms, hms⟩ : ∃ ms, hl + t + ms = gm_par params values o := ⟨gm_par params values o - (hl + t), by omega⟩
  have hms1 : 1 ≤ ms := by omega
  have hsM := gm_Stk_le hs
  have hap' : gm_Apf kinds ath d := by
    rcases hap with z | ⟨p, z1, z2⟩
    · exact Or.inl z
    · exact Or.inr ⟨p, by omega, z2⟩
  have hag := gm_agX_g (B := B) (src := src) (h := hl) (t := t + ms) (kp := gm_kp scopes o) (S := S) (orgs := orgs) (helds := helds) (pend := pend) (cells := cells)
  have up : ∀ yi x, (gm_V D N params kinds values scopes B orgs helds cells H org num held part) yi x → (gm_V D N params kinds values scopes (B + 1) orgs helds (gm_cg B src hl (t + ms) (gm_kp scopes o) S pend cells) H org num held part) yi x := fun yi x z => gm_VX hag gm_agY_r (by omega) (Nat.le_refl _) z
  refine gm_SgG_y (v1 := (ylim, yfuel, nI st, nI D, opn, nI H, ycur, yfoc, ypend, nI fu, yalloc, yout, nI (d + 1 + 1), nI r, nI sty, 0, fresh, 0, kinds, values, params, first, org, num, held, part, yqueue, upd ath (d + 1) (nI q), got, size, upd used d (nI (us + ms)), gm_eg (d + 1) d r (hl + t) us ms (gm_kp scopes o) part args yenv, args)) (fun post n hw => gm_ys_r (by omega) (by omega) (fun C hC => gm_yap_e (scopes := scopes) (by omega) (by omega) hap' e1 e2 e3 h8 (by omega) r2 o1 r3 o2 hms hms1 (by omega) (by omega) q1 (fun h8o post hp => gm_pi_ysc hPI hop ?_ hp) (hC hw))) ?_
  · rcases r5 with z | z
    · omega
    · exact z.2.1
  -- the environment
  have henv : ∀ i, i < gm_vl scopes q → (gm_V D N params kinds values scopes (B + 1) orgs helds (gm_cg B src hl (t + ms) (gm_kp scopes o) S pend cells) H org num held part) (gm_eg (d + 1) d r (hl + t) us ms (gm_kp scopes o) part args yenv ((d + 1) * 12 + i)) (gm_cg B src hl (t + ms) (gm_kp scopes o) S pend cells (B * 12 + i)) := by
    intro i hi
    rw [q3] at hi
    rcases Nat.lt_or_ge i hl with z | z
    · rw [gm_eg_h (by omega), gm_cg_h r7 (by omega) z]
      exact up _ _ (v1 i z)
    · obtain ⟨k, rfl⟩ : ∃ k, i = hl + k := ⟨i - hl, by omega⟩
      rcases Nat.lt_or_ge k t with y | y
      · rw [gm_eg_h (by omega), show B * 12 + (hl + k) = B * 12 + hl + k by omega, show r * 16 + (hl + k) = r * 16 + hl + k by omega, gm_cg_t (by omega)]
        exact up _ _ (v2 k y)
      · obtain ⟨l, rfl⟩ : ∃ l, k = t + l := ⟨k - t, by omega⟩
        rcases Nat.lt_or_ge l ms with x | x
        · rw [show (d + 1) * 12 + (hl + (t + l)) = (d + 1) * 12 + (hl + t) + l by omega, gm_eg_a x, show B * 12 + (hl + (t + l)) = B * 12 + hl + (t + l) by omega, gm_cg_t (by omega)]
          have := up _ _ (e5 (sz - us - 1 - l) (by omega))
          rw [show d * 8 + (sz - 1 - (sz - us - 1 - l)) = d * 8 + us + l by omega, show S'' + (sz - us - 1 - l) = S - 1 - (t + l) by omega] at this
          exact this
        · obtain ⟨n, rfl⟩ : ∃ n, l = ms + n := ⟨l - ms, by omega⟩
          rw [show (d + 1) * 12 + (hl + (t + (ms + n))) = (d + 1) * 12 + (hl + t) + ms + n by omega, gm_eg_k (by omega), show B * 12 + (hl + (t + (ms + n))) = B * 12 + hl + (t + ms) + n by omega, gm_cg_k r7 (by omega) (by omega)]
          exact up _ _ (v3 n (by omega))
  have hvis : ∀ S1 M1, (sty = 1 → S1 = M1) → gm_Vis kinds values sty q S1 M1 := fun S1 M1 h1 h2 => Or.inl ⟨h1 h2, fun _ z => q4 z.1 z.2.1⟩
  have hD : ∀ f, f < d → upd ath (d + 1) (nI q) f = ath f ∧ got f = got f ∧ size f = size f ∧ upd used d (nI (us + ms)) f = used f := fun f hf => ⟨pk_un (by omega), rfl, rfl, pk_un (by omega)⟩
  have hagD : gm_agD d ath got size used yenv args (upd ath (d + 1) (nI q)) got size (upd used d (nI (us + ms))) (gm_eg (d + 1) d r (hl + t) us ms (gm_kp scopes o) part args yenv) args := ⟨hD, fun jj hj => gm_eg_lo (by omega), fun _ _ => rfl⟩
  have hap2 : upd ath (d + 1) (nI q) d = -1 ∨ ∃ p, p < N ∧ upd ath (d + 1) (nI q) d = nI p ∧ kinds p = 4 := by
    rw [pk_un (by omega)]
    exact hap
  by_cases hpush : sty = 1 ∧ M < S - (t + ms)
  · obtain ⟨s1, s2⟩ := hpush
    have hS'' := hsv s1
    refine gm_SgG_x (fun C hC => gm_xgrab_p (ms := t + ms) (q := nI q) o2 (by omega) (by omega) (by omega) (by omega) (by omega) (by omega) (by omega) (by omega) q1 (by omega) (gm_eq1 s1) hC) ?_
    refine ihE (by omega) ⟨gm_CF_g c1, ⟨F, S'', M, gm_SV hPI hag gm_agY_r (by omega) (Nat.le_refl _) (fun _ _ => rfl) (gm_agF_p (Nat.le_refl _)) hagD hs, fun _ => hS'', Or.inr (Or.inr ⟨sz, us + ms, h8, by omega, hap2, e1, e2, pk_us, by omega, fun jj hj => up _ _ (e5 jj (by omega)), Or.inr ⟨s1, by omega, rfl, pk_us, pk_us, rfl⟩⟩)⟩, ⟨q2, pk_us, by omega, henv⟩, hvis _ _ (fun _ => rfl), by omega, by omega, by omega, by omega, by omega⟩
  · have hcase : ¬ nI sty = 1 ∨ S - (t + ms) = M := by
      by_cases s1 : sty = 1
      · right
        have := hsv s1
        have : ¬ M < S - (t + ms) := fun z => hpush ⟨s1, z⟩
        omega
      · exact Or.inl (gm_ne1 s1 hsty)
    refine gm_SgG_x (fun C hC => gm_xgrab_n (ms := t + ms) (q := nI q) o2 (by omega) (by omega) (by omega) (by omega) (by omega) (by omega) (by omega) (by omega) q1 hcase hC) ?_
    refine ihE (by omega) ⟨gm_CF_g c1, ⟨F, S'', M, gm_SV hPI hag gm_agY_r (by omega) (Nat.le_refl _) (fun _ _ => rfl) gm_agF_r hagD hs, hsv, Or.inr (Or.inr ⟨sz, us + ms, h8, by omega, hap2, e1, e2, pk_us, by omega, fun jj hj => up _ _ (e5 jj (by omega)), Or.inl ⟨rfl, rfl⟩⟩)⟩, ⟨q2, pk_us, by omega, henv⟩, hvis _ _ (fun s1 => ?_), by omega, by omega, by omega, by omega, by omega⟩
    rcases hcase with z | z
    · exact absurd (gm_eq1 s1) z
    · exact z
theorem gm_simG (hPI : (gm_PI params first kinds values scopes child place lm D N st wn b)) (hop : gm_Opn opn wn) (hsty : sty ≤ 1) (ihE : (gm_SE FP t0 t1 t2 t3 t4 fb im lm D st wn sty budget pres cur foc qd params first kinds values scopes child place queue N ylim yfuel opn ycur yfoc ypend yout yqueue) m) (ihR : (gm_SR FP t0 t1 t2 t3 t4 fb im lm D st wn sty budget pres cur foc qd params first kinds values scopes child place queue N ylim yfuel opn ycur yfoc ypend yout yqueue) m) (ihG : (gm_SG FP t0 t1 t2 t3 t4 fb im lm D st wn sty budget pres cur foc qd params first kinds values scopes child place queue N ylim yfuel opn ycur yfoc ypend yout yqueue) m) : (gm_SG FP t0 t1 t2 t3 t4 fb im lm D st wn sty budget pres cur foc qd params first kinds values scopes child place queue N ylim yfuel opn ycur yfoc ypend yout yqueue) (m + 1) := by
  intro i j B S S' M F fu H d o src hl t r acc ev pc env alloc yalloc fresh cells pend orgs helds fT fN fE fM fD org num held part ath got size used yenv args hm hg
  obtain ⟨n1, n2, n3, n4, n5, n6⟩ := gm_pi_n hPI
  have hle := gm_Stk_le hg.2.1
  rcases Nat.lt_or_ge M S' with hMS | hMS
  · obtain ⟨d, rfl⟩ : ∃ q, d = q + 1 := by
      rcases d with - | d
      · obtain ⟨-, z1, z2⟩ := hg.2.1
        omega
      · exact ⟨d, rfl⟩
    have hdd : d + 1 + fu ≤ 200 := hg.2.2.2.2.2.2.2.2.1
    obtain ⟨F', S'', M', hs, hsv, hfr⟩ := hg.2.1
    rcases hfr with ⟨p, e, -, -, -, -, -, -, -, z, -⟩ | ⟨p, a1, a2, a3, a4, a5, a6, a7⟩ | ⟨sz, us, a1, a2, a3, a4, a5, a6, a7, a8, a9⟩
    · omega
    · subst a5 a6 a7
      exact gm_G_pop ihG hm hg hs (fun C hC => gm_yr_br (by omega) a2 (by omega) a3 a4 hC)
    · rcases a9 with ⟨a9, a10⟩ | ⟨-, -, -, -, -, z⟩
      · subst a9 a10
        rcases Nat.lt_or_ge us sz with y | y
        · rcases Nat.lt_or_ge (hl + t + (sz - us)) (gm_par params values o) with x | x
          · exact gm_G_part hPI hop hsty ihG hm hg hMS hs hsv a1 y a3 a4 a5 a6 a7 a8 x
          · exact gm_G_ent hPI hop hsty ihE hm hg hMS hs hsv a1 y a3 a4 a5 a6 a7 a8 x
        · have : us = sz := by omega
          subst this
          have hS : S' = S'' := by omega
          subst hS
          refine gm_G_pop ihG hm hg hs (fun C hC => gm_yr_pop (by omega) ?_ a4 a5 a6 a1 hC)
          rcases a3 with z | ⟨p, z1, z2⟩
          · exact Or.inl z
          · exact Or.inr ⟨p, by omega, z2⟩
      · omega
  · exact gm_G_build hPI ihR hm hg (by omega)
end
end
section
/-! mode E -/
def gm_HFF (FP : SX → SY → Prop) (t0 t1 t2 t3 t4 : Int32) (fb im : Int64) (lm D st wn sty : Nat) (budget pres : Int32) (cur foc : Int64) (qd : Int32) (params first kinds values scopes child place queue : Nat → Int32) (ylim yfuel opn ycur yfoc ypend yout : Int32) (yqueue : Nat → Int32) : Prop :=
  ∀ {B fu H : Nat} {oc sp mark frames ev pc env alloc depth res fresh ready : Int32} {acc : Int64} {cells pend : Nat → Int64} {orgs helds fT fN fE fM fD org num held part ath got size used yenv args : Nat → Int32}, gm_CF B orgs helds args → (oc = 3 ∨ oc = 4 ∨ oc = 5) →
    FP (t0, t1, t2, t3, t4, fb, im, nI lm, nI D, nI st, nI wn, nI B, sp, mark, frames, nI sty, ev, pc, env, acc, budget, nI fu, alloc, oc, pres, cur, foc, qd, params, first, kinds, values, scopes, child, place, cells, orgs, helds, pend, fT, fN, fE, fM, fD, queue) (ylim, yfuel, nI st, nI D, opn, nI H, ycur, yfoc, ypend, nI fu, alloc, yout, depth, res, nI sty, oc, fresh, ready, kinds, values, params, first, org, num, held, part, yqueue, ath, got, size, used, yenv, args)
def gm_HFS (FP : SX → SY → Prop) (t0 t1 t2 t3 t4 : Int32) (fb im : Int64) (lm D st wn sty : Nat) (budget pres : Int32) (cur foc : Int64) (qd : Int32) (params first kinds values scopes child place queue : Nat → Int32) (N : Nat) (ylim yfuel opn ycur yfoc ypend yout : Int32) (yqueue : Nat → Int32) : Prop :=
  ∀ {B fu H : Nat} {sp mark frames pc env alloc yalloc res fresh out : Int32} {acc : Int64} {cells pend : Nat → Int64} {orgs helds fT fN fE fM fD org num held part ath got size used yenv args : Nat → Int32}, gm_CF B orgs helds args → (gm_V D N params kinds values scopes B orgs helds cells H org num held part) res acc → alloc = gm_arr fresh (nI sty) yalloc → B + 2 * fu ≤ 408 → H + 2 * fu ≤ 401 → (((∃ z, acc = gm_enc z) ∧ out = 1) ∨ ((∃ b, b < B ∧ acc = gm_fb b) ∧ out = 2)) →
    FP (t0, t1, t2, t3, t4, fb, im, nI lm, nI D, nI st, nI wn, nI B, sp, mark, frames, nI sty, 0, pc, env, acc, budget, nI fu, alloc, out, pres, cur, foc, qd, params, first, kinds, values, scopes, child, place, cells, orgs, helds, pend, fT, fN, fE, fM, fD, queue) (ylim, yfuel, nI st, nI D, opn, nI H, ycur, yfoc, ypend, nI fu, yalloc, yout, nI 0, res, nI sty, 0, fresh, 1, kinds, values, params, first, org, num, held, part, yqueue, ath, got, size, used, yenv, args)
section
variable {FP : SX → SY → Prop} {t0 t1 t2 t3 t4 : Int32} {fb im : Int64} {lm D st wn sty : Nat} {budget pres : Int32} {cur foc : Int64} {qd : Int32} {params first kinds values scopes child place queue : Nat → Int32} {N : Nat} {ylim yfuel opn ycur yfoc ypend yout : Int32} {yqueue : Nat → Int32} {m : Nat} {b : Nat → Nat}
variable {i j B S M F p e fu H d : Nat} {acc : Int64} {alloc res fresh : Int32} {cells pend : Nat → Int64} {orgs helds fT fN fE fM fD org num held part ath got size used yenv args : Nat → Int32}
theorem gm_E_0 (hff : (gm_HFF FP t0 t1 t2 t3 t4 fb im lm D st wn sty budget pres cur foc qd params first kinds values scopes child place queue ylim yfuel opn ycur yfoc ypend yout yqueue)) (h : (gm_mE sty D N params kinds values scopes i j B S M F p e 0 H d cells pend orgs helds fT fN fE fM fD org num held part ath got size used yenv args)) :
    gm_Sg FP i j (t0, t1, t2, t3, t4, fb, im, nI lm, nI D, nI st, nI wn, nI B, nI S, nI M, nI F, nI sty, 1, nI p, nI e, acc, budget, nI 0, alloc, 0, pres, cur, foc, qd, params, first, kinds, values, scopes, child, place, cells, orgs, helds, pend, fT, fN, fE, fM, fD, queue) (ylim, yfuel, nI st, nI D, opn, nI H, ycur, yfoc, ypend, nI 0, alloc, yout, nI (d + 1), res, nI sty, 0, fresh, 0, kinds, values, params, first, org, num, held, part, yqueue, ath, got, size, used, yenv, args) := by
  obtain ⟨c1, c2, c3, c4, ⟨p1, p2, p3, p4, p5⟩⟩ := h
  refine gm_Sg_x (u1 := (t0, t1, t2, t3, t4, fb, im, nI lm, nI D, nI st, nI wn, nI B, nI S, nI M, nI F, nI sty, 1, nI p, nI e, acc, budget, nI 0, alloc, 3, pres, cur, foc, qd, params, first, kinds, values, scopes, child, place, cells, orgs, helds, pend, fT, fN, fE, fM, fD, queue)) (fun post n hx => gm_xs_e (by omega) (fun C hC => gm_xe_0 (hC hx))) ?_
  refine gm_Sg_y (v1 := (ylim, yfuel, nI st, nI D, opn, nI H, ycur, yfoc, ypend, nI 0, alloc, yout, nI (d + 1), res, nI sty, 3, fresh, 0, kinds, values, params, first, org, num, held, part, yqueue, ath, got, size, used, yenv, args)) (fun post n hy => gm_ys_s (by omega) (by omega) (fun C hC => gm_yst_0 (hC hy))) ?_
  exact gm_Sg_fin (hff c1 (Or.inl rfl)) (fun post hp => gm_xs_end (by omega) (by decide) hp) (fun post hp => gm_ys_endf (by omega) (by omega) (by decide) hp)
theorem gm_agD_s {x y z : Int32} : gm_agD d ath got size used yenv args ath (upd got d x) (upd size d y) (upd used d z) yenv args := ⟨fun f hf => ⟨rfl, pk_un (by omega), pk_un (by omega), pk_un (by omega)⟩, fun _ _ => rfl, fun _ _ => rfl⟩
theorem gm_E_int (hPI : (gm_PI params first kinds values scopes child place lm D N st wn b)) (ihR : (gm_SR FP t0 t1 t2 t3 t4 fb im lm D st wn sty budget pres cur foc qd params first kinds values scopes child place queue N ylim yfuel opn ycur yfoc ypend yout yqueue) m) (hm : 1500 ≤ i + j + (m + 1)) (h : (gm_mE sty D N params kinds values scopes i j B S M F p e (fu + 1) H d cells pend orgs helds fT fN fE fM fD org num held part ath got size used yenv args)) (hk : kinds p = 0) :
    gm_Sg FP i j (t0, t1, t2, t3, t4, fb, im, nI lm, nI D, nI st, nI wn, nI B, nI S, nI M, nI F, nI sty, 1, nI p, nI e, acc, budget, nI (fu + 1), alloc, 0, pres, cur, foc, qd, params, first, kinds, values, scopes, child, place, cells, orgs, helds, pend, fT, fN, fE, fM, fD, queue) (ylim, yfuel, nI st, nI D, opn, nI H, ycur, yfoc, ypend, nI (fu + 1), alloc, yout, nI (d + 1), res, nI sty, 0, fresh, 0, kinds, values, params, first, org, num, held, part, yqueue, ath, got, size, used, yenv, args) := by
  obtain ⟨n1, n2, n3, n4, n5, n6⟩ := gm_pi_n hPI
  obtain ⟨c1, c2, ⟨d1, d2, d3, d4⟩, c4, ⟨p1, p2, p3, p4, p5⟩⟩ := h
  refine gm_Sg_x (u1 := (t0, t1, t2, t3, t4, fb, im, nI lm, nI D, nI st, nI wn, nI B, nI S, nI M, nI F, nI sty, 0, nI p, nI e, gm_enc (values p), budget, nI fu, alloc, 0, pres, cur, foc, qd, params, first, kinds, values, scopes, child, place, cells, orgs, helds, pend, fT, fN, fE, fM, fD, queue)) (fun post n hx => gm_xs_e (by omega) (fun C hC => gm_xe_int (by omega) (by omega) hk (hC hx))) ?_
  refine gm_Sg_y (v1 := (ylim, yfuel, nI st, nI D, opn, nI (H + 1), ycur, yfoc, ypend, nI fu, alloc, yout, nI d, nI H, nI sty, 0, 0, 1, kinds, values, params, first, upd org H (-1), upd num H (values p), upd held H 0, part, yqueue, ath, upd got d 0, upd size d 0, upd used d 0, yenv, args)) (fun post n hy => gm_ys_s (by omega) (by omega) (fun C hC => gm_yst_1 (by omega) (by omega) d2 (by omega) ?_)) ?_
  · rw [hk, if_neg (by decide)]
    exact gm_yst_int (by omega) (by omega) (hC hy)
  have hag := gm_agY_m (H := H) (org := org) (num := num) (held := held) (part := part) (part' := part) (a := -1) (b := values p) (c := 0) (fun _ _ => rfl)
  refine ihR (by omega) ⟨c1, gm_SV hPI gm_agX_r hag (Nat.le_refl _) (by omega) (fun _ _ => rfl) gm_agF_r gm_agD_s c2, ?_, ⟨gm_arr0.symm, fun _ => Or.inl rfl⟩, by omega, by omega, by omega, by omega, by omega⟩
  exact gm_V_in ⟨H, by omega, rfl, Or.inl ⟨pk_us, by rw [pk_us]⟩⟩
theorem gm_E_var (hPI : (gm_PI params first kinds values scopes child place lm D N st wn b)) (ihR : (gm_SR FP t0 t1 t2 t3 t4 fb im lm D st wn sty budget pres cur foc qd params first kinds values scopes child place queue N ylim yfuel opn ycur yfoc ypend yout yqueue) m) (hm : 1500 ≤ i + j + (m + 1)) (h : (gm_mE sty D N params kinds values scopes i j B S M F p e (fu + 1) H d cells pend orgs helds fT fN fE fM fD org num held part ath got size used yenv args)) (hk : kinds p = 1) :
    gm_Sg FP i j (t0, t1, t2, t3, t4, fb, im, nI lm, nI D, nI st, nI wn, nI B, nI S, nI M, nI F, nI sty, 1, nI p, nI e, acc, budget, nI (fu + 1), alloc, 0, pres, cur, foc, qd, params, first, kinds, values, scopes, child, place, cells, orgs, helds, pend, fT, fN, fE, fM, fD, queue) (ylim, yfuel, nI st, nI D, opn, nI H, ycur, yfoc, ypend, nI (fu + 1), alloc, yout, nI (d + 1), res, nI sty, 0, fresh, 0, kinds, values, params, first, org, num, held, part, yqueue, ath, got, size, used, yenv, args) := by
  obtain ⟨n1, n2, n3, n4, n5, n6⟩ := gm_pi_n hPI
  obtain ⟨c1, c2, ⟨d1, d2, d3, d4⟩, c4, ⟨p1, p2, p3, p4, p5⟩⟩ := h
  obtain ⟨k1, k2⟩ := gm_ok_1 (n6 p d1) hk
  have k3 := gm_pi_sc hPI p d1
  refine gm_Sg_x (u1 := (t0, t1, t2, t3, t4, fb, im, nI lm, nI D, nI st, nI wn, nI B, nI S, nI M, nI F, nI sty, 0, nI p, nI e, cells (e * 12 + gm_vl values p), budget, nI fu, alloc, 0, pres, cur, foc, qd, params, first, kinds, values, scopes, child, place, cells, orgs, helds, pend, fT, fN, fE, fM, fD, queue)) (fun post n hx => gm_xs_e (by omega) (fun C hC => gm_xe_var (by omega) (by omega) hk k1 (by omega) (by omega) (hC hx))) ?_
  refine gm_Sg_y (v1 := (ylim, yfuel, nI st, nI D, opn, nI H, ycur, yfoc, ypend, nI fu, alloc, yout, nI d, yenv (d * 12 + gm_vl values p), nI sty, 0, 0, 1, kinds, values, params, first, org, num, held, part, yqueue, ath, upd got d 0, upd size d 0, upd used d 0, yenv, args)) (fun post n hy => gm_ys_s (by omega) (by omega) (fun C hC => gm_yst_1 (by omega) (by omega) d2 (by omega) ?_)) ?_
  · rw [hk, if_neg (by decide), k1]
    exact gm_yst_var (by omega) (by omega) (hC hy)
  exact ihR (by omega) ⟨c1, gm_SV hPI gm_agX_r gm_agY_r (Nat.le_refl _) (Nat.le_refl _) (fun _ _ => rfl) gm_agF_r gm_agD_s c2, d4 _ k2, ⟨gm_arr0.symm, fun _ => Or.inl rfl⟩, by omega, by omega, by omega, by omega, by omega⟩
theorem gm_E_glob (hPI : (gm_PI params first kinds values scopes child place lm D N st wn b)) (ihR : (gm_SR FP t0 t1 t2 t3 t4 fb im lm D st wn sty budget pres cur foc qd params first kinds values scopes child place queue N ylim yfuel opn ycur yfoc ypend yout yqueue) m) (hm : 1500 ≤ i + j + (m + 1)) (h : (gm_mE sty D N params kinds values scopes i j B S M F p e (fu + 1) H d cells pend orgs helds fT fN fE fM fD org num held part ath got size used yenv args)) (hk : kinds p = 2) :
    gm_Sg FP i j (t0, t1, t2, t3, t4, fb, im, nI lm, nI D, nI st, nI wn, nI B, nI S, nI M, nI F, nI sty, 1, nI p, nI e, acc, budget, nI (fu + 1), alloc, 0, pres, cur, foc, qd, params, first, kinds, values, scopes, child, place, cells, orgs, helds, pend, fT, fN, fE, fM, fD, queue) (ylim, yfuel, nI st, nI D, opn, nI H, ycur, yfoc, ypend, nI (fu + 1), alloc, yout, nI (d + 1), res, nI sty, 0, fresh, 0, kinds, values, params, first, org, num, held, part, yqueue, ath, got, size, used, yenv, args) := by
  obtain ⟨n1, n2, n3, n4, n5, n6⟩ := gm_pi_n hPI
  obtain ⟨c1, c2, ⟨d1, d2, d3, d4⟩, c4, ⟨p1, p2, p3, p4, p5⟩⟩ := h
  obtain ⟨k1, k2⟩ := gm_ok_2 (n6 p d1) hk
  refine gm_Sg_x (u1 := (t0, t1, t2, t3, t4, fb, im, nI lm, nI D, nI st, nI wn, nI B, nI S, nI M, nI F, nI sty, 0, nI p, nI e, gm_fb (gm_vl values p), budget, nI fu, alloc, 0, pres, cur, foc, qd, params, first, kinds, values, scopes, child, place, cells, orgs, helds, pend, fT, fN, fE, fM, fD, queue)) (fun post n hx => gm_xs_e (by omega) (fun C hC => gm_xe_glob (by omega) (by omega) hk k1 (hC hx))) ?_
  refine gm_Sg_y (v1 := (ylim, yfuel, nI st, nI D, opn, nI (H + 1), ycur, yfoc, ypend, nI fu, alloc, yout, nI d, nI H, nI sty, 0, 0, 1, kinds, values, params, first, upd org H (nI (gm_vl values p)), upd num H 0, upd held H 0, part, yqueue, ath, upd got d 0, upd size d 0, upd used d 0, yenv, args)) (fun post n hy => gm_ys_s (by omega) (by omega) (fun C hC => gm_yst_1 (by omega) (by omega) d2 (by omega) ?_)) ?_
  · rw [hk, if_neg (by decide), k1]
    exact gm_yst_glob (by omega) (by omega) (hC hy)
  have hag := gm_agY_m (H := H) (org := org) (num := num) (held := held) (part := part) (part' := part) (a := nI (gm_vl values p)) (b := 0) (c := 0) (fun _ _ => rfl)
  refine ihR (by omega) ⟨c1, gm_SV hPI gm_agX_r hag (Nat.le_refl _) (by omega) (fun _ _ => rfl) gm_agF_r gm_agD_s c2, ?_, ⟨gm_arr0.symm, fun _ => Or.inl rfl⟩, by omega, by omega, by omega, by omega, by omega⟩
  have hv8 : gm_vl values p < 8 := by omega
  have hOK : gm_OK kinds D N (gm_vl values p) := Or.inl ⟨k2, hv8⟩
  obtain ⟨o1, o2, o3, o4, o5, -⟩ := gm_pi_OK hPI hOK
  have hB := c1.1
  obtain ⟨b1, b2⟩ := c1.2.1 _ hv8
  have hkp : gm_kp scopes (gm_vl values p) = 0 := if_pos hv8
  refine gm_V_in ⟨H, by omega, rfl, Or.inr ⟨gm_vl values p, gm_vl values p, 0, by omega, rfl, b1, pk_us, b2, pk_us, pk_us, hOK, by omega, by omega, fun i hi => ?_⟩⟩
  rw [hkp] at hi
  omega
theorem gm_E_fun (hPI : (gm_PI params first kinds values scopes child place lm D N st wn b)) (hop : gm_Opn opn wn) (hsty : sty ≤ 1) (ihG : (gm_SG FP t0 t1 t2 t3 t4 fb im lm D st wn sty budget pres cur foc qd params first kinds values scopes child place queue N ylim yfuel opn ycur yfoc ypend yout yqueue) m) (hm : 1500 ≤ i + j + (m + 1)) (h : (gm_mE sty D N params kinds values scopes i j B S M F p e (fu + 1) H d cells pend orgs helds fT fN fE fM fD org num held part ath got size used yenv args)) (hk : kinds p = 3) :
    gm_Sg FP i j (t0, t1, t2, t3, t4, fb, im, nI lm, nI D, nI st, nI wn, nI B, nI S, nI M, nI F, nI sty, 1, nI p, nI e, acc, budget, nI (fu + 1), alloc, 0, pres, cur, foc, qd, params, first, kinds, values, scopes, child, place, cells, orgs, helds, pend, fT, fN, fE, fM, fD, queue) (ylim, yfuel, nI st, nI D, opn, nI H, ycur, yfoc, ypend, nI (fu + 1), alloc, yout, nI (d + 1), res, nI sty, 0, fresh, 0, kinds, values, params, first, org, num, held, part, yqueue, ath, got, size, used, yenv, args) := by
  obtain ⟨n1, n2, n3, n4, n5, n6⟩ := gm_pi_n hPI
  obtain ⟨c1, c2, ⟨d1, d2, d3, d4⟩, c4, ⟨p1, p2, p3, p4, p5⟩⟩ := h
  obtain ⟨k1, k2, k3, k4⟩ := gm_ok_3 (n6 p d1) hk
  have hsc := gm_pi_sc hPI p d1
  obtain ⟨al, hal⟩ : ∃ al : Int32, (nI sty = 1 ∧ ¬ gm_Dir kinds values p ∧ al = alloc + 1) ∨ ((¬ nI sty = 1 ∨ gm_Dir kinds values p) ∧ al = alloc) := by
    by_cases z : nI sty = 1 ∧ ¬ gm_Dir kinds values p
    · exact ⟨alloc + 1, Or.inl ⟨z.1, z.2, rfl⟩⟩
    · refine ⟨alloc, Or.inr ⟨?_, rfl⟩⟩
      by_cases y : nI sty = 1
      · exact Or.inr (Classical.byContradiction fun x => z ⟨y, x⟩)
      · exact Or.inl y
  refine gm_Sg_gE (by omega) (by omega) (by omega) hk ?_
  refine gm_SgG_y (v1 := (ylim, yfuel, nI st, nI D, opn, nI (H + 1), ycur, yfoc, ypend, nI fu, al, yout, nI d, nI H, nI sty, 0, 1, 1, kinds, values, params, first, upd org H (nI (8 + p)), upd num H 0, upd held H 0, gm_cq yenv (gm_vl scopes p) (H * 16) (d * 12) part, yqueue, ath, upd got d 0, upd size d 0, upd used d 0, yenv, args)) (fun post n hy => gm_ys_s (by omega) (by omega) (fun C hC => gm_yst_1 (by omega) (by omega) d2 (by omega) ?_)) ?_
  · rw [hk, if_neg (by decide)]
    exact gm_yst_fun (scopes := scopes) (E := D) (by omega) (by omega) (by omega) hsc (fun i hi => n6 i (by omega)) hk al hal (fun post hp => gm_pi_ysc hPI hop d1 hp) (hC hy)
  have hag := gm_agY_m (H := H) (org := org) (num := num) (held := held) (part := part) (part' := gm_cq yenv (gm_vl scopes p) (H * 16) (d * 12) part) (a := nI (8 + p)) (b := 0) (c := 0) (fun jj hj => gm_cq_lo _ _ _ _ _ hj)
  have up : ∀ yi x, (gm_V D N params kinds values scopes B orgs helds cells H org num held part) yi x → (gm_V D N params kinds values scopes B orgs helds cells (H + 1) (upd org H (nI (8 + p))) (upd num H 0) (upd held H 0) (gm_cq yenv (gm_vl scopes p) (H * 16) (d * 12) part)) yi x := fun yi x z => gm_VX gm_agX_r hag (Nat.le_refl _) (by omega) z
  have hpar : gm_par params values (8 + p) = gm_vl values p := by
    unfold gm_par
    rw [if_neg (by omega), show 8 + p - 8 = p by omega]
  have hkp : gm_kp scopes (8 + p) = gm_vl scopes p := by
    unfold gm_kp
    rw [if_neg (by omega), show 8 + p - 8 = p by omega]
  refine ihG (S' := S) (hl := 0) (t := 0) (by omega) ⟨c1, gm_SV hPI gm_agX_r hag (Nat.le_refl _) (by omega) (fun _ _ => rfl) gm_agF_r gm_agD_s c2, rfl, ⟨by omega, pk_us, pk_us, pk_us, Or.inr ⟨by omega, by rw [show 8 + p - 8 = p by omega]; exact d1, by rw [show 8 + p - 8 = p by omega]; exact hk⟩, by omega, d3⟩, ⟨fun i hi => by omega, fun i hi => by omega, fun i hi => ?_⟩, ⟨fun z => ?_, fun z => ?_⟩, Or.inl ⟨by omega, by omega⟩, by omega, by omega, by omega⟩
  · rw [hkp] at hi
    have := up _ _ (d4 i hi)
    rw [show H * 16 + (0 + 0) + i = H * 16 + i by omega, gm_cq_at _ _ _ _ _ hi]
    exact this
  · rcases Nat.lt_or_ge sty 1 with y | y
    · have hs0 : sty = 0 := by omega
      rw [gm_arrf hs0]
      rcases hal with ⟨s1, -, -⟩ | ⟨-, s2⟩
      · subst hs0
        exact absurd s1 (by decide)
      · rw [s2]
    · have hs1 : sty = 1 := by omega
      rw [gm_arr1 hs1]
      rcases c4 hs1 with ⟨-, x⟩ | ⟨x, -⟩
      · rcases hal with ⟨-, -, s2⟩ | ⟨s1, -⟩
        · exact s2
        · rcases s1 with s1 | s1
          · exact absurd (gm_eq1 hs1) s1
          · exact absurd s1 (x hk)
      · omega
  · rcases hal with ⟨s1, s3, s2⟩ | ⟨-, s2⟩
    · have hs1 : sty = 1 := by
        rcases Nat.lt_or_ge sty 1 with y | y
        · have hs0 : sty = 0 := by omega
          subst hs0
          exact absurd s1 (by decide)
        · omega
      rcases c4 hs1 with ⟨x, -⟩ | ⟨-, x | ⟨-, x, -⟩⟩
      · omega
      · rw [hk] at x; exact absurd x (by decide)
      · exact absurd x s3
    · exact s2
theorem gm_agD_c {x y z : Int32} {q f : Nat} : gm_agD d ath got size used yenv args (upd ath (d + 1) (nI q)) (upd got d x) (upd size d y) (upd used d z) (gm_cp 12 ((d + 1) * 12) f yenv) args := ⟨fun f hf => ⟨pk_un (by omega), pk_un (by omega), pk_un (by omega), pk_un (by omega)⟩, fun _ _ => gm_cp_lo _ _ _ _ _ (by omega), fun _ _ => rfl⟩
/-- the copied environment -/
theorem gm_envc {K : Int32 → Int64 → Prop} {s : Nat} (hs : s ≤ 12) (h : ∀ i, i < s → K (yenv (d * 12 + i)) (cells (e * 12 + i))) : ∀ i, i < s → K (gm_cp 12 ((d + 1) * 12) (d * 12) yenv ((d + 1) * 12 + i)) (cells (e * 12 + i)) := by
  intro i hi
  rw [gm_cp_at _ _ _ _ _ (by omega) (by omega)]
  exact h i hi
theorem gm_vis_ne (h : gm_Vis kinds values sty p S M) (h2 : ¬ kinds p = 2) (h3 : ¬ kinds p = 3) : sty = 1 → S = M := by
  intro hs
  rcases h hs with ⟨z, -⟩ | ⟨-, z | ⟨z, -⟩⟩
  · exact z
  · exact absurd z h2
  · exact absurd z h3
theorem gm_vis_n {q : Nat} (h : 0 < q → ¬ kinds (q - 1) = 4) (h1 : sty = 1 → S = M) : gm_Vis kinds values sty q S M := fun hs => Or.inl ⟨h1 hs, fun _ z => h z.1 z.2.1⟩
theorem gm_E_app (hPI : (gm_PI params first kinds values scopes child place lm D N st wn b)) (ihE : (gm_SE FP t0 t1 t2 t3 t4 fb im lm D st wn sty budget pres cur foc qd params first kinds values scopes child place queue N ylim yfuel opn ycur yfoc ypend yout yqueue) m) (hm : 1500 ≤ i + j + (m + 1)) (h : (gm_mE sty D N params kinds values scopes i j B S M F p e (fu + 1) H d cells pend orgs helds fT fN fE fM fD org num held part ath got size used yenv args)) (hk : kinds p = 4) :
    gm_Sg FP i j (t0, t1, t2, t3, t4, fb, im, nI lm, nI D, nI st, nI wn, nI B, nI S, nI M, nI F, nI sty, 1, nI p, nI e, acc, budget, nI (fu + 1), alloc, 0, pres, cur, foc, qd, params, first, kinds, values, scopes, child, place, cells, orgs, helds, pend, fT, fN, fE, fM, fD, queue) (ylim, yfuel, nI st, nI D, opn, nI H, ycur, yfoc, ypend, nI (fu + 1), alloc, yout, nI (d + 1), res, nI sty, 0, fresh, 0, kinds, values, params, first, org, num, held, part, yqueue, ath, got, size, used, yenv, args) := by
  obtain ⟨n1, n2, n3, n4, n5, n6⟩ := gm_pi_n hPI
  obtain ⟨c1, c2, ⟨d1, d2, d3, d4⟩, c4, ⟨p1, p2, p3, p4, p5⟩⟩ := h
  obtain ⟨k1, k2, k3⟩ := gm_ok_4 (n6 p d1) hk
  have hsc := gm_pi_sc hPI p d1
  have hSM := gm_vis_ne c4 (by rw [hk]; decide) (by rw [hk]; decide)
  obtain ⟨q, q1, q2, q3, q4, q5, q6⟩ := gm_pi_ch hPI d1 (c := gm_vl values p) (by rw [gm_kd_4 hk]; omega)
  obtain ⟨q7, q8⟩ := q6 (by omega)
  rw [if_neg (by rw [hk]; decide)] at q4
  refine gm_Sg_x (u1 := (t0, t1, t2, t3, t4, fb, im, nI lm, nI D, nI st, nI wn, nI B, nI S, nI S, nI (F + 1), nI sty, 1, nI q, nI e, acc, budget, nI fu, alloc, 0, pres, cur, foc, qd, params, first, kinds, values, scopes, child, place, cells, orgs, helds, pend, upd fT F 0, upd fN F (nI p), upd fE F (nI e), upd fM F (nI M), upd fD F (nI (gm_vl values p)), queue)) (fun post n hx => gm_xs_e (by omega) (fun C hC => gm_xe_app (by omega) (by omega) hk k1 (by omega) (by omega) q2 (hC hx))) ?_
  refine gm_Sg_y (v1 := (ylim, yfuel, nI st, nI D, opn, nI H, ycur, yfoc, ypend, nI fu, alloc, yout, nI (d + 1 + 1), res, nI sty, 0, 0, 0, kinds, values, params, first, org, num, held, part, yqueue, upd ath (d + 1) (nI q), upd got d 0, upd size d (nI (gm_vl values p)), upd used d 0, gm_cp 12 ((d + 1) * 12) (d * 12) yenv, args)) (fun post n hy => gm_ys_s (by omega) (by omega) (fun C hC => gm_yst_1 (by omega) (by omega) d2 (by omega) ?_)) ?_
  · rw [hk, if_pos rfl, k1]
    exact gm_yst_c (by omega) (by decide) (by decide) (gm_ychild (scopes := scopes) n3 n5 (by omega) (by omega) d2 q3 (by omega) (by omega) (hC hy))
  refine ihE (by omega) ⟨c1, ⟨F, S, M, gm_SV hPI gm_agX_r gm_agY_r (Nat.le_refl _) (Nat.le_refl _) (fun _ _ => rfl) (gm_agF_p (Nat.le_refl _)) gm_agD_c c2, hSM, Or.inl ⟨p, e, d1, by rw [pk_un (by omega)]; exact d2, d3, rfl, pk_us, pk_us, pk_us, rfl, fun i hi => ?_, Or.inl ⟨hk, 0, by omega, pk_us, pk_us, pk_us, rfl, pk_us, pk_us, fun jj hj => by omega⟩⟩⟩, ⟨q1, pk_us, d3, gm_envc (by omega) (fun i hi => d4 i (by omega))⟩, gm_vis_n (fun _ => gm_kd_n4 q8) (fun _ => rfl), by omega, by omega, by omega, by omega, by omega⟩
  rw [gm_cp_lo _ _ _ _ _ (by omega)]
  exact d4 i hi
theorem gm_E_op (hPI : (gm_PI params first kinds values scopes child place lm D N st wn b)) (ihE : (gm_SE FP t0 t1 t2 t3 t4 fb im lm D st wn sty budget pres cur foc qd params first kinds values scopes child place queue N ylim yfuel opn ycur yfoc ypend yout yqueue) m) (hm : 1500 ≤ i + j + (m + 1)) (h : (gm_mE sty D N params kinds values scopes i j B S M F p e (fu + 1) H d cells pend orgs helds fT fN fE fM fD org num held part ath got size used yenv args)) (hk : kinds p = 5) :
    gm_Sg FP i j (t0, t1, t2, t3, t4, fb, im, nI lm, nI D, nI st, nI wn, nI B, nI S, nI M, nI F, nI sty, 1, nI p, nI e, acc, budget, nI (fu + 1), alloc, 0, pres, cur, foc, qd, params, first, kinds, values, scopes, child, place, cells, orgs, helds, pend, fT, fN, fE, fM, fD, queue) (ylim, yfuel, nI st, nI D, opn, nI H, ycur, yfoc, ypend, nI (fu + 1), alloc, yout, nI (d + 1), res, nI sty, 0, fresh, 0, kinds, values, params, first, org, num, held, part, yqueue, ath, got, size, used, yenv, args) := by
  obtain ⟨n1, n2, n3, n4, n5, n6⟩ := gm_pi_n hPI
  obtain ⟨c1, c2, ⟨d1, d2, d3, d4⟩, c4, ⟨p1, p2, p3, p4, p5⟩⟩ := h
  have hsc := gm_pi_sc hPI p d1
  have hSM := gm_vis_ne c4 (by rw [hk]; decide) (by rw [hk]; decide)
  obtain ⟨q, q1, q2, q3, q4, q5, q6⟩ := gm_pi_ch hPI d1 (c := 0) (by rw [gm_kd_5 hk]; omega)
  have q7 := q5 rfl
  rw [if_neg (by rw [hk]; decide)] at q4
  refine gm_Sg_x (u1 := (t0, t1, t2, t3, t4, fb, im, nI lm, nI D, nI st, nI wn, nI B, nI S, nI S, nI (F + 1), nI sty, 1, nI q, nI e, acc, budget, nI fu, alloc, 0, pres, cur, foc, qd, params, first, kinds, values, scopes, child, place, cells, orgs, helds, pend, upd fT F 1, upd fN F (nI p), upd fE F (nI e), upd fM F (nI M), upd fD F 0, queue)) (fun post n hx => gm_xs_e (by omega) (fun C hC => gm_xe_op (by omega) (by omega) hk (by omega) q2 (hC hx))) ?_
  refine gm_Sg_y (v1 := (ylim, yfuel, nI st, nI D, opn, nI H, ycur, yfoc, ypend, nI fu, alloc, yout, nI (d + 1 + 1), res, nI sty, 0, 0, 0, kinds, values, params, first, org, num, held, part, yqueue, upd ath (d + 1) (nI q), upd got d 0, upd size d 0, upd used d 0, gm_cp 12 ((d + 1) * 12) (d * 12) yenv, args)) (fun post n hy => gm_ys_s (by omega) (by omega) (fun C hC => gm_yst_1 (by omega) (by omega) d2 (by omega) ?_)) ?_
  · rw [hk, if_neg (by decide)]
    exact gm_yst_c (by omega) (by decide) (by decide) (gm_ychild (c := 0) (scopes := scopes) n3 n5 (by omega) (by omega) d2 q3 (by omega) (by omega) (hC hy))
  refine ihE (by omega) ⟨c1, ⟨F, S, M, gm_SV hPI gm_agX_r gm_agY_r (Nat.le_refl _) (Nat.le_refl _) (fun _ _ => rfl) (gm_agF_p (Nat.le_refl _)) gm_agD_c c2, hSM, Or.inl ⟨p, e, d1, by rw [pk_un (by omega)]; exact d2, d3, rfl, pk_us, pk_us, pk_us, rfl, fun i hi => ?_, Or.inr (Or.inl ⟨hk, pk_us, rfl, pk_us⟩)⟩⟩, ⟨q1, pk_us, d3, gm_envc (by omega) (fun i hi => d4 i (by omega))⟩, gm_vis_n (fun _ => by rw [q7, Nat.add_sub_cancel, hk]; decide) (fun _ => rfl), by omega, by omega, by omega, by omega, by omega⟩
  rw [gm_cp_lo _ _ _ _ _ (by omega)]
  exact d4 i hi
theorem gm_E_if (hPI : (gm_PI params first kinds values scopes child place lm D N st wn b)) (ihE : (gm_SE FP t0 t1 t2 t3 t4 fb im lm D st wn sty budget pres cur foc qd params first kinds values scopes child place queue N ylim yfuel opn ycur yfoc ypend yout yqueue) m) (hm : 1500 ≤ i + j + (m + 1)) (h : (gm_mE sty D N params kinds values scopes i j B S M F p e (fu + 1) H d cells pend orgs helds fT fN fE fM fD org num held part ath got size used yenv args)) (hk : kinds p = 6) :
    gm_Sg FP i j (t0, t1, t2, t3, t4, fb, im, nI lm, nI D, nI st, nI wn, nI B, nI S, nI M, nI F, nI sty, 1, nI p, nI e, acc, budget, nI (fu + 1), alloc, 0, pres, cur, foc, qd, params, first, kinds, values, scopes, child, place, cells, orgs, helds, pend, fT, fN, fE, fM, fD, queue) (ylim, yfuel, nI st, nI D, opn, nI H, ycur, yfoc, ypend, nI (fu + 1), alloc, yout, nI (d + 1), res, nI sty, 0, fresh, 0, kinds, values, params, first, org, num, held, part, yqueue, ath, got, size, used, yenv, args) := by
  obtain ⟨n1, n2, n3, n4, n5, n6⟩ := gm_pi_n hPI
  obtain ⟨c1, c2, ⟨d1, d2, d3, d4⟩, c4, ⟨p1, p2, p3, p4, p5⟩⟩ := h
  have hsc := gm_pi_sc hPI p d1
  have hSM := gm_vis_ne c4 (by rw [hk]; decide) (by rw [hk]; decide)
  obtain ⟨q, q1, q2, q3, q4, q5, q6⟩ := gm_pi_ch hPI d1 (c := 0) (by rw [gm_kd_6 hk]; omega)
  have q7 := q5 rfl
  rw [if_neg (by rw [hk]; decide)] at q4
  refine gm_Sg_x (u1 := (t0, t1, t2, t3, t4, fb, im, nI lm, nI D, nI st, nI wn, nI B, nI S, nI S, nI (F + 1), nI sty, 1, nI q, nI e, acc, budget, nI fu, alloc, 0, pres, cur, foc, qd, params, first, kinds, values, scopes, child, place, cells, orgs, helds, pend, upd fT F 3, upd fN F (nI p), upd fE F (nI e), upd fM F (nI M), upd fD F 0, queue)) (fun post n hx => gm_xs_e (by omega) (fun C hC => gm_xe_if (by omega) (by omega) hk (by omega) q2 (hC hx))) ?_
  refine gm_Sg_y (v1 := (ylim, yfuel, nI st, nI D, opn, nI H, ycur, yfoc, ypend, nI fu, alloc, yout, nI (d + 1 + 1), res, nI sty, 0, 0, 0, kinds, values, params, first, org, num, held, part, yqueue, upd ath (d + 1) (nI q), upd got d 0, upd size d 0, upd used d 0, gm_cp 12 ((d + 1) * 12) (d * 12) yenv, args)) (fun post n hy => gm_ys_s (by omega) (by omega) (fun C hC => gm_yst_1 (by omega) (by omega) d2 (by omega) ?_)) ?_
  · rw [hk, if_neg (by decide)]
    exact gm_yst_c (by omega) (by decide) (by decide) (gm_ychild (c := 0) (scopes := scopes) n3 n5 (by omega) (by omega) d2 q3 (by omega) (by omega) (hC hy))
  refine ihE (by omega) ⟨c1, ⟨F, S, M, gm_SV hPI gm_agX_r gm_agY_r (Nat.le_refl _) (Nat.le_refl _) (fun _ _ => rfl) (gm_agF_p (Nat.le_refl _)) gm_agD_c c2, hSM, Or.inl ⟨p, e, d1, by rw [pk_un (by omega)]; exact d2, d3, rfl, pk_us, pk_us, pk_us, rfl, fun i hi => ?_, Or.inr (Or.inr (Or.inr ⟨hk, pk_us, rfl, pk_us⟩))⟩⟩, ⟨q1, pk_us, d3, gm_envc (by omega) (fun i hi => d4 i (by omega))⟩, gm_vis_n (fun _ => by rw [q7, Nat.add_sub_cancel, hk]; decide) (fun _ => rfl), by omega, by omega, by omega, by omega, by omega⟩
  rw [gm_cp_lo _ _ _ _ _ (by omega)]
  exact d4 i hi
theorem gm_simE (hPI : (gm_PI params first kinds values scopes child place lm D N st wn b)) (hop : gm_Opn opn wn) (hsty : sty ≤ 1) (hff : (gm_HFF FP t0 t1 t2 t3 t4 fb im lm D st wn sty budget pres cur foc qd params first kinds values scopes child place queue ylim yfuel opn ycur yfoc ypend yout yqueue)) (ihE : (gm_SE FP t0 t1 t2 t3 t4 fb im lm D st wn sty budget pres cur foc qd params first kinds values scopes child place queue N ylim yfuel opn ycur yfoc ypend yout yqueue) m) (ihR : (gm_SR FP t0 t1 t2 t3 t4 fb im lm D st wn sty budget pres cur foc qd params first kinds values scopes child place queue N ylim yfuel opn ycur yfoc ypend yout yqueue) m) (ihG : (gm_SG FP t0 t1 t2 t3 t4 fb im lm D st wn sty budget pres cur foc qd params first kinds values scopes child place queue N ylim yfuel opn ycur yfoc ypend yout yqueue) m) : (gm_SE FP t0 t1 t2 t3 t4 fb im lm D st wn sty budget pres cur foc qd params first kinds values scopes child place queue N ylim yfuel opn ycur yfoc ypend yout yqueue) (m + 1) := by
  intro i j B S M F p e fu H d acc alloc res fresh cells pend orgs helds fT fN fE fM fD org num held part ath got size used yenv args hm h
  rcases fu with - | fu
  · exact gm_E_0 hff h
  · rcases ((gm_pi_n hPI).2.2.2.2.2 p h.2.2.1.1).2 with z | ⟨-, z | z | z | z | z | z⟩
    · exact gm_E_int hPI ihR hm h z
    · exact gm_E_var hPI ihR hm h z.1
    · exact gm_E_glob hPI ihR hm h z.1
    · exact gm_E_fun hPI hop hsty ihG hm h z.1
    · exact gm_E_app hPI ihE hm h z.1
    · exact gm_E_op hPI ihE hm h z.1
    · exact gm_E_if hPI ihE hm h z.1
end
end
section
/-! mode R -/
section
variable {FP : SX → SY → Prop} {t0 t1 t2 t3 t4 : Int32} {fb im : Int64} {lm D st wn sty : Nat} {budget pres : Int32} {cur foc : Int64} {qd : Int32} {params first kinds values scopes child place queue : Nat → Int32} {N : Nat} {ylim yfuel opn ycur yfoc ypend yout : Int32} {yqueue : Nat → Int32} {m : Nat} {b : Nat → Nat}
variable {i j B S M F fu H d : Nat} {acc : Int64} {pc env alloc yalloc res fresh : Int32} {cells pend : Nat → Int64} {orgs helds fT fN fE fM fD org num held part ath got size used yenv args : Nat → Int32}
theorem gm_CF_a {k : Nat} {x : Int32} (h : gm_CF B orgs helds args) (hx : vp_in x 512) : gm_CF B orgs helds (upd args k x) := by
  refine ⟨h.1, h.2.1, fun jj => ?_⟩
  by_cases z : jj = k
  · subst z
    rw [pk_us]
    exact hx
  · rw [pk_un z]
    exact h.2.2 jj
theorem gm_R_0 (hfs : (gm_HFS FP t0 t1 t2 t3 t4 fb im lm D st wn sty budget pres cur foc qd params first kinds values scopes child place queue N ylim yfuel opn ycur yfoc ypend yout yqueue)) (h : (gm_mR sty D N params kinds values scopes i j B S M F fu H 0 acc alloc yalloc res fresh cells pend orgs helds fT fN fE fM fD org num held part ath got size used yenv args)) :
    gm_Sg FP i j (t0, t1, t2, t3, t4, fb, im, nI lm, nI D, nI st, nI wn, nI B, nI S, nI M, nI F, nI sty, 0, pc, env, acc, budget, nI fu, alloc, 0, pres, cur, foc, qd, params, first, kinds, values, scopes, child, place, cells, orgs, helds, pend, fT, fN, fE, fM, fD, queue) (ylim, yfuel, nI st, nI D, opn, nI H, ycur, yfoc, ypend, nI fu, yalloc, yout, nI 0, res, nI sty, 0, fresh, 1, kinds, values, params, first, org, num, held, part, yqueue, ath, got, size, used, yenv, args) := by
  obtain ⟨c1, ⟨rfl, rfl, rfl⟩, c3, ⟨al1, al2⟩, ⟨p1, p2, p3, p4, p5⟩⟩ := h
  obtain ⟨y, y1, y2, y3⟩ := gm_V_out c3
  rcases y3 with ⟨-, y3⟩ | ⟨b, o, hh, b1, b2, -⟩
  · refine gm_Sg_x (u1 := (t0, t1, t2, t3, t4, fb, im, nI lm, nI D, nI st, nI wn, nI B, nI 0, nI 0, nI 0, nI sty, 0, pc, env, acc, budget, nI fu, alloc, 1, pres, cur, foc, qd, params, first, kinds, values, scopes, child, place, cells, orgs, helds, pend, fT, fN, fE, fM, fD, queue)) (fun post n hx => gm_xs_r (by omega) (by omega) (fun C hC => ?_)) ?_
    · subst y3
      exact gm_xr_e0 (hC hx)
    exact gm_Sg_fin (hfs c1 c3 al1 (by omega) (by omega) (Or.inl ⟨⟨_, y3⟩, rfl⟩)) (fun post hp => gm_xs_end (by omega) (by decide) hp) (fun post hp => gm_ys_end0 (by omega) hp)
  · refine gm_Sg_x (u1 := (t0, t1, t2, t3, t4, fb, im, nI lm, nI D, nI st, nI wn, nI B, nI 0, nI 0, nI 0, nI sty, 0, pc, env, acc, budget, nI fu, alloc, 2, pres, cur, foc, qd, params, first, kinds, values, scopes, child, place, cells, orgs, helds, pend, fT, fN, fE, fM, fD, queue)) (fun post n hx => gm_xs_r (by omega) (by omega) (fun C hC => ?_)) ?_
    · subst b2
      exact gm_xr_e1 (by omega) (hC hx)
    exact gm_Sg_fin (hfs c1 c3 al1 (by omega) (by omega) (Or.inr ⟨⟨b, b1, b2⟩, rfl⟩)) (fun post hp => gm_xs_end (by omega) (by decide) hp) (fun post hp => gm_ys_end0 (by omega) hp)
theorem gm_agD_a {x y : Int32} {q f k : Nat} (hk : d * 8 ≤ k) : gm_agD d ath got size used yenv args (upd ath (d + 1) (nI q)) (upd got d x) size used (gm_cp 12 ((d + 1) * 12) f yenv) (upd args k y) := ⟨fun f hf => ⟨pk_un (by omega), pk_un (by omega), rfl, rfl⟩, fun _ _ => gm_cp_lo _ _ _ _ _ (by omega), fun _ _ => pk_un (by omega)⟩
theorem gm_agD_b {x : Int32} {q f : Nat} : gm_agD d ath got size used yenv args (upd ath (d + 1) (nI q)) (upd got d x) size used (gm_cp 12 ((d + 1) * 12) f yenv) args := ⟨fun f hf => ⟨pk_un (by omega), pk_un (by omega), rfl, rfl⟩, fun _ _ => gm_cp_lo _ _ _ _ _ (by omega), fun _ _ => rfl⟩
theorem gm_agD_g {x : Int32} : gm_agD d ath got size used yenv args ath (upd got d x) size used yenv args := ⟨fun f hf => ⟨rfl, pk_un (by omega), rfl, rfl⟩, fun _ _ => rfl, fun _ _ => rfl⟩
/-- the arguments so far, and the new one -/
theorem gm_args1 {K : Int32 → Int64 → Prop} {v g c S' : Nat} (hc : g + 1 + c = v) (h : ∀ jj, jj < g → K (args (d * 8 + (v - 1 - jj))) (pend (S' + jj))) (hr : K res acc) : ∀ jj, jj < g + 1 → K (upd args (d * 8 + c) res (d * 8 + (v - 1 - jj))) (vp_updL pend (S' + g) acc (S' + jj)) := by
  intro jj hj
  rcases Nat.lt_or_ge jj g with z | z
  · rw [pk_un (by omega), pk_uLn (by omega)]
    exact h jj z
  · have : jj = g := by omega
    subst this
    rw [show d * 8 + (v - 1 - jj) = d * 8 + c by omega, pk_us, pk_uLs]
    exact hr
theorem gm_V_in5 {yi : Int32} {x : Int64} (h : (gm_V D N params kinds values scopes B orgs helds cells H org num held part) yi x) (hH : H ≤ 512) : vp_in yi 512 := by
  obtain ⟨y, y1, y2, -⟩ := gm_V_out h
  rw [y2]
  exact vp_in_nI (by omega) (by decide)
theorem gm_R_arg (hPI : (gm_PI params first kinds values scopes child place lm D N st wn b)) (hsty : sty ≤ 1) (ihE : (gm_SE FP t0 t1 t2 t3 t4 fb im lm D st wn sty budget pres cur foc qd params first kinds values scopes child place queue N ylim yfuel opn ycur yfoc ypend yout yqueue) m) (hm : 1500 ≤ i + j + (m + 1)) (h : (gm_mR sty D N params kinds values scopes i j B S S (F + 1) fu H (d + 1) acc alloc yalloc res fresh cells pend orgs helds fT fN fE fM fD org num held part ath got size used yenv args)) {S' M' p e g : Nat} (hs : (gm_Stk (gm_V D N params kinds values scopes B orgs helds cells H org num held part) sty N kinds values scopes B cells pend fT fN fE fM fD ath got size used yenv args) d F S' M') (hsv : sty = 1 → S' = M') (a1 : p < N) (a2 : ath d = nI p) (a3 : e < B) (a5 : fN F = nI p) (a6 : fE F = nI e) (a7 : fM F = nI M') (a9 : ∀ i, i < gm_vl scopes p → (gm_V D N params kinds values scopes B orgs helds cells H org num held part) (yenv (d * 12 + i)) (cells (e * 12 + i))) (hk : kinds p = 4) (b1 : g < gm_vl values p) (b2 : got d = nI g) (b3 : size d = nI (gm_vl values p)) (b4 : used d = nI 0) (b5 : S = S' + g) (b6 : fT F = 0) (b7 : fD F = nI (gm_vl values p - g)) (b8 : ∀ jj, jj < g → (gm_V D N params kinds values scopes B orgs helds cells H org num held part) (args (d * 8 + (gm_vl values p - 1 - jj))) (pend (S' + jj))) :
    gm_Sg FP i j (t0, t1, t2, t3, t4, fb, im, nI lm, nI D, nI st, nI wn, nI B, nI S, nI S, nI (F + 1), nI sty, 0, pc, env, acc, budget, nI fu, alloc, 0, pres, cur, foc, qd, params, first, kinds, values, scopes, child, place, cells, orgs, helds, pend, fT, fN, fE, fM, fD, queue) (ylim, yfuel, nI st, nI D, opn, nI H, ycur, yfoc, ypend, nI fu, yalloc, yout, nI (d + 1), res, nI sty, 0, fresh, 1, kinds, values, params, first, org, num, held, part, yqueue, ath, got, size, used, yenv, args) := by
  obtain ⟨n1, n2, n3, n4, n5, n6⟩ := gm_pi_n hPI
  obtain ⟨c1, c2, c3, ⟨al1, al2⟩, ⟨p1, p2, p3, p4, p5⟩⟩ := h
  obtain ⟨k1, k2, k3⟩ := gm_ok_4 (n6 p a1) hk
  have hsc := gm_pi_sc hPI p a1
  subst al1
  obtain ⟨c, hc⟩ : ∃ c, g + 1 + c = gm_vl values p := ⟨gm_vl values p - (g + 1), by omega⟩
  obtain ⟨q, q1, q2, q3, q4, q5, q6⟩ := gm_pi_ch hPI a1 (c := c) (by rw [gm_kd_4 hk]; omega)
  rw [if_neg (by rw [hk]; decide)] at q4
  have hCF := gm_CF_a (k := d * 8 + c) c1 (gm_V_in5 c3 (by omega))
  have hargs := gm_args1 (K := (gm_V D N params kinds values scopes B orgs helds cells H org num held part)) (d := d) (args := args) (pend := pend) hc b8 c3
  rw [← b5] at hargs
  have henv : ∀ i, i < gm_vl scopes p → (gm_V D N params kinds values scopes B orgs helds cells H org num held part) (gm_cp 12 ((d + 1) * 12) (d * 12) yenv (d * 12 + i)) (cells (e * 12 + i)) := by
    intro i hi
    rw [gm_cp_lo _ _ _ _ _ (by omega)]
    exact a9 i hi
  have hpd : ∀ jj, jj < S' → vp_updL pend S acc jj = pend jj := fun jj hj => pk_uLn (by omega)
  have hath : upd ath (d + 1) (nI q) d = nI p := by rw [pk_un (by omega)]; exact a2
  rcases Nat.eq_zero_or_pos c with z | z
  · subst z
    have q7 := q5 rfl
    have hgv : g + 1 = gm_vl values p := by omega
    have hq3 : kinds q = 3 → values q = nI (gm_vl values q) ∧ gm_vl values q < 100 := fun z => ⟨(gm_ok_3 (n6 q q1) z).1, by have := (gm_ok_3 (n6 q q1) z).2.2.1; omega⟩
    have hq4 : kinds (q - 1) = 4 := by rw [q7, Nat.add_sub_cancel]; exact hk
    have hqv : gm_vl values (q - 1) = gm_vl values p := by rw [q7, Nat.add_sub_cancel]
    by_cases cond : ¬ nI sty = 1 ∨ kinds q = 2 ∨ (kinds q = 3 ∧ gm_vl values q ≤ gm_vl values p)
    · refine gm_Sg_x (u1 := (t0, t1, t2, t3, t4, fb, im, nI lm, nI D, nI st, nI wn, nI B, nI (S + 1), nI M', nI F, nI sty, 1, nI q, nI e, acc, budget, nI fu, gm_arr fresh (nI sty) yalloc, 0, pres, cur, foc, qd, params, first, kinds, values, scopes, child, place, cells, orgs, helds, vp_updL pend S acc, fT, fN, fE, fM, fD, queue)) (fun post n hx => gm_xs_r (by omega) (by omega) (fun C hC => gm_xr_head (by omega) (by omega) (by omega) q2 (by omega) a5 a6 a7 (by rw [b7]; exact congrArg nI (by omega)) b6 hq3 ⟨k1, by omega⟩ (fun _ => hC hx) (fun s1 s2 s3 => ?_))) ?_
      · rcases cond with z | z | z
        · exact absurd s1 z
        · exact absurd z s2
        · have := s3 z.1
          omega
      refine gm_Sg_y (v1 := (ylim, yfuel, nI st, nI D, opn, nI H, ycur, yfoc, ypend, nI fu, gm_arr fresh (nI sty) yalloc, yout, nI (d + 1 + 1), res, nI sty, 0, 0, 0, kinds, values, params, first, org, num, held, part, yqueue, upd ath (d + 1) (nI q), upd got d (nI (g + 1)), size, used, gm_cp 12 ((d + 1) * 12) (d * 12) yenv, upd args (d * 8 + 0) res)) (fun post n hy => gm_ys_r (by omega) (by omega) (fun C hC => gm_yr_arg (scopes := scopes) n3 n5 (by omega) a2 (by omega) hk b2 b3 b1 (by omega) hc q3 (by omega) (hC hy))) ?_
      refine ihE (by omega) ⟨hCF, ⟨F, S', M', gm_SV hPI gm_agX_r gm_agY_r (Nat.le_refl _) (Nat.le_refl _) hpd gm_agF_r (gm_agD_a (by omega)) hs, hsv, Or.inr (Or.inr ⟨gm_vl values p, 0, by omega, by omega, Or.inr ⟨p, a1, hath, hk⟩, by rw [pk_us, hgv], b3, b4, by omega, fun jj hj => hargs jj (by omega), Or.inl ⟨rfl, rfl⟩⟩)⟩, ⟨q1, pk_us, a3, gm_envc (by omega) (fun i hi => a9 i (by omega))⟩, fun s1 => Or.inr ⟨?_, ?_⟩, by omega, by omega, by omega, by omega, by omega⟩
      · have := hsv s1
        omega
      · rcases cond with z | z | z
        · exact absurd (gm_eq1 s1) z
        · exact Or.inl z
        · have := hsv s1
          exact Or.inr ⟨z.1, ⟨by omega, hq4, by omega⟩, by omega⟩
    · have hs1 : sty = 1 := Classical.byContradiction fun z => cond (Or.inl (gm_ne1 z hsty))
      have hnc : kinds q = 3 → gm_vl values p < gm_vl values q := fun z => by
        rcases Nat.lt_or_ge (gm_vl values p) (gm_vl values q) with y | y
        · exact y
        · exact absurd (Or.inr (Or.inr ⟨z, y⟩)) cond
      refine gm_Sg_x (u1 := (t0, t1, t2, t3, t4, fb, im, nI lm, nI D, nI st, nI wn, nI B, nI (S + 1), nI (S + 1), nI (F + 1), nI sty, 1, nI q, nI e, acc, budget, nI fu, gm_arr fresh (nI sty) yalloc, 0, pres, cur, foc, qd, params, first, kinds, values, scopes, child, place, cells, orgs, helds, vp_updL pend S acc, upd fT F 4, upd fN F (nI p), upd fE F (nI e), upd fM F (nI M'), upd fD F 0, queue)) (fun post n hx => gm_xs_r (by omega) (by omega) (fun C hC => gm_xr_head (by omega) (by omega) (by omega) q2 (by omega) a5 a6 a7 (by rw [b7]; exact congrArg nI (by omega)) b6 hq3 ⟨k1, by omega⟩ (fun z => absurd z cond) (fun s1 s2 s3 => hC hx))) ?_
      refine gm_Sg_y (v1 := (ylim, yfuel, nI st, nI D, opn, nI H, ycur, yfoc, ypend, nI fu, gm_arr fresh (nI sty) yalloc, yout, nI (d + 1 + 1), res, nI sty, 0, 0, 0, kinds, values, params, first, org, num, held, part, yqueue, upd ath (d + 1) (nI q), upd got d (nI (g + 1)), size, used, gm_cp 12 ((d + 1) * 12) (d * 12) yenv, upd args (d * 8 + 0) res)) (fun post n hy => gm_ys_r (by omega) (by omega) (fun C hC => gm_yr_arg (scopes := scopes) n3 n5 (by omega) a2 (by omega) hk b2 b3 b1 (by omega) hc q3 (by omega) (hC hy))) ?_
      refine ihE (by omega) ⟨hCF, ⟨F, S', M', gm_SV hPI gm_agX_r gm_agY_r (Nat.le_refl _) (Nat.le_refl _) hpd (gm_agF_p (Nat.le_refl _)) (gm_agD_a (by omega)) hs, hsv, Or.inr (Or.inr ⟨gm_vl values p, 0, by omega, by omega, Or.inr ⟨p, a1, hath, hk⟩, by rw [pk_us, hgv], b3, b4, by omega, fun jj hj => hargs jj (by omega), Or.inr ⟨hs1, by omega, rfl, pk_us, pk_us, rfl⟩⟩)⟩, ⟨q1, pk_us, a3, gm_envc (by omega) (fun i hi => a9 i (by omega))⟩, fun s1 => Or.inl ⟨rfl, fun z w => ?_⟩, by omega, by omega, by omega, by omega, by omega⟩
      have := hnc z
      have := w.2.2
      omega
  · obtain ⟨q7, q8⟩ := q6 z
    refine gm_Sg_x (u1 := (t0, t1, t2, t3, t4, fb, im, nI lm, nI D, nI st, nI wn, nI B, nI (S + 1), nI (S + 1), nI (F + 1), nI sty, 1, nI q, nI e, acc, budget, nI fu, gm_arr fresh (nI sty) yalloc, 0, pres, cur, foc, qd, params, first, kinds, values, scopes, child, place, cells, orgs, helds, vp_updL pend S acc, upd fT F 0, upd fN F (nI p), upd fE F (nI e), upd fM F (nI M'), upd fD F (nI c), queue)) (fun post n hx => gm_xs_r (by omega) (by omega) (fun C hC => gm_xr_arg (by omega) (by omega) (by omega) z (by omega) q2 a5 a6 a7 (by rw [b7]; exact congrArg nI (by omega)) b6 (hC hx))) ?_
    refine gm_Sg_y (v1 := (ylim, yfuel, nI st, nI D, opn, nI H, ycur, yfoc, ypend, nI fu, gm_arr fresh (nI sty) yalloc, yout, nI (d + 1 + 1), res, nI sty, 0, 0, 0, kinds, values, params, first, org, num, held, part, yqueue, upd ath (d + 1) (nI q), upd got d (nI (g + 1)), size, used, gm_cp 12 ((d + 1) * 12) (d * 12) yenv, upd args (d * 8 + c) res)) (fun post n hy => gm_ys_r (by omega) (by omega) (fun C hC => gm_yr_arg (scopes := scopes) n3 n5 (by omega) a2 (by omega) hk b2 b3 b1 (by omega) hc q3 (by omega) (hC hy))) ?_
    exact ihE (by omega) ⟨hCF, ⟨F, S', M', gm_SV hPI gm_agX_r gm_agY_r (Nat.le_refl _) (Nat.le_refl _) hpd (gm_agF_p (Nat.le_refl _)) (gm_agD_a (by omega)) hs, hsv, Or.inl ⟨p, e, a1, hath, a3, rfl, pk_us, pk_us, pk_us, rfl, henv, Or.inl ⟨hk, g + 1, by omega, pk_us, b3, b4, by omega, pk_us, by rw [pk_us]; exact congrArg nI (by omega), hargs⟩⟩⟩, ⟨q1, pk_us, a3, gm_envc (by omega) (fun i hi => a9 i (by omega))⟩, gm_vis_n (fun _ => gm_kd_n4 q8) (fun _ => rfl), by omega, by omega, by omega, by omega, by omega⟩
/-- an operand that is a function -/
theorem gm_R_of (hPI : (gm_PI params first kinds values scopes child place lm D N st wn b)) (hff : (gm_HFF FP t0 t1 t2 t3 t4 fb im lm D st wn sty budget pres cur foc qd params first kinds values scopes child place queue ylim yfuel opn ycur yfoc ypend yout yqueue)) (h : (gm_mR sty D N params kinds values scopes i j B S S (F + 1) fu H (d + 1) acc alloc yalloc res fresh cells pend orgs helds fT fN fE fM fD org num held part ath got size used yenv args)) {M' p bb o r : Nat} {tk : Int32} (a1 : p < N) (a2 : ath d = nI p) (a7 : fM F = nI M') (hk : kinds p = 5 ∨ (kinds p = 6 ∧ got d = nI 0)) (ht : fT F = tk) (ht2 : tk = 1 ∨ tk = 2 ∨ tk = 3) (hb : bb < B) (hac : acc = gm_fb bb) (hr : res = nI r) (hr2 : r < H) (ho : org r = nI o) (ho2 : o < 100) :
    gm_Sg FP i j (t0, t1, t2, t3, t4, fb, im, nI lm, nI D, nI st, nI wn, nI B, nI S, nI S, nI (F + 1), nI sty, 0, pc, env, acc, budget, nI fu, alloc, 0, pres, cur, foc, qd, params, first, kinds, values, scopes, child, place, cells, orgs, helds, pend, fT, fN, fE, fM, fD, queue) (ylim, yfuel, nI st, nI D, opn, nI H, ycur, yfoc, ypend, nI fu, yalloc, yout, nI (d + 1), res, nI sty, 0, fresh, 1, kinds, values, params, first, org, num, held, part, yqueue, ath, got, size, used, yenv, args) := by
  obtain ⟨n1, n2, n3, n4, n5, n6⟩ := gm_pi_n hPI
  obtain ⟨c1, c2, c3, ⟨al1, al2⟩, ⟨p1, p2, p3, p4, p5⟩⟩ := h
  subst al1 hac hr
  refine gm_Sg_x (u1 := (t0, t1, t2, t3, t4, fb, im, nI lm, nI D, nI st, nI wn, nI B, nI S, nI M', nI F, nI sty, 0, fN F, fE F, gm_fb bb, budget, nI fu, gm_arr fresh (nI sty) yalloc, 5, pres, cur, foc, qd, params, first, kinds, values, scopes, child, place, cells, orgs, helds, pend, fT, fN, fE, fM, fD, queue)) (fun post n hx => gm_xs_r (by omega) (by omega) (fun C hC => gm_xr_of (by omega) (by omega) a7 ht ht2 (hC hx))) ?_
  refine gm_Sg_y (v1 := (ylim, yfuel, nI st, nI D, opn, nI H, ycur, yfoc, ypend, nI fu, gm_arr fresh (nI sty) yalloc, yout, nI (d + 1), nI r, nI sty, 5, 0, 1, kinds, values, params, first, org, num, held, part, yqueue, ath, got, size, used, yenv, args)) (fun post n hy => gm_ys_r (by omega) (by omega) (fun C hC => gm_yr_of (by omega) a2 (by omega) hk (by omega) ho ho2 (hC hy))) ?_
  exact gm_Sg_fin (hff c1 (Or.inr (Or.inr rfl))) (fun post hp => gm_xs_end (by omega) (by decide) hp) (fun post hp => gm_ys_endf (by omega) (by omega) (by decide) hp)
theorem gm_R_ol (hPI : (gm_PI params first kinds values scopes child place lm D N st wn b)) (hff : (gm_HFF FP t0 t1 t2 t3 t4 fb im lm D st wn sty budget pres cur foc qd params first kinds values scopes child place queue ylim yfuel opn ycur yfoc ypend yout yqueue)) (ihE : (gm_SE FP t0 t1 t2 t3 t4 fb im lm D st wn sty budget pres cur foc qd params first kinds values scopes child place queue N ylim yfuel opn ycur yfoc ypend yout yqueue) m) (hm : 1500 ≤ i + j + (m + 1)) (h : (gm_mR sty D N params kinds values scopes i j B S S (F + 1) fu H (d + 1) acc alloc yalloc res fresh cells pend orgs helds fT fN fE fM fD org num held part ath got size used yenv args)) {M' p e : Nat} (hs : (gm_Stk (gm_V D N params kinds values scopes B orgs helds cells H org num held part) sty N kinds values scopes B cells pend fT fN fE fM fD ath got size used yenv args) d F S M') (hsv : sty = 1 → S = M') (a1 : p < N) (a2 : ath d = nI p) (a3 : e < B) (a5 : fN F = nI p) (a6 : fE F = nI e) (a7 : fM F = nI M') (a9 : ∀ i, i < gm_vl scopes p → (gm_V D N params kinds values scopes B orgs helds cells H org num held part) (yenv (d * 12 + i)) (cells (e * 12 + i))) (hk : kinds p = 5) (b1 : got d = nI 0) (b3 : fT F = 1) :
    gm_Sg FP i j (t0, t1, t2, t3, t4, fb, im, nI lm, nI D, nI st, nI wn, nI B, nI S, nI S, nI (F + 1), nI sty, 0, pc, env, acc, budget, nI fu, alloc, 0, pres, cur, foc, qd, params, first, kinds, values, scopes, child, place, cells, orgs, helds, pend, fT, fN, fE, fM, fD, queue) (ylim, yfuel, nI st, nI D, opn, nI H, ycur, yfoc, ypend, nI fu, yalloc, yout, nI (d + 1), res, nI sty, 0, fresh, 1, kinds, values, params, first, org, num, held, part, yqueue, ath, got, size, used, yenv, args) := by
  obtain ⟨n1, n2, n3, n4, n5, n6⟩ := gm_pi_n hPI
  obtain ⟨r, r1, r2, r3⟩ := gm_V_out h.2.2.1
  rcases r3 with ⟨r3, r4⟩ | ⟨bb, o, hh, e1, e2, -, e4, -, -, -, e8, -⟩
  · obtain ⟨c1, c2, c3, ⟨al1, al2⟩, ⟨p1, p2, p3, p4, p5⟩⟩ := h
    have hsc := gm_pi_sc hPI p a1
    subst al1 r2 r4
    obtain ⟨q, q1, q2, q3, q4, q5, q6⟩ := gm_pi_ch hPI a1 (c := 1) (by rw [gm_kd_5 hk]; omega)
    obtain ⟨q7, q8⟩ := q6 (by omega)
    rw [if_neg (by rw [hk]; decide)] at q4
    refine gm_Sg_x (u1 := (t0, t1, t2, t3, t4, fb, im, nI lm, nI D, nI st, nI wn, nI B, nI S, nI S, nI (F + 1), nI sty, 1, nI q, nI e, gm_enc (num r), budget, nI fu, gm_arr fresh (nI sty) yalloc, 0, pres, cur, foc, qd, params, first, kinds, values, scopes, child, place, cells, orgs, helds, pend, upd fT F 2, upd fN F (nI p), upd fE F (nI e), upd fM F (nI M'), upd fD F (num r), queue)) (fun post n hx => gm_xs_r (by omega) (by omega) (fun C hC => gm_xr_ol (by omega) (by omega) q2 a5 a6 a7 b3 (hC hx))) ?_
    refine gm_Sg_y (v1 := (ylim, yfuel, nI st, nI D, opn, nI H, ycur, yfoc, ypend, nI fu, gm_arr fresh (nI sty) yalloc, yout, nI (d + 1 + 1), nI r, nI sty, 0, 0, 0, kinds, values, params, first, org, num, held, part, yqueue, upd ath (d + 1) (nI q), upd got d (nI 1), size, used, gm_cp 12 ((d + 1) * 12) (d * 12) yenv, upd args (d * 8) (nI r))) (fun post n hy => gm_ys_r (by omega) (by omega) (fun C hC => gm_yr_ol (scopes := scopes) n3 n5 (by omega) a2 (by omega) hk b1 (by omega) r3 (c1.2.2 _) q3 (by omega) (hC hy))) ?_
    refine ihE (by omega) ⟨gm_CF_a c1 (gm_V_in5 c3 (by omega)), ⟨F, S, M', gm_SV hPI gm_agX_r gm_agY_r (Nat.le_refl _) (Nat.le_refl _) (fun _ _ => rfl) (gm_agF_p (Nat.le_refl _)) (gm_agD_a (Nat.le_refl _)) hs, hsv, Or.inl ⟨p, e, a1, by rw [pk_un (by omega)]; exact a2, a3, rfl, pk_us, pk_us, pk_us, rfl, fun i hi => ?_, Or.inr (Or.inr (Or.inl ⟨hk, pk_us, rfl, pk_us, by rw [pk_us, pk_us]; exact c3⟩))⟩⟩, ⟨q1, pk_us, a3, gm_envc (by omega) (fun i hi => a9 i (by omega))⟩, gm_vis_n (fun _ => gm_kd_n4 q8) (fun _ => rfl), by omega, by omega, by omega, by omega, by omega⟩
    rw [gm_cp_lo _ _ _ _ _ (by omega)]
    exact a9 i hi
  · exact gm_R_of hPI hff h a1 a2 a7 (Or.inl hk) b3 (Or.inl rfl) e1 e2 r2 r1 e4 (gm_pi_OK hPI e8).1
theorem gm_R_or (hPI : (gm_PI params first kinds values scopes child place lm D N st wn b)) (hff : (gm_HFF FP t0 t1 t2 t3 t4 fb im lm D st wn sty budget pres cur foc qd params first kinds values scopes child place queue ylim yfuel opn ycur yfoc ypend yout yqueue)) (ihR : (gm_SR FP t0 t1 t2 t3 t4 fb im lm D st wn sty budget pres cur foc qd params first kinds values scopes child place queue N ylim yfuel opn ycur yfoc ypend yout yqueue) m) (hm : 1500 ≤ i + j + (m + 1)) (h : (gm_mR sty D N params kinds values scopes i j B S S (F + 1) fu H (d + 1) acc alloc yalloc res fresh cells pend orgs helds fT fN fE fM fD org num held part ath got size used yenv args)) {M' p e : Nat} (hs : (gm_Stk (gm_V D N params kinds values scopes B orgs helds cells H org num held part) sty N kinds values scopes B cells pend fT fN fE fM fD ath got size used yenv args) d F S M') (a1 : p < N) (a2 : ath d = nI p) (a5 : fN F = nI p) (a6 : fE F = nI e) (a7 : fM F = nI M') (hk : kinds p = 5) (b1 : got d = nI 1) (b3 : fT F = 2) (b4 : (gm_V D N params kinds values scopes B orgs helds cells H org num held part) (args (d * 8)) (gm_enc (fD F))) :
    gm_Sg FP i j (t0, t1, t2, t3, t4, fb, im, nI lm, nI D, nI st, nI wn, nI B, nI S, nI S, nI (F + 1), nI sty, 0, pc, env, acc, budget, nI fu, alloc, 0, pres, cur, foc, qd, params, first, kinds, values, scopes, child, place, cells, orgs, helds, pend, fT, fN, fE, fM, fD, queue) (ylim, yfuel, nI st, nI D, opn, nI H, ycur, yfoc, ypend, nI fu, yalloc, yout, nI (d + 1), res, nI sty, 0, fresh, 1, kinds, values, params, first, org, num, held, part, yqueue, ath, got, size, used, yenv, args) := by
  obtain ⟨n1, n2, n3, n4, n5, n6⟩ := gm_pi_n hPI
  obtain ⟨r, r1, r2, r3⟩ := gm_V_out h.2.2.1
  rcases r3 with ⟨r3, r4⟩ | ⟨bb, o, hh, e1, e2, -, e4, -, -, -, e8, -⟩
  · obtain ⟨c1, c2, c3, ⟨al1, al2⟩, ⟨p1, p2, p3, p4, p5⟩⟩ := h
    subst al1 r2 r4
    obtain ⟨a, f1, f2, f3, f4⟩ := gm_V_enc (by omega) b4
    refine gm_Sg_x (u1 := (t0, t1, t2, t3, t4, fb, im, nI lm, nI D, nI st, nI wn, nI B, nI S, nI M', nI F, nI sty, 0, nI p, nI e, gm_enc (gm_op (values p) (num a) (num r)), budget, nI fu, gm_arr fresh (nI sty) yalloc, 0, pres, cur, foc, qd, params, first, kinds, values, scopes, child, place, cells, orgs, helds, pend, fT, fN, fE, fM, fD, queue)) (fun post n hx => gm_xs_r (by omega) (by omega) (fun C hC => gm_xr_or (by omega) (by omega) a5 a6 a7 f4.symm b3 (hC hx))) ?_
    refine gm_Sg_y (v1 := (ylim, yfuel, nI st, nI D, opn, nI (H + 1), ycur, yfoc, ypend, nI fu, gm_arr fresh (nI sty) yalloc, yout, nI d, nI H, nI sty, 0, 0, 1, kinds, values, params, first, upd org H (-1), upd num H (gm_op (values p) (num a) (num r)), upd held H 0, part, yqueue, ath, upd got d (nI 2), size, used, yenv, args)) (fun post n hy => gm_ys_r (by omega) (by omega) (fun C hC => gm_yr_or2 (by omega) a2 (by omega) hk b1 (by omega) r3 f2 (by omega) (by omega) (hC hy))) ?_
    have hag := gm_agY_m (H := H) (org := org) (num := num) (held := held) (part := part) (part' := part) (a := -1) (b := gm_op (values p) (num a) (num r)) (c := 0) (fun _ _ => rfl)
    have hsM := gm_Stk_le hs
    refine ihR (by omega) ⟨c1, gm_SV hPI gm_agX_r hag (Nat.le_refl _) (by omega) (fun _ _ => rfl) gm_agF_r gm_agD_g hs, ?_, ⟨gm_arr0.symm, fun _ => Or.inl rfl⟩, by omega, by omega, by omega, by omega, by omega⟩
    exact gm_V_in ⟨H, by omega, rfl, Or.inl ⟨pk_us, by rw [pk_us]⟩⟩
  · exact gm_R_of hPI hff h a1 a2 a7 (Or.inl hk) b3 (Or.inr (Or.inl rfl)) e1 e2 r2 r1 e4 (gm_pi_OK hPI e8).1
theorem gm_R_if (hPI : (gm_PI params first kinds values scopes child place lm D N st wn b)) (hff : (gm_HFF FP t0 t1 t2 t3 t4 fb im lm D st wn sty budget pres cur foc qd params first kinds values scopes child place queue ylim yfuel opn ycur yfoc ypend yout yqueue)) (ihE : (gm_SE FP t0 t1 t2 t3 t4 fb im lm D st wn sty budget pres cur foc qd params first kinds values scopes child place queue N ylim yfuel opn ycur yfoc ypend yout yqueue) m) (hm : 1500 ≤ i + j + (m + 1)) (h : (gm_mR sty D N params kinds values scopes i j B S S (F + 1) fu H (d + 1) acc alloc yalloc res fresh cells pend orgs helds fT fN fE fM fD org num held part ath got size used yenv args)) {M' p e : Nat} (hs : (gm_Stk (gm_V D N params kinds values scopes B orgs helds cells H org num held part) sty N kinds values scopes B cells pend fT fN fE fM fD ath got size used yenv args) d F S M') (hsv : sty = 1 → S = M') (a1 : p < N) (a2 : ath d = nI p) (a3 : e < B) (a5 : fN F = nI p) (a6 : fE F = nI e) (a7 : fM F = nI M') (a9 : ∀ i, i < gm_vl scopes p → (gm_V D N params kinds values scopes B orgs helds cells H org num held part) (yenv (d * 12 + i)) (cells (e * 12 + i))) (hk : kinds p = 6) (b1 : got d = nI 0) (b3 : fT F = 3) :
    gm_Sg FP i j (t0, t1, t2, t3, t4, fb, im, nI lm, nI D, nI st, nI wn, nI B, nI S, nI S, nI (F + 1), nI sty, 0, pc, env, acc, budget, nI fu, alloc, 0, pres, cur, foc, qd, params, first, kinds, values, scopes, child, place, cells, orgs, helds, pend, fT, fN, fE, fM, fD, queue) (ylim, yfuel, nI st, nI D, opn, nI H, ycur, yfoc, ypend, nI fu, yalloc, yout, nI (d + 1), res, nI sty, 0, fresh, 1, kinds, values, params, first, org, num, held, part, yqueue, ath, got, size, used, yenv, args) := by
  obtain ⟨n1, n2, n3, n4, n5, n6⟩ := gm_pi_n hPI
  obtain ⟨r, r1, r2, r3⟩ := gm_V_out h.2.2.1
  rcases r3 with ⟨r3, r4⟩ | ⟨bb, o, hh, e1, e2, -, e4, -, -, -, e8, -⟩
  · obtain ⟨c1, c2, c3, ⟨al1, al2⟩, ⟨p1, p2, p3, p4, p5⟩⟩ := h
    have hsc := gm_pi_sc hPI p a1
    subst al1 r2 r4
    obtain ⟨c, hc1, hc2, hcc⟩ : ∃ c, 1 ≤ c ∧ c < 3 ∧ ((num r = 0 ∧ c = 1) ∨ (¬ num r = 0 ∧ c = 2)) := by
      by_cases z : num r = 0
      · exact ⟨1, by omega, by omega, Or.inl ⟨z, rfl⟩⟩
      · exact ⟨2, by omega, by omega, Or.inr ⟨z, rfl⟩⟩
    obtain ⟨q, q1, q2, q3, q4, q5, q6⟩ := gm_pi_ch hPI a1 (c := c) (by rw [gm_kd_6 hk]; omega)
    obtain ⟨q7, q8⟩ := q6 (by omega)
    rw [if_neg (by rw [hk]; decide)] at q4
    have hsM := gm_Stk_le hs
    refine gm_Sg_x (u1 := (t0, t1, t2, t3, t4, fb, im, nI lm, nI D, nI st, nI wn, nI B, nI S, nI M', nI F, nI sty, 1, nI q, nI e, gm_enc (num r), budget, nI fu, gm_arr fresh (nI sty) yalloc, 0, pres, cur, foc, qd, params, first, kinds, values, scopes, child, place, cells, orgs, helds, pend, fT, fN, fE, fM, fD, queue)) (fun post n hx => gm_xs_r (by omega) (by omega) (fun C hC => gm_xr_if (by omega) (by omega) hcc q2 a5 a6 a7 b3 (hC hx))) ?_
    refine gm_Sg_y (v1 := (ylim, yfuel, nI st, nI D, opn, nI H, ycur, yfoc, ypend, nI fu, gm_arr fresh (nI sty) yalloc, yout, nI (d + 1 + 1), nI r, nI sty, 0, 0, 0, kinds, values, params, first, org, num, held, part, yqueue, upd ath (d + 1) (nI q), upd got d (nI 1), size, used, gm_cp 12 ((d + 1) * 12) (d * 12) yenv, args)) (fun post n hy => gm_ys_r (by omega) (by omega) (fun C hC => gm_yr_if (scopes := scopes) n3 n5 (by omega) a2 (by omega) hk b1 (by omega) r3 (c1.2.2 _) hcc q3 (by omega) (hC hy))) ?_
    exact ihE (by omega) ⟨c1, ⟨F, S, M', gm_SV hPI gm_agX_r gm_agY_r (Nat.le_refl _) (Nat.le_refl _) (fun _ _ => rfl) gm_agF_r gm_agD_b hs, hsv, Or.inr (Or.inl ⟨p, a1, by rw [pk_un (by omega)]; exact a2, hk, pk_us, rfl, rfl, rfl⟩)⟩, ⟨q1, pk_us, a3, gm_envc (by omega) (fun i hi => a9 i (by omega))⟩, gm_vis_n (fun _ => gm_kd_n4 q8) hsv, by omega, by omega, by omega, by omega, by omega⟩
  · exact gm_R_of hPI hff h a1 a2 a7 (Or.inr ⟨hk, b1⟩) b3 (Or.inr (Or.inr rfl)) e1 e2 r2 r1 e4 (gm_pi_OK hPI e8).1
/-- the reference passes the value on -/
theorem gm_R_pop (ihR : (gm_SR FP t0 t1 t2 t3 t4 fb im lm D st wn sty budget pres cur foc qd params first kinds values scopes child place queue N ylim yfuel opn ycur yfoc ypend yout yqueue) m) (hm : 1500 ≤ i + j + (m + 1)) (h : (gm_mR sty D N params kinds values scopes i j B S M F fu H (d + 1) acc alloc yalloc res fresh cells pend orgs helds fT fN fE fM fD org num held part ath got size used yenv args)) (hs : (gm_Stk (gm_V D N params kinds values scopes B orgs helds cells H org num held part) sty N kinds values scopes B cells pend fT fN fE fM fD ath got size used yenv args) d F S M)
    (hy : ∀ C : SY → Prop, C (ylim, yfuel, nI st, nI D, opn, nI H, ycur, yfoc, ypend, nI fu, yalloc, yout, nI d, res, nI sty, 0, fresh, 1, kinds, values, params, first, org, num, held, part, yqueue, ath, got, size, used, yenv, args) → wpY_receive C (ylim, yfuel, nI st, nI D, opn, nI H, ycur, yfoc, ypend, nI fu, yalloc, yout, nI (d + 1), res, nI sty, 0, fresh, 1, kinds, values, params, first, org, num, held, part, yqueue, ath, got, size, used, yenv, args) (nI d)) :
    gm_Sg FP i j (t0, t1, t2, t3, t4, fb, im, nI lm, nI D, nI st, nI wn, nI B, nI S, nI M, nI F, nI sty, 0, pc, env, acc, budget, nI fu, alloc, 0, pres, cur, foc, qd, params, first, kinds, values, scopes, child, place, cells, orgs, helds, pend, fT, fN, fE, fM, fD, queue) (ylim, yfuel, nI st, nI D, opn, nI H, ycur, yfoc, ypend, nI fu, yalloc, yout, nI (d + 1), res, nI sty, 0, fresh, 1, kinds, values, params, first, org, num, held, part, yqueue, ath, got, size, used, yenv, args) := by
  obtain ⟨c1, c2, c3, c4, ⟨p1, p2, p3, p4, p5⟩⟩ := h
  refine gm_Sg_y (v1 := (ylim, yfuel, nI st, nI D, opn, nI H, ycur, yfoc, ypend, nI fu, yalloc, yout, nI d, res, nI sty, 0, fresh, 1, kinds, values, params, first, org, num, held, part, yqueue, ath, got, size, used, yenv, args)) (fun post n hw => gm_ys_r (by omega) (by omega) (fun C hC => hy C (hC hw))) ?_
  exact ihR (by omega) ⟨c1, hs, c3, c4, by omega, by omega, by omega, by omega, by omega⟩
/-- the component's call frame is popped -/
theorem gm_R_call (ihR : (gm_SR FP t0 t1 t2 t3 t4 fb im lm D st wn sty budget pres cur foc qd params first kinds values scopes child place queue N ylim yfuel opn ycur yfoc ypend yout yqueue) m) (hm : 1500 ≤ i + j + (m + 1)) (h : (gm_mR sty D N params kinds values scopes i j B S S (F + 1) fu H d acc alloc yalloc res fresh cells pend orgs helds fT fN fE fM fD org num held part ath got size used yenv args)) {M' : Nat} (hs : (gm_Stk (gm_V D N params kinds values scopes B orgs helds cells H org num held part) sty N kinds values scopes B cells pend fT fN fE fM fD ath got size used yenv args) d F S M') (hs1 : sty = 1) (e1 : fT F = 4) (e2 : fM F = nI M') :
    gm_Sg FP i j (t0, t1, t2, t3, t4, fb, im, nI lm, nI D, nI st, nI wn, nI B, nI S, nI S, nI (F + 1), nI sty, 0, pc, env, acc, budget, nI fu, alloc, 0, pres, cur, foc, qd, params, first, kinds, values, scopes, child, place, cells, orgs, helds, pend, fT, fN, fE, fM, fD, queue) (ylim, yfuel, nI st, nI D, opn, nI H, ycur, yfoc, ypend, nI fu, yalloc, yout, nI d, res, nI sty, 0, fresh, 1, kinds, values, params, first, org, num, held, part, yqueue, ath, got, size, used, yenv, args) := by
  obtain ⟨c1, c2, c3, ⟨al1, al2⟩, ⟨p1, p2, p3, p4, p5⟩⟩ := h
  refine gm_Sg_x (u1 := (t0, t1, t2, t3, t4, fb, im, nI lm, nI D, nI st, nI wn, nI B, nI S, nI M', nI F, nI sty, 0, fN F, fE F, acc, budget, nI fu, alloc, 0, pres, cur, foc, qd, params, first, kinds, values, scopes, child, place, cells, orgs, helds, pend, fT, fN, fE, fM, fD, queue)) (fun post n hx => gm_xs_r (by omega) (by omega) (fun C hC => gm_xr_call (by omega) e2 e1 (hC hx))) ?_
  exact ihR (by omega) ⟨c1, hs, c3, ⟨al1, fun z => by omega⟩, by omega, by omega, by omega, by omega, by omega⟩
/-- visible arguments -/
theorem gm_R_app (hPI : (gm_PI params first kinds values scopes child place lm D N st wn b)) (hsty : sty ≤ 1) (hff : (gm_HFF FP t0 t1 t2 t3 t4 fb im lm D st wn sty budget pres cur foc qd params first kinds values scopes child place queue ylim yfuel opn ycur yfoc ypend yout yqueue)) (ihG : (gm_SG FP t0 t1 t2 t3 t4 fb im lm D st wn sty budget pres cur foc qd params first kinds values scopes child place queue N ylim yfuel opn ycur yfoc ypend yout yqueue) (m + 1)) (hm : 1500 ≤ i + j + (m + 1)) (h : (gm_mR sty D N params kinds values scopes i j B S M F fu H (d + 1) acc alloc yalloc res fresh cells pend orgs helds fT fN fE fM fD org num held part ath got size used yenv args)) (hMS : M < S) {sz us : Nat} (h8 : sz ≤ 8) (hu : us < sz) (hap : ath d = -1 ∨ ∃ p, p < N ∧ ath d = nI p ∧ kinds p = 4) (e1 : got d = nI sz) (e2 : size d = nI sz) (e3 : used d = nI us) :
    gm_Sg FP i j (t0, t1, t2, t3, t4, fb, im, nI lm, nI D, nI st, nI wn, nI B, nI S, nI M, nI F, nI sty, 0, pc, env, acc, budget, nI fu, alloc, 0, pres, cur, foc, qd, params, first, kinds, values, scopes, child, place, cells, orgs, helds, pend, fT, fN, fE, fM, fD, queue) (ylim, yfuel, nI st, nI D, opn, nI H, ycur, yfoc, ypend, nI fu, yalloc, yout, nI (d + 1), res, nI sty, 0, fresh, 1, kinds, values, params, first, org, num, held, part, yqueue, ath, got, size, used, yenv, args) := by
  obtain ⟨n1, n2, n3, n4, n5, n6⟩ := gm_pi_n hPI
  obtain ⟨c1, c2, c3, ⟨al1, al2⟩, ⟨p1, p2, p3, p4, p5⟩⟩ := h
  have hal : alloc = yalloc := by
    rcases Nat.lt_or_ge sty 1 with y | y
    · rcases al2 (by omega) with z | z
      · rw [al1, z, gm_arr0]
      · omega
    · rw [al1, gm_arr1 (by omega)]
  subst hal
  have hap' : gm_Apf kinds ath d := by
    rcases hap with z | ⟨p, z1, z2⟩
    · exact Or.inl z
    · exact Or.inr ⟨p, by omega, z2⟩
  obtain ⟨r, r1, r2, r3⟩ := gm_V_out c3
  rcases r3 with ⟨r3, r4⟩ | ⟨bb, o, hh, g1, g2, g3, g4, g5, g6, g7, g8, g9, g10, g11⟩
  · subst r2 r4
    refine gm_Sg_x (u1 := (t0, t1, t2, t3, t4, fb, im, nI lm, nI D, nI st, nI wn, nI B, nI S, nI M, nI F, nI sty, 0, pc, env, gm_enc (num r), budget, nI fu, alloc, 4, pres, cur, foc, qd, params, first, kinds, values, scopes, child, place, cells, orgs, helds, pend, fT, fN, fE, fM, fD, queue)) (fun post n hx => gm_xs_a (by omega) (by omega) hMS (fun C hC => gm_xa_0 (hC hx))) ?_
    refine gm_Sg_y (v1 := (ylim, yfuel, nI st, nI D, opn, nI H, ycur, yfoc, ypend, nI fu, alloc, yout, nI (d + 1), nI r, nI sty, 4, fresh, 1, kinds, values, params, first, org, num, held, part, yqueue, ath, got, size, used, yenv, args)) (fun post n hy => gm_ys_r (by omega) (by omega) (fun C hC => gm_yap_f (by omega) hap' e1 e2 e3 h8 hu (by omega) r3 (hC hy))) ?_
    exact gm_Sg_fin (hff c1 (Or.inr (Or.inl rfl))) (fun post hp => gm_xs_end (by omega) (by decide) hp) (fun post hp => gm_ys_endf (by omega) (by omega) (by decide) hp)
  · subst r2 g2
    refine gm_Sg_gA (by omega) (by omega) hMS (by omega) g3 g5 ?_
    refine ihG (S' := S) (t := 0) hm ⟨c1, c2, rfl, ⟨r1, g4, g6, g7, g8, g9, g1⟩, ⟨fun i hi => g11 i (by omega), fun i hi => by omega, fun i hi => ?_⟩, ⟨fun z => by omega, fun _ => rfl⟩, Or.inr ⟨by omega, by omega, hMS⟩, by omega, by omega, by omega⟩
    have := g11 (hh + i) (by omega)
    rw [show r * 16 + (hh + 0) + i = r * 16 + (hh + i) by omega, show bb * 12 + hh + i = bb * 12 + (hh + i) by omega]
    exact this
theorem gm_simR (hPI : (gm_PI params first kinds values scopes child place lm D N st wn b)) (hsty : sty ≤ 1) (hff : (gm_HFF FP t0 t1 t2 t3 t4 fb im lm D st wn sty budget pres cur foc qd params first kinds values scopes child place queue ylim yfuel opn ycur yfoc ypend yout yqueue)) (hfs : (gm_HFS FP t0 t1 t2 t3 t4 fb im lm D st wn sty budget pres cur foc qd params first kinds values scopes child place queue N ylim yfuel opn ycur yfoc ypend yout yqueue)) (ihE : (gm_SE FP t0 t1 t2 t3 t4 fb im lm D st wn sty budget pres cur foc qd params first kinds values scopes child place queue N ylim yfuel opn ycur yfoc ypend yout yqueue) m) (ihR : (gm_SR FP t0 t1 t2 t3 t4 fb im lm D st wn sty budget pres cur foc qd params first kinds values scopes child place queue N ylim yfuel opn ycur yfoc ypend yout yqueue) m) (ihG : (gm_SG FP t0 t1 t2 t3 t4 fb im lm D st wn sty budget pres cur foc qd params first kinds values scopes child place queue N ylim yfuel opn ycur yfoc ypend yout yqueue) (m + 1)) : (gm_SR FP t0 t1 t2 t3 t4 fb im lm D st wn sty budget pres cur foc qd params first kinds values scopes child place queue N ylim yfuel opn ycur yfoc ypend yout yqueue) (m + 1) := by
  intro i j B S M F fu H d acc pc env alloc yalloc res fresh cells pend orgs helds fT fN fE fM fD org num held part ath got size used yenv args hm h
  obtain ⟨n1, n2, n3, n4, n5, n6⟩ := gm_pi_n hPI
  rcases d with - | d
  · exact gm_R_0 hfs h
  · obtain ⟨F', S', M', hs, hsv, hfr⟩ := h.2.1
    have hdd : d + 1 + fu ≤ 200 := h.2.2.2.2.2.2.1
    have hsM := gm_Stk_le hs
    rcases hfr with ⟨p, e, a1, a2, a3, a4, a5, a6, a7, a8, a9, a10⟩ | ⟨p, a1, a2, a3, a4, a5, a6, a7⟩ | ⟨sz, us, a1, a2, a3, a4, a5, a6, a7, a8, a9⟩
    · subst a4 a8
      rcases a10 with ⟨b0, g, b1, b2, b3, b4, b5, b6, b7, b8⟩ | ⟨b0, b1, b2, b3⟩ | ⟨b0, b1, b2, b3, b4⟩ | ⟨b0, b1, b2, b3⟩
      · exact gm_R_arg hPI hsty ihE hm h hs hsv a1 a2 a3 a5 a6 a7 a9 b0 b1 b2 b3 b4 b5 b6 b7 b8
      · subst b2
        exact gm_R_ol hPI hff ihE hm h hs hsv a1 a2 a3 a5 a6 a7 a9 b0 b1 b3
      · subst b2
        exact gm_R_or hPI hff ihR hm h hs a1 a2 a5 a6 a7 b0 b1 b3 b4
      · subst b2
        exact gm_R_if hPI hff ihE hm h hs hsv a1 a2 a3 a5 a6 a7 a9 b0 b1 b3
    · subst a5 a6 a7
      exact gm_R_pop ihR hm h hs (fun C hC => gm_yr_br (by omega) a2 (by omega) a3 a4 hC)
    · rcases Nat.lt_or_ge us sz with y | y
      · rcases a9 with ⟨f1, f2⟩ | ⟨f1, f2, f3, f4, f5, f6⟩
        · exact gm_R_app hPI hsty hff ihG hm h (by omega) a1 y a3 a4 a5 a6
        · subst f3 f6
          exact gm_R_call ihR hm h ⟨F', S', M', hs, hsv, Or.inr (Or.inr ⟨sz, us, a1, a2, a3, a4, a5, a6, a7, a8, Or.inl ⟨rfl, rfl⟩⟩)⟩ f1 f4 f5
      · rcases a9 with ⟨f1, f2⟩ | ⟨f1, f2, f3, f4, f5, f6⟩
        · have : us = sz := by omega
          subst this
          have hS : S = S' := by omega
          subst hS f1 f2
          refine gm_R_pop ihR hm h hs (fun C hC => gm_yr_pop (by omega) ?_ a4 a5 a6 a1 hC)
          rcases a3 with z | ⟨p, z1, z2⟩
          · exact Or.inl z
          · exact Or.inr ⟨p, by omega, z2⟩
        · omega
/-- all three modes -/
theorem gm_sim (hPI : (gm_PI params first kinds values scopes child place lm D N st wn b)) (hop : gm_Opn opn wn) (hsty : sty ≤ 1) (hff : (gm_HFF FP t0 t1 t2 t3 t4 fb im lm D st wn sty budget pres cur foc qd params first kinds values scopes child place queue ylim yfuel opn ycur yfoc ypend yout yqueue)) (hfs : (gm_HFS FP t0 t1 t2 t3 t4 fb im lm D st wn sty budget pres cur foc qd params first kinds values scopes child place queue N ylim yfuel opn ycur yfoc ypend yout yqueue)) : ∀ m : Nat, (gm_SE FP t0 t1 t2 t3 t4 fb im lm D st wn sty budget pres cur foc qd params first kinds values scopes child place queue N ylim yfuel opn ycur yfoc ypend yout yqueue) m ∧ (gm_SR FP t0 t1 t2 t3 t4 fb im lm D st wn sty budget pres cur foc qd params first kinds values scopes child place queue N ylim yfuel opn ycur yfoc ypend yout yqueue) m ∧ (gm_SG FP t0 t1 t2 t3 t4 fb im lm D st wn sty budget pres cur foc qd params first kinds values scopes child place queue N ylim yfuel opn ycur yfoc ypend yout yqueue) m
  | 0 => by
    refine ⟨?_, ?_, ?_⟩
    · intro i j B S M F p e fu H d acc alloc res fresh cells pend orgs helds fT fN fE fM fD org num held part ath got size used yenv args hm h
      have h1 := h.2.2.2.2
      omega
    · intro i j B S M F fu H d acc pc env alloc yalloc res fresh cells pend orgs helds fT fN fE fM fD org num held part ath got size used yenv args hm h
      have h1 := h.2.2.2.2
      omega
    · intro i j B S S' M F fu H d o src hl t r acc ev pc env alloc yalloc fresh cells pend orgs helds fT fN fE fM fD org num held part ath got size used yenv args hm h
      have h1 := h.2.2.2.2.2.2
      omega
  | m + 1 => by
    obtain ⟨h1, h2, h3⟩ := gm_sim hPI hop hsty hff hfs m
    have h4 : (gm_SG FP t0 t1 t2 t3 t4 fb im lm D st wn sty budget pres cur foc qd params first kinds values scopes child place queue N ylim yfuel opn ycur yfoc ypend yout yqueue) (m + 1) := gm_simG hPI hop hsty h1 h2 h3
    exact ⟨gm_simE hPI hop hsty hff h1 h2 h3, gm_simR hPI hsty hff hfs h1 h2 h4, h4⟩
end
end
section
/-! the relation at the head of a turn -/
def gm_RF (lm D N st wn B bud fu q H : Nat) (b : Nat → Nat) (pres : Int32) (cur foc : Int64) (params first kinds values scopes child place : Nat → Int32) (cells : Nat → Int64) (orgs helds : Nat → Int32) (opn ycur yfoc : Int32) (org num held part args : Nat → Int32) : Prop :=
  (gm_PI params first kinds values scopes child place lm D N st wn b) ∧ gm_Opn opn wn ∧ gm_CF B orgs helds args ∧ (24 ≤ bud ∧ bud ≤ 200 ∧ q ≤ 8) ∧
  ((pres = 0 ∧ ycur = -1) ∨ (pres = 1 ∧ (gm_V D N params kinds values scopes B orgs helds cells H org num held part) ycur cur ∧ (gm_V D N params kinds values scopes B orgs helds cells H org num held part) yfoc foc ∧ B + 2 * fu ≤ 408 ∧ H + 2 * fu ≤ 401))
def i_Rel (k : Nat) (u : SX) (v : SY) : Prop :=
  ∃ (lm D N st wn B bud fu q H : Nat) (b : Nat → Nat) (t0 t1 t2 t3 t4 : Int32) (fb im : Int64) (sp mark frames style ev pc env : Int32) (acc : Int64) (alloc out pres : Int32) (cur foc : Int64) (params first kinds values scopes child place : Nat → Int32) (cells : Nat → Int64) (orgs helds : Nat → Int32) (pend : Nat → Int64) (fT fN fE fM fD queue : Nat → Int32) (opn ycur yfoc depth res ysty fail fresh ready : Int32) (org num held part ath got size used yenv args : Nat → Int32), u = (t0, t1, t2, t3, t4, fb, im, nI lm, nI D, nI st, nI wn, nI B, sp, mark, frames, style, ev, pc, env, acc, nI bud, nI fu, alloc, out, pres, cur, foc, nI q, params, first, kinds, values, scopes, child, place, cells, orgs, helds, pend, fT, fN, fE, fM, fD, queue) ∧ v = (nI lm, nI bud, nI st, nI D, opn, nI H, ycur, yfoc, nI q, nI fu, alloc, out, depth, res, ysty, fail, fresh, ready, kinds, values, params, first, org, num, held, part, queue, ath, got, size, used, yenv, args) ∧ (gm_RF lm D N st wn B bud fu q H b pres cur foc params first kinds values scopes child place cells orgs helds opn ycur yfoc org num held part args)
theorem gm_in {k : Nat} {lm D N st wn B bud fu q H : Nat} {b : Nat → Nat} {t0 t1 t2 t3 t4 : Int32} {fb im : Int64} {sp mark frames style ev pc env : Int32} {acc : Int64} {alloc out pres : Int32} {cur foc : Int64} {params first kinds values scopes child place : Nat → Int32} {cells : Nat → Int64} {orgs helds : Nat → Int32} {pend : Nat → Int64} {fT fN fE fM fD queue : Nat → Int32} {opn ycur yfoc depth res ysty fail fresh ready : Int32} {org num held part ath got size used yenv args : Nat → Int32} (h : (gm_RF lm D N st wn B bud fu q H b pres cur foc params first kinds values scopes child place cells orgs helds opn ycur yfoc org num held part args)) : i_Rel k (t0, t1, t2, t3, t4, fb, im, nI lm, nI D, nI st, nI wn, nI B, sp, mark, frames, style, ev, pc, env, acc, nI bud, nI fu, alloc, out, pres, cur, foc, nI q, params, first, kinds, values, scopes, child, place, cells, orgs, helds, pend, fT, fN, fE, fM, fD, queue) (nI lm, nI bud, nI st, nI D, opn, nI H, ycur, yfoc, nI q, nI fu, alloc, out, depth, res, ysty, fail, fresh, ready, kinds, values, params, first, org, num, held, part, queue, ath, got, size, used, yenv, args) :=
  ⟨lm, D, N, st, wn, B, bud, fu, q, H, b, t0, t1, t2, t3, t4, fb, im, sp, mark, frames, style, ev, pc, env, acc, alloc, out, pres, cur, foc, params, first, kinds, values, scopes, child, place, cells, orgs, helds, pend, fT, fN, fE, fM, fD, queue, opn, ycur, yfoc, depth, res, ysty, fail, fresh, ready, org, num, held, part, ath, got, size, used, yenv, args, rfl, rfl, h⟩
theorem gm_el {k : Nat} {u : SX} {v : SY} {P : SX → SY → Prop} (h : ∀ {lm D N st wn B bud fu q H : Nat} {b : Nat → Nat} {t0 t1 t2 t3 t4 : Int32} {fb im : Int64} {sp mark frames style ev pc env : Int32} {acc : Int64} {alloc out pres : Int32} {cur foc : Int64} {params first kinds values scopes child place : Nat → Int32} {cells : Nat → Int64} {orgs helds : Nat → Int32} {pend : Nat → Int64} {fT fN fE fM fD queue : Nat → Int32} {opn ycur yfoc depth res ysty fail fresh ready : Int32} {org num held part ath got size used yenv args : Nat → Int32}, (gm_RF lm D N st wn B bud fu q H b pres cur foc params first kinds values scopes child place cells orgs helds opn ycur yfoc org num held part args) → P (t0, t1, t2, t3, t4, fb, im, nI lm, nI D, nI st, nI wn, nI B, sp, mark, frames, style, ev, pc, env, acc, nI bud, nI fu, alloc, out, pres, cur, foc, nI q, params, first, kinds, values, scopes, child, place, cells, orgs, helds, pend, fT, fN, fE, fM, fD, queue) (nI lm, nI bud, nI st, nI D, opn, nI H, ycur, yfoc, nI q, nI fu, alloc, out, depth, res, ysty, fail, fresh, ready, kinds, values, params, first, org, num, held, part, queue, ath, got, size, used, yenv, args)) (I : i_Rel k u v) : P u v := by
  obtain ⟨lm, D, N, st, wn, B, bud, fu, q, H, b, t0, t1, t2, t3, t4, fb, im, sp, mark, frames, style, ev, pc, env, acc, alloc, out, pres, cur, foc, params, first, kinds, values, scopes, child, place, cells, orgs, helds, pend, fT, fN, fE, fM, fD, queue, opn, ycur, yfoc, depth, res, ysty, fail, fresh, ready, org, num, held, part, ath, got, size, used, yenv, args, rfl, rfl, hf⟩ := I
  exact h hf
theorem i_up {k : Nat} {u : SX} {v : SY} (h : i_Rel k u v) : i_Rel (k + 3) u v := h
/-- the constructors -/
theorem gm_xinit {post : SX → Prop} {t0 t1 t2 t3 t4 : Int32} {fb im : Int64} {lim defs stored wanted blocks sp mark frames style ev pc env : Int32} {acc : Int64} {budget fuel alloc out pres : Int32} {cur foc : Int64} {qd : Int32} {params first kinds values scopes child place : Nat → Int32} {cells pend : Nat → Int64} {fT fN fE fM fD queue : Nat → Int32} : ∀ (d i : Nat) (orgs helds : Nat → Int32), i + d = 8 → (∀ g, g < i → orgs g = nI g ∧ helds g = nI 0) → (∀ orgs helds : Nat → Int32, (∀ g, g < 8 → orgs g = nI g ∧ helds g = nI 0) → post (t0, t1, t2, t3, t4, fb, im, lim, defs, stored, wanted, 8, sp, mark, frames, style, ev, pc, env, acc, budget, fuel, alloc, out, pres, cur, foc, qd, params, first, kinds, values, scopes, child, place, cells, orgs, helds, pend, fT, fN, fE, fM, fD, queue)) → wX_init_248 post t0 t1 t2 t3 t4 fb im lim defs stored wanted blocks sp mark frames style ev pc env acc budget fuel alloc out pres cur foc qd (d + 1) (nI i) params first kinds values scopes child place cells orgs helds pend fT fN fE fM fD queue
  | 0, i, orgs, helds, hi, h1, h2 => by
    have : i = 8 := by omega
    subst this
    exact br_t (by decide) (h2 orgs helds h1)
  | d + 1, i, orgs, helds, hi, h1, h2 => by
    refine br_f (nI_ge (b := 8) (by omega) (by decide)) ?_
    rw [nI_clamp (show i < 2 ^ 31 by omega)]
    refine ⟨vp_in_nI (by omega) (by decide), nm_e ⟨vp_in_nI (by omega) (by decide), nm_e (nm_r (nI_1 _) ?_)⟩⟩
    refine gm_xinit d (i + 1) _ _ (by omega) (fun g hg => ?_) h2
    by_cases z : g = i
    · subst z
      rw [pk_us, pk_us]
      exact ⟨rfl, rfl⟩
    · rw [pk_un z, pk_un z]
      exact h1 g (by omega)
theorem gm_cl (x : Int32) (lo hi : Nat) (h1 : lo ≤ hi) (h2 : hi < 1000) : ∃ n, lo ≤ n ∧ n ≤ hi ∧ ∀ A : Int32 → Prop, A (nI n) → ((nI lo ≤ x → ((x ≤ nI hi → A x) ∧ (¬ x ≤ nI hi → A (nI hi)))) ∧ (¬ nI lo ≤ x → A (nI lo))) := by
  by_cases z : nI lo ≤ x
  · have hx0 : ¬ x < 0 := Int32.not_lt.mpr (Int32.le_trans (nI_pos' (by omega)) z)
    obtain ⟨j, hj, rfl⟩ := nI_of hx0
    rw [nI_leI (by omega) hj] at z
    rcases Nat.lt_or_ge hi j with y | y
    · exact ⟨hi, h1, Nat.le_refl _, fun A ha => br_t (nI_le z hj) (br_f (nI_ge y hj) ha)⟩
    · exact ⟨j, z, y, fun A ha => br_t (nI_le z hj) (br_t (nI_le y (by omega)) ha)⟩
  · exact ⟨lo, Nat.le_refl _, h1, fun A ha => br_f z ha⟩
theorem i_vc0 (k0 : Int32) (k1 : Int32) : wpX_init (fun u => wpY_init (fun v => i_Rel 2 u v) k0 k1) k0 k1 := by
  obtain ⟨lm, l1, l2, l3⟩ := gm_cl k0 16 64 (by omega) (by omega)
  obtain ⟨bud, b1, b2, b3⟩ := gm_cl k1 24 200 (by omega) (by omega)
  have key : ∀ orgs helds : Nat → Int32, (∀ g, g < 8 → orgs g = nI g ∧ helds g = nI 0) → wpY_init (fun v => i_Rel 2 (0, 1, 2, 3, 4, 4294967296, 4294967295, nI lm, 0, 0, 0, 8, 0, 0, 0, 0, 0, 0, 0, 0, nI bud, 0, 0, 0, 0, 0, 0, 0, (fun _ => 0), (fun _ => 0), (fun _ => 0), (fun _ => 0), (fun _ => 0), (fun _ => 0), (fun _ => 0), (fun _ => 0), orgs, helds, (fun _ => 0), (fun _ => 0), (fun _ => 0), (fun _ => 0), (fun _ => 0), (fun _ => 0), (fun _ => 0)) v) k0 k1 := by
    intro orgs helds ho
    unfold wpY_init
    refine l3 (fun z => wY_init_168 _ k1 z 0 0 0 0 0 0 (-1) (-1) 0 0 0 0 0 0 0 0 0 0 (fun _ => 0) (fun _ => 0) (fun _ => 0) (fun _ => 0) (fun _ => 0) (fun _ => 0) (fun _ => 0) (fun _ => 0) (fun _ => 0) (fun _ => 0) (fun _ => 0) (fun _ => 0) (fun _ => 0) (fun _ => 0) (fun _ => 0)) ?_
    unfold wY_init_168
    refine b3 (fun z => i_Rel 2 _ (nI lm, z, 0, 0, 0, 0, -1, -1, 0, 0, 0, 0, 0, 0, 0, 0, 0, 0, (fun _ => 0), (fun _ => 0), (fun _ => 0), (fun _ => 0), (fun _ => 0), (fun _ => 0), (fun _ => 0), (fun _ => 0), (fun _ => 0), (fun _ => 0), (fun _ => 0), (fun _ => 0), (fun _ => 0), (fun _ => 0), (fun _ => 0))) ?_
    exact gm_in (lm := lm) (D := 0) (N := 0) (st := 0) (wn := 0) (B := 8) (bud := bud) (fu := 0) (q := 0) (H := 0) (b := fun _ => 0) ⟨gm_PI_0 l2, Or.inl ⟨rfl, rfl⟩, ⟨Nat.le_refl _, ho, fun _ => vp_in_nI (n := 0) (by omega) (by decide)⟩, ⟨b1, b2, by omega⟩, Or.inl ⟨rfl, rfl⟩⟩
  unfold wpX_init
  refine l3 (fun z => wX_init_214 _ k1 z 0 1 2 3 4 4294967296 4294967295 0 0 0 0 0 0 0 0 0 0 0 0 0 0 0 0 0 0 0 0 0 (fun _ => 0) (fun _ => 0) (fun _ => 0) (fun _ => 0) (fun _ => 0) (fun _ => 0) (fun _ => 0) (fun _ => 0) (fun _ => 0) (fun _ => 0) (fun _ => 0) (fun _ => 0) (fun _ => 0) (fun _ => 0) (fun _ => 0) (fun _ => 0) (fun _ => 0)) ?_
  unfold wX_init_214
  refine b3 (fun z => ∃ n248 : Nat, wX_init_248 _ 0 1 2 3 4 4294967296 4294967295 (nI lm) 0 0 0 0 0 0 0 0 0 0 0 0 z 0 0 0 0 0 0 0 n248 0 (fun _ => 0) (fun _ => 0) (fun _ => 0) (fun _ => 0) (fun _ => 0) (fun _ => 0) (fun _ => 0) (fun _ => 0) (fun _ => 0) (fun _ => 0) (fun _ => 0) (fun _ => 0) (fun _ => 0) (fun _ => 0) (fun _ => 0) (fun _ => 0) (fun _ => 0)) ⟨9, ?_⟩
  exact gm_xinit 8 0 _ _ (by omega) (fun g hg => by omega) key
end
section
/-! the simple methods -/
theorem i_vc_nodeKind {k : Nat} {u : SX} {v : SY} (I : i_Rel k u v) (hk : k + 3 ≤ 1538) (v1 : Int32) : wpX_nodeKind (fun r => wpY_nodeKind (fun r' => r' = r ∧ i_Rel (k + 3) u v) v v1) u v1 := by
  refine gm_el (P := fun u v => wpX_nodeKind (fun r => wpY_nodeKind (fun r' => r' = r ∧ i_Rel (k + 3) u v) v v1) u v1) ?_ I
  intro lm D N st wn B bud fu q H b t0 t1 t2 t3 t4 fb im sp mark frames style ev pc env acc alloc out pres cur foc params first kinds values scopes child place cells orgs helds pend fT fN fE fM fD queue opn ycur yfoc depth res ysty fail fresh ready org num held part ath got size used yenv args hf
  have R : i_Rel (k + 3) (t0, t1, t2, t3, t4, fb, im, nI lm, nI D, nI st, nI wn, nI B, sp, mark, frames, style, ev, pc, env, acc, nI bud, nI fu, alloc, out, pres, cur, foc, nI q, params, first, kinds, values, scopes, child, place, cells, orgs, helds, pend, fT, fN, fE, fM, fD, queue) (nI lm, nI bud, nI st, nI D, opn, nI H, ycur, yfoc, nI q, nI fu, alloc, out, depth, res, ysty, fail, fresh, ready, kinds, values, params, first, org, num, held, part, queue, ath, got, size, used, yenv, args) := gm_in hf
  obtain ⟨n1, n2, n3, n4, n5, n6⟩ := gm_pi_n hf.1
  unfold wpX_nodeKind wpY_nodeKind
  dsimp only
  rcases pk_ix v1 (n := st) (by omega) with h | h | ⟨j, h1, rfl⟩
  · exact br_t h (br_t h ⟨rfl, R⟩)
  · have h0 : ¬ v1 < 0 := Int32.not_lt.mpr (Int32.le_trans (nI_pos' (by omega)) h)
    exact br_f h0 (br_t h (br_f h0 (br_t h ⟨rfl, R⟩)))
  · have h0 : ¬ nI j < 0 := nI_pos (by omega)
    have h2 : ¬ nI st ≤ nI j := nI_ge h1 (by omega)
    have h3 : vp_in (nI j) 64 := vp_in_nI (by omega) (by decide)
    exact br_f h0 (br_f h2 ⟨h3, br_f h0 (br_f h2 ⟨h3, rfl, R⟩)⟩)
theorem i_vc_nodeValue {k : Nat} {u : SX} {v : SY} (I : i_Rel k u v) (hk : k + 3 ≤ 1538) (v1 : Int32) : wpX_nodeValue (fun r => wpY_nodeValue (fun r' => r' = r ∧ i_Rel (k + 3) u v) v v1) u v1 := by
  refine gm_el (P := fun u v => wpX_nodeValue (fun r => wpY_nodeValue (fun r' => r' = r ∧ i_Rel (k + 3) u v) v v1) u v1) ?_ I
  intro lm D N st wn B bud fu q H b t0 t1 t2 t3 t4 fb im sp mark frames style ev pc env acc alloc out pres cur foc params first kinds values scopes child place cells orgs helds pend fT fN fE fM fD queue opn ycur yfoc depth res ysty fail fresh ready org num held part ath got size used yenv args hf
  have R : i_Rel (k + 3) (t0, t1, t2, t3, t4, fb, im, nI lm, nI D, nI st, nI wn, nI B, sp, mark, frames, style, ev, pc, env, acc, nI bud, nI fu, alloc, out, pres, cur, foc, nI q, params, first, kinds, values, scopes, child, place, cells, orgs, helds, pend, fT, fN, fE, fM, fD, queue) (nI lm, nI bud, nI st, nI D, opn, nI H, ycur, yfoc, nI q, nI fu, alloc, out, depth, res, ysty, fail, fresh, ready, kinds, values, params, first, org, num, held, part, queue, ath, got, size, used, yenv, args) := gm_in hf
  obtain ⟨n1, n2, n3, n4, n5, n6⟩ := gm_pi_n hf.1
  unfold wpX_nodeValue wpY_nodeValue
  dsimp only
  rcases pk_ix v1 (n := st) (by omega) with h | h | ⟨j, h1, rfl⟩
  · exact br_t h (br_t h ⟨rfl, R⟩)
  · have h0 : ¬ v1 < 0 := Int32.not_lt.mpr (Int32.le_trans (nI_pos' (by omega)) h)
    exact br_f h0 (br_t h (br_f h0 (br_t h ⟨rfl, R⟩)))
  · have h0 : ¬ nI j < 0 := nI_pos (by omega)
    have h2 : ¬ nI st ≤ nI j := nI_ge h1 (by omega)
    have h3 : vp_in (nI j) 64 := vp_in_nI (by omega) (by decide)
    exact br_f h0 (br_f h2 ⟨h3, br_f h0 (br_f h2 ⟨h3, rfl, R⟩)⟩)
theorem i_vc_arity {k : Nat} {u : SX} {v : SY} (I : i_Rel k u v) (hk : k + 3 ≤ 1538) (v1 : Int32) : wpX_arity (fun r => wpY_arity (fun r' => r' = r ∧ i_Rel (k + 3) u v) v v1) u v1 := by
  refine gm_el (P := fun u v => wpX_arity (fun r => wpY_arity (fun r' => r' = r ∧ i_Rel (k + 3) u v) v v1) u v1) ?_ I
  intro lm D N st wn B bud fu q H b t0 t1 t2 t3 t4 fb im sp mark frames style ev pc env acc alloc out pres cur foc params first kinds values scopes child place cells orgs helds pend fT fN fE fM fD queue opn ycur yfoc depth res ysty fail fresh ready org num held part ath got size used yenv args hf
  have R : i_Rel (k + 3) (t0, t1, t2, t3, t4, fb, im, nI lm, nI D, nI st, nI wn, nI B, sp, mark, frames, style, ev, pc, env, acc, nI bud, nI fu, alloc, out, pres, cur, foc, nI q, params, first, kinds, values, scopes, child, place, cells, orgs, helds, pend, fT, fN, fE, fM, fD, queue) (nI lm, nI bud, nI st, nI D, opn, nI H, ycur, yfoc, nI q, nI fu, alloc, out, depth, res, ysty, fail, fresh, ready, kinds, values, params, first, org, num, held, part, queue, ath, got, size, used, yenv, args) := gm_in hf
  obtain ⟨n1, n2, n3, n4, n5, n6⟩ := gm_pi_n hf.1
  have hD : 0 < wn → D < 8 := hf.1.1.2.2.2.2.2.1
  have hop := hf.2.1
  unfold wpX_arity wpY_arity
  dsimp only
  rcases hop with ⟨ho, hw⟩ | ⟨ho, hw⟩
  · subst hw
    refine br_t (by rw [nI_0]; decide) ?_
    unfold wX_arity_20
    rcases pk_ix v1 (n := D) (by omega) with h | h | ⟨j, h1, rfl⟩
    · exact br_t h (br_t h ⟨rfl, R⟩)
    · have h0 : ¬ v1 < 0 := Int32.not_lt.mpr (Int32.le_trans (nI_pos' (by omega)) h)
      exact br_f h0 (br_t h (br_f h0 (br_f (Int32.not_lt.mpr h) (br_t ho ⟨rfl, R⟩))))
    · have h0 : ¬ nI j < 0 := nI_pos (by omega)
      have h3 : vp_in (nI j) 8 := vp_in_nI (by omega) (by decide)
      exact br_f h0 (br_f (nI_ge h1 (by omega)) ⟨h3, br_f h0 (br_t (nI_lt h1 (by omega)) ⟨h3, rfl, R⟩)⟩)
  · have hD := hD hw
    have ho' : ¬ opn = 0 := by rw [ho]; decide
    refine br_f (nI_nle hw (by have := hf.1.2.2.2 hw; have := gm_w_hi (k := gm_kd kinds values) (i := N) (st - N) (fun s a b => gm_kd_le (n5 s (by omega))); rw [show N + (st - N) = st by omega] at this; omega)) ?_
    rw [nI_1]
    unfold wX_arity_20
    rcases pk_ix v1 (n := D + 1) (by omega) with h | h | ⟨j, h1, rfl⟩
    · exact br_t h (br_t h ⟨rfl, R⟩)
    · have h0 : ¬ v1 < 0 := Int32.not_lt.mpr (Int32.le_trans (nI_pos' (by omega)) h)
      have hl : nI D < v1 := Int32.lt_of_lt_of_le (nI_lt (by omega) (by omega)) h
      have hl2 : ¬ v1 < nI D := fun z => Int32.lt_irrefl (Int32.lt_trans hl z)
      have hne : ¬ v1 = nI D := fun z => by rw [z] at hl; exact Int32.lt_irrefl hl
      exact br_f h0 (br_t h (br_f h0 (br_f hl2 (br_f ho' (br_f hne ⟨rfl, R⟩)))))
    · have h0 : ¬ nI j < 0 := nI_pos (by omega)
      have h3 : vp_in (nI j) 8 := vp_in_nI (by omega) (by decide)
      refine br_f h0 (br_f (nI_ge h1 (by omega)) ⟨h3, br_f h0 ?_⟩)
      rcases Nat.lt_or_ge j D with y | y
      · exact br_t (nI_lt y (by omega)) ⟨h3, rfl, R⟩
      · exact br_f (nI_nlt y (by omega)) (br_f ho' (br_t (by rw [nI_eq (by omega) (by omega)]; omega) ⟨h3, rfl, R⟩))
theorem i_vc_top {k : Nat} {u : SX} {v : SY} (I : i_Rel k u v) (hk : k + 3 ≤ 1538) : wpX_top (fun r u' => wpY_top (fun r' v' => r' = r ∧ i_Rel (k + 3) u' v') v) u := by
  refine gm_el (P := fun u v => wpX_top (fun r u' => wpY_top (fun r' v' => r' = r ∧ i_Rel (k + 3) u' v') v) u) ?_ I
  intro lm D N st wn B bud fu q H b t0 t1 t2 t3 t4 fb im sp mark frames style ev pc env acc alloc out pres cur foc params first kinds values scopes child place cells orgs helds pend fT fN fE fM fD queue opn ycur yfoc depth res ysty fail fresh ready org num held part ath got size used yenv args hf
  unfold wpX_top wpY_top
  dsimp only
  obtain ⟨f1, f2, f3, f4, f5⟩ := hf
  rcases f5 with ⟨g1, g2⟩ | ⟨g1, g2, g3, g4⟩
  · exact br_t g1 (br_f (by rw [g2]; decide) ⟨rfl, gm_in ⟨f1, f2, f3, f4, Or.inl ⟨g1, g2⟩⟩⟩)
  · obtain ⟨y, y1, y2, -⟩ := gm_V_out g2
    exact br_f (by rw [g1]; decide) (br_t (by rw [y2]; exact nI_pos' (by omega)) ⟨rfl, gm_in ⟨f1, f2, f3, f4, Or.inr ⟨g1, g2, g2, g4⟩⟩⟩)
theorem i_vc_arg {k : Nat} {u : SX} {v : SY} (I : i_Rel k u v) (hk : k + 3 ≤ 1538) (v1 : Int32) : wpX_arg (fun r u' => wpY_arg (fun r' v' => r' = r ∧ i_Rel (k + 3) u' v') v v1) u v1 := by
  refine gm_el (P := fun u v => wpX_arg (fun r u' => wpY_arg (fun r' v' => r' = r ∧ i_Rel (k + 3) u' v') v v1) u v1) ?_ I
  intro lm D N st wn B bud fu q H b t0 t1 t2 t3 t4 fb im sp mark frames style ev pc env acc alloc out pres cur foc params first kinds values scopes child place cells orgs helds pend fT fN fE fM fD queue opn ycur yfoc depth res ysty fail fresh ready org num held part ath got size used yenv args hf
  have R : i_Rel (k + 3) (t0, t1, t2, t3, t4, fb, im, nI lm, nI D, nI st, nI wn, nI B, sp, mark, frames, style, ev, pc, env, acc, nI bud, nI fu, alloc, out, pres, cur, foc, nI q, params, first, kinds, values, scopes, child, place, cells, orgs, helds, pend, fT, fN, fE, fM, fD, queue) (nI lm, nI bud, nI st, nI D, opn, nI H, ycur, yfoc, nI q, nI fu, alloc, out, depth, res, ysty, fail, fresh, ready, kinds, values, params, first, org, num, held, part, queue, ath, got, size, used, yenv, args) := gm_in hf
  obtain ⟨f1, f2, f3, ⟨f4, f6, f7⟩, f5⟩ := hf
  unfold wpX_arg wpY_arg
  dsimp only
  rcases f5 with ⟨g1, g2⟩ | ⟨g1, g2, g3, g4⟩
  · exact br_t g1 (br_f (by rw [g2]; decide) ⟨rfl, R⟩)
  · obtain ⟨y, y1, y2, -⟩ := gm_V_out g2
    have hy : 0 ≤ ycur := by rw [y2]; exact nI_pos' (by omega)
    refine br_f (by rw [g1]; decide) ?_
    rw [nI_clamp (show q < 2 ^ 31 by omega)]
    rcases Nat.lt_or_ge q 8 with z | z
    · have hq : nI q < 8 := nI_lt (b := 8) z (by decide)
      refine br_t hq ⟨vp_in_nI z (by decide), nm_e (nm_r (nI_1 _) (br_t hy (br_t hq (nm_r (nI_1 _) ⟨vp_in_nI z (by decide), nm_e ⟨rfl, ?_⟩⟩))))⟩
      exact gm_in (q := q + 1) ⟨f1, f2, f3, ⟨f4, f6, by omega⟩, Or.inr ⟨g1, g2, g3, g4⟩⟩
    · have hq : ¬ nI q < 8 := nI_nlt (b := 8) z (by omega)
      exact br_f hq (br_t hy (br_f hq ⟨rfl, R⟩))
theorem i_vc_drop {k : Nat} {u : SX} {v : SY} (I : i_Rel k u v) (hk : k + 3 ≤ 1538) : wpX_drop (fun r u' => wpY_drop (fun r' v' => r' = r ∧ i_Rel (k + 3) u' v') v) u := by
  refine gm_el (P := fun u v => wpX_drop (fun r u' => wpY_drop (fun r' v' => r' = r ∧ i_Rel (k + 3) u' v') v) u) ?_ I
  intro lm D N st wn B bud fu q H b t0 t1 t2 t3 t4 fb im sp mark frames style ev pc env acc alloc out pres cur foc params first kinds values scopes child place cells orgs helds pend fT fN fE fM fD queue opn ycur yfoc depth res ysty fail fresh ready org num held part ath got size used yenv args hf
  have R : i_Rel (k + 3) (t0, t1, t2, t3, t4, fb, im, nI lm, nI D, nI st, nI wn, nI B, sp, mark, frames, style, ev, pc, env, acc, nI bud, nI fu, alloc, out, pres, cur, foc, nI q, params, first, kinds, values, scopes, child, place, cells, orgs, helds, pend, fT, fN, fE, fM, fD, queue) (nI lm, nI bud, nI st, nI D, opn, nI H, ycur, yfoc, nI q, nI fu, alloc, out, depth, res, ysty, fail, fresh, ready, kinds, values, params, first, org, num, held, part, queue, ath, got, size, used, yenv, args) := gm_in hf
  obtain ⟨n1, n2, n3, n4, n5, n6⟩ := gm_pi_n hf.1
  obtain ⟨f1, f2, f3, f4, f5⟩ := hf
  unfold wpX_drop wpY_drop
  dsimp only
  rcases f2 with ⟨ho, hw⟩ | ⟨ho, hw⟩
  · subst hw
    exact br_t nI_0 (br_t ho ⟨rfl, R⟩)
  · have hD := f1.1.2.2.2.2.2.1 hw
    have hfi := (f1.1.2.2.2.2.2.2.2.2.2 D (Or.inr ⟨rfl, hw⟩)).1
    rw [f1.1.2.2.2.2.2.2.2.1] at hfi
    have hwl : wn < 1000 := by
      have := f1.2.2.2 hw
      have := gm_w_hi (k := gm_kd kinds values) (i := N) (st - N) (fun s a b => gm_kd_le (n5 s (by omega)))
      rw [show N + (st - N) = st by omega] at this
      omega
    refine br_f (nI_ne0 hw (by omega)) ?_
    rw [nI_clamp (show D < 2 ^ 31 by omega)]
    refine ⟨vp_in_nI hD (by decide), nm_r hfi (br_f (by rw [ho]; decide) ⟨vp_in_nI hD (by decide), nm_r hfi ⟨rfl, ?_⟩⟩)⟩
    exact gm_in (st := N) (wn := 0) ⟨gm_PI_drop f1, Or.inl ⟨rfl, rfl⟩, f3, f4, f5⟩
theorem i_vc_define {k : Nat} {u : SX} {v : SY} (I : i_Rel k u v) (hk : k + 3 ≤ 1538) (v1 : Int32) : wpX_define (fun r u' => wpY_define (fun r' v' => r' = r ∧ i_Rel (k + 3) u' v') v v1) u v1 := by
  refine gm_el (P := fun u v => wpX_define (fun r u' => wpY_define (fun r' v' => r' = r ∧ i_Rel (k + 3) u' v') v v1) u v1) ?_ I
  intro lm D N st wn B bud fu q H b t0 t1 t2 t3 t4 fb im sp mark frames style ev pc env acc alloc out pres cur foc params first kinds values scopes child place cells orgs helds pend fT fN fE fM fD queue opn ycur yfoc depth res ysty fail fresh ready org num held part ath got size used yenv args hf
  have R : i_Rel (k + 3) (t0, t1, t2, t3, t4, fb, im, nI lm, nI D, nI st, nI wn, nI B, sp, mark, frames, style, ev, pc, env, acc, nI bud, nI fu, alloc, out, pres, cur, foc, nI q, params, first, kinds, values, scopes, child, place, cells, orgs, helds, pend, fT, fN, fE, fM, fD, queue) (nI lm, nI bud, nI st, nI D, opn, nI H, ycur, yfoc, nI q, nI fu, alloc, out, depth, res, ysty, fail, fresh, ready, kinds, values, params, first, org, num, held, part, queue, ath, got, size, used, yenv, args) := gm_in hf
  obtain ⟨n1, n2, n3, n4, n5, n6⟩ := gm_pi_n hf.1
  obtain ⟨f1, f2, f3, f4, f5⟩ := hf
  unfold wpX_define wpY_define
  dsimp only
  rcases f2 with ⟨ho, hw⟩ | ⟨ho, hw⟩
  · subst hw
    refine br_t (by rw [nI_0]; decide) (br_c (fun h => br_t ho (br_t h ⟨rfl, R⟩)) (fun h => br_c (fun h4 => ?_) (fun h4 => br_t ho (br_f h (br_f h4 ⟨rfl, R⟩)))))
    rw [nI_clamp (show D < 2 ^ 31 by omega)]
    rcases Nat.lt_or_ge D 8 with hD | hD
    · have hvD : vp_in (nI D) 8 := vp_in_nI hD (by decide)
      have h0 : ¬ v1 < 0 := fun z => h (Int32.lt_trans z (by decide))
      obtain ⟨a, ha, rfl⟩ := nI_of h0
      have h1 : 1 ≤ a := by
        rcases Nat.lt_or_ge a 1 with y | y
        · exact absurd (nI_lt (b := 1) y (by decide)) h
        · exact y
      have h4' : a ≤ 4 := (nI_leI (b := 4) ha (by decide)).mp h4
      refine br_t (nI_lt (b := 8) hD (by decide)) ⟨hvD, nm_e ⟨hvD, nm_e (nm_e (br_t ho (br_f h (br_t h4 (br_f (fun z => ?_) ⟨hvD, nm_e ⟨hvD, nm_e ⟨rfl, ?_⟩⟩⟩)))))⟩⟩
      · have := (nI_eq (a := D) (b := 8) (by omega) (by decide)).mp z
        omega
      · refine gm_in (wn := 1) ⟨gm_PI_def f1 hD h1 h4', Or.inr ⟨rfl, by omega⟩, f3, f4, ?_⟩
        rcases f5 with g1 | ⟨g1, g2, g3, g4⟩
        · exact Or.inl g1
        · have hP : ∀ o, gm_OK kinds D N o → gm_OK kinds D N o ∧ gm_par (upd params D (nI a)) values o = gm_par params values o ∧ gm_kp scopes o = gm_kp scopes o := by
            intro o ho
            refine ⟨ho, ?_, rfl⟩
            unfold gm_par
            rcases ho with ⟨z1, z2⟩ | ⟨z1, -⟩
            · rw [if_pos z2, if_pos z2, gm_vl_u (by omega)]
            · rw [if_neg (by omega), if_neg (by omega)]
          have up : ∀ yi x, (gm_V D N params kinds values scopes B orgs helds cells H org num held part) yi x → (gm_V D N (upd params D (nI a)) kinds values scopes B orgs helds cells H org num held part) yi x := fun yi x z => gm_V_mono (Nat.le_refl _) (fun _ _ => ⟨rfl, rfl, rfl⟩) (fun _ _ => rfl) (Nat.le_refl _) (fun _ _ => ⟨rfl, rfl⟩) (fun _ _ => rfl) hP z
          exact Or.inr ⟨g1, up _ _ g2, up _ _ g3, g4⟩
    · have : D = 8 := by omega
      subst this
      exact br_f (by decide) (br_t ho (br_f h (br_t h4 (br_t rfl ⟨rfl, R⟩))))
  · have hwl : wn < 1000 := by
      have := f1.2.2.2 hw
      have := gm_w_hi (k := gm_kd kinds values) (i := N) (st - N) (fun s a b => gm_kd_le (n5 s (by omega)))
      rw [show N + (st - N) = st by omega] at this
      omega
    exact br_f (nI_nle hw (by omega)) (br_f (by rw [ho]; decide) ⟨rfl, R⟩)
theorem i_vc_load {k : Nat} {u : SX} {v : SY} (I : i_Rel k u v) (hk : k + 3 ≤ 1538) (v1 : Int32) : wpX_load (fun r u' => wpY_load (fun r' v' => r' = r ∧ i_Rel (k + 3) u' v') v v1) u v1 := by
  refine gm_el (P := fun u v => wpX_load (fun r u' => wpY_load (fun r' v' => r' = r ∧ i_Rel (k + 3) u' v') v v1) u v1) ?_ I
  intro lm D N st wn B bud fu q H b t0 t1 t2 t3 t4 fb im sp mark frames style ev pc env acc alloc out pres cur foc params first kinds values scopes child place cells orgs helds pend fT fN fE fM fD queue opn ycur yfoc depth res ysty fail fresh ready org num held part ath got size used yenv args hf
  have R : i_Rel (k + 3) (t0, t1, t2, t3, t4, fb, im, nI lm, nI D, nI st, nI wn, nI B, sp, mark, frames, style, ev, pc, env, acc, nI bud, nI fu, alloc, out, pres, cur, foc, nI q, params, first, kinds, values, scopes, child, place, cells, orgs, helds, pend, fT, fN, fE, fM, fD, queue) (nI lm, nI bud, nI st, nI D, opn, nI H, ycur, yfoc, nI q, nI fu, alloc, out, depth, res, ysty, fail, fresh, ready, kinds, values, params, first, org, num, held, part, queue, ath, got, size, used, yenv, args) := gm_in hf
  obtain ⟨n1, n2, n3, n4, n5, n6⟩ := gm_pi_n hf.1
  obtain ⟨f1, f2, f3, ⟨f4, f6, f7⟩, f5⟩ := hf
  unfold wpX_load wpY_load
  dsimp only
  rcases pk_ix v1 (n := D) (by omega) with h | h | ⟨j, h1, rfl⟩
  · exact br_t h (br_t h ⟨rfl, R⟩)
  · have h0 : ¬ v1 < 0 := Int32.not_lt.mpr (Int32.le_trans (nI_pos' (by omega)) h)
    exact br_f h0 (br_f (Int32.not_lt.mpr h) (br_f h0 (br_f (Int32.not_lt.mpr h) ⟨rfl, R⟩)))
  · have h0 : ¬ nI j < 0 := nI_pos (by omega)
    have hl : nI j < nI D := nI_lt h1 (by omega)
    refine br_f h0 (br_t hl (nm_e (br_f h0 (br_t hl (gm_ymake (H := 0) (by omega) ?_)))))
    dsimp only
    refine ⟨rfl, gm_in (B := 8) (fu := bud) (q := 0) (H := 1) ⟨f1, f2, ⟨Nat.le_refl _, f3.2⟩, ⟨f4, f6, by omega⟩, Or.inr ⟨rfl, ?_, ?_, by omega, by omega⟩⟩⟩
    all_goals
      have hOK : gm_OK kinds D N j := Or.inl ⟨h1, by omega⟩
      obtain ⟨o1, o2, o3, o4, o5, -⟩ := gm_pi_OK f1 hOK
      obtain ⟨b1, b2⟩ := f3.2.1 j (by omega)
      have hkp : gm_kp scopes j = 0 := if_pos (by omega)
      refine gm_V_in ⟨0, by omega, rfl, Or.inr ⟨j, j, 0, by omega, rfl, b1, pk_us, b2, pk_us, pk_us, hOK, by omega, by omega, fun i hi => ?_⟩⟩
      rw [hkp] at hi
      omega
end
section
/-! node and count -/
section
variable {ylim yfuel ystored comp opn heap ycur yfoc ypend left yalloc yout depth res ysty fail fresh ready : Int32} {ykinds yvalues ar beg org num held part yqueue ath got size used yenv args : Nat → Int32}
variable {post : Int32 → SY → Prop} {k v : Int32} {s D : Nat}
theorem gm_yn102 (hy : gm_LG k v s D → wY_node_112 post k v (nI s) ylim yfuel ystored (nI D) opn heap ycur yfoc ypend left yalloc yout depth res ysty fail fresh ready ykinds yvalues ar beg org num held part yqueue ath got size used yenv args) (hn : ¬ gm_LG k v s D → wY_node_116 post k v (nI s) ylim yfuel ystored (nI D) opn heap ycur yfoc ypend left yalloc yout depth res ysty fail fresh ready ykinds yvalues ar beg org num held part yqueue ath got size used yenv args) (hex : gm_LG k v s D → k = 6) : wY_node_102 post k v (nI s) ylim yfuel ystored (nI D) opn heap ycur yfoc ypend left yalloc yout depth res ysty fail fresh ready ykinds yvalues ar beg org num held part yqueue ath got size used yenv args := by
  unfold wY_node_102
  refine br_c (fun e => br_c (fun z => hy (Or.inr (Or.inr (Or.inr (Or.inr (Or.inr ⟨e, z⟩)))))) (fun z => hn (fun w => z ?_))) (fun e => hn (fun w => e (hex w)))
  subst e
  exact gm_LG_6 w
theorem gm_yn88 (hy : gm_LG k v s D → wY_node_112 post k v (nI s) ylim yfuel ystored (nI D) opn heap ycur yfoc ypend left yalloc yout depth res ysty fail fresh ready ykinds yvalues ar beg org num held part yqueue ath got size used yenv args) (hn : ¬ gm_LG k v s D → wY_node_116 post k v (nI s) ylim yfuel ystored (nI D) opn heap ycur yfoc ypend left yalloc yout depth res ysty fail fresh ready ykinds yvalues ar beg org num held part yqueue ath got size used yenv args) (hex : gm_LG k v s D → k = 5 ∨ k = 6) : wY_node_88 post k v (nI s) ylim yfuel ystored (nI D) opn heap ycur yfoc ypend left yalloc yout depth res ysty fail fresh ready ykinds yvalues ar beg org num held part yqueue ath got size used yenv args := by
  unfold wY_node_88
  refine br_c (fun e => ?_) (fun e => gm_yn102 hy hn (fun w => (hex w).resolve_left e))
  subst e
  exact br_c (fun z => gm_yn102 hy hn (fun w => absurd z (gm_LG_5 w).1)) (fun z => br_c (fun y => hy (Or.inr (Or.inr (Or.inr (Or.inr (Or.inl ⟨rfl, z, y⟩)))))) (fun y => gm_yn102 hy hn (fun w => absurd (gm_LG_5 w).2 y)))
theorem gm_yn68 (hy : gm_LG k v s D → wY_node_112 post k v (nI s) ylim yfuel ystored (nI D) opn heap ycur yfoc ypend left yalloc yout depth res ysty fail fresh ready ykinds yvalues ar beg org num held part yqueue ath got size used yenv args) (hn : ¬ gm_LG k v s D → wY_node_116 post k v (nI s) ylim yfuel ystored (nI D) opn heap ycur yfoc ypend left yalloc yout depth res ysty fail fresh ready ykinds yvalues ar beg org num held part yqueue ath got size used yenv args) (hex : gm_LG k v s D → k = 3 ∨ k = 4 ∨ k = 5 ∨ k = 6) : wY_node_68 post k v (nI s) ylim yfuel ystored (nI D) opn heap ycur yfoc ypend left yalloc yout depth res ysty fail fresh ready ykinds yvalues ar beg org num held part yqueue ath got size used yenv args := by
  unfold wY_node_68
  refine br_c (fun e => ?_) (fun e => br_c (fun e2 => ?_) (fun e2 => gm_yn88 hy hn (fun w => ((hex w).resolve_left e).resolve_left e2)))
  · subst e
    unfold wY_node_78
    exact br_c (fun z => gm_yn88 hy hn (fun w => absurd z (gm_LG_3 w).1)) (fun z => br_c (fun y => hy (Or.inr (Or.inr (Or.inr (Or.inl ⟨Or.inl rfl, z, y⟩))))) (fun y => gm_yn88 hy hn (fun w => absurd (gm_LG_3 w).2 y)))
  · subst e2
    unfold wY_node_78
    exact br_c (fun z => gm_yn88 hy hn (fun w => absurd z (gm_LG_4 w).1)) (fun z => br_c (fun y => hy (Or.inr (Or.inr (Or.inr (Or.inl ⟨Or.inr rfl, z, y⟩))))) (fun y => gm_yn88 hy hn (fun w => absurd (gm_LG_4 w).2 y)))
theorem gm_yn51 (hy : gm_LG k v s D → wY_node_112 post k v (nI s) ylim yfuel ystored (nI D) opn heap ycur yfoc ypend left yalloc yout depth res ysty fail fresh ready ykinds yvalues ar beg org num held part yqueue ath got size used yenv args) (hn : ¬ gm_LG k v s D → wY_node_116 post k v (nI s) ylim yfuel ystored (nI D) opn heap ycur yfoc ypend left yalloc yout depth res ysty fail fresh ready ykinds yvalues ar beg org num held part yqueue ath got size used yenv args) (hex : gm_LG k v s D → k = 2 ∨ k = 3 ∨ k = 4 ∨ k = 5 ∨ k = 6) : wY_node_51 post k v (nI s) ylim yfuel ystored (nI D) opn heap ycur yfoc ypend left yalloc yout depth res ysty fail fresh ready ykinds yvalues ar beg org num held part yqueue ath got size used yenv args := by
  unfold wY_node_51
  refine br_c (fun e => ?_) (fun e => gm_yn68 hy hn (fun w => (hex w).resolve_left e))
  subst e
  exact br_c (fun z => gm_yn68 hy hn (fun w => absurd z (gm_LG_2 w).1)) (fun z => br_c (fun y => hy (Or.inr (Or.inr (Or.inl ⟨rfl, z, y⟩)))) (fun y => gm_yn68 hy hn (fun w => absurd (gm_LG_2 w).2 y)))
theorem gm_LG_all (w : gm_LG k v s D) : k = 0 ∨ k = 1 ∨ k = 2 ∨ k = 3 ∨ k = 4 ∨ k = 5 ∨ k = 6 := by
  rcases w with h | ⟨h, -⟩ | ⟨h, -⟩ | ⟨h | h, -⟩ | ⟨h, -⟩ | ⟨h, -⟩
  · exact Or.inl h
  · exact Or.inr (Or.inl h)
  · exact Or.inr (Or.inr (Or.inl h))
  · exact Or.inr (Or.inr (Or.inr (Or.inl h)))
  · exact Or.inr (Or.inr (Or.inr (Or.inr (Or.inl h))))
  · exact Or.inr (Or.inr (Or.inr (Or.inr (Or.inr (Or.inl h)))))
  · exact Or.inr (Or.inr (Or.inr (Or.inr (Or.inr (Or.inr h)))))
theorem gm_ynode {lm st : Nat} (hl : st < lm) (hlm : lm ≤ 64) (ho : ¬ opn = 0) (hsc : ∀ post : Int32 → Prop, post (nI s) → wpY_scopeAt post (nI lm, yfuel, nI st, nI D, opn, heap, ycur, yfoc, ypend, left, yalloc, yout, depth, res, ysty, fail, fresh, ready, ykinds, yvalues, ar, beg, org, num, held, part, yqueue, ath, got, size, used, yenv, args) (nI st)) (hy : gm_LG k v s D → wY_node_112 post k v (nI s) (nI lm) yfuel (nI st) (nI D) opn heap ycur yfoc ypend left yalloc yout depth res ysty fail fresh ready ykinds yvalues ar beg org num held part yqueue ath got size used yenv args) (hn : ¬ gm_LG k v s D → wY_node_116 post k v (nI s) (nI lm) yfuel (nI st) (nI D) opn heap ycur yfoc ypend left yalloc yout depth res ysty fail fresh ready ykinds yvalues ar beg org num held part yqueue ath got size used yenv args) : wpY_node post (nI lm, yfuel, nI st, nI D, opn, heap, ycur, yfoc, ypend, left, yalloc, yout, depth, res, ysty, fail, fresh, ready, ykinds, yvalues, ar, beg, org, num, held, part, yqueue, ath, got, size, used, yenv, args) k v := by
  unfold wpY_node
  dsimp only
  refine br_f ho (br_t (nI_lt hl (by omega)) (hsc _ ?_))
  refine br_c (fun e => hy (Or.inl e)) (fun e => br_c (fun e1 => ?_) (fun e1 => gm_yn51 hy hn (fun w => ((gm_LG_all w).resolve_left e).resolve_left e1)))
  subst e1
  exact br_c (fun z => gm_yn51 hy hn (fun w => absurd z (gm_LG_1 w).1)) (fun z => br_c (fun y => hy (Or.inr (Or.inl ⟨rfl, z, y⟩))) (fun y => gm_yn51 hy hn (fun w => absurd (gm_LG_1 w).2 y)))
theorem gm_yn142 {scopes : Nat → Int32} {st N r : Nat} (hst : st < 64) (hD : D < 8) (hb : beg D = nI N) (hN : N ≤ st) (hok : ∀ i, i < st + 1 → gm_ok (upd ykinds st k) (upd yvalues st v) scopes (D + 1) i) (hlo : ∀ j, N ≤ j → j < st + 1 → gm_w (gm_kd (upd ykinds st k) (upd yvalues st v)) N ≤ gm_w (gm_kd (upd ykinds st k) (upd yvalues st v)) j) (hr : (r : Int) = 1 + gm_w (gm_kd (upd ykinds st k) (upd yvalues st v)) (st + 1) - gm_w (gm_kd (upd ykinds st k) (upd yvalues st v)) N) (hr2 : r < 1000)
    (h0 : r = 0 → post 1 (ylim, yfuel, nI (st + 1), nI (D + 1), 0, heap, ycur, yfoc, ypend, left, yalloc, yout, depth, res, ysty, fail, fresh, ready, upd ykinds st k, upd yvalues st v, ar, beg, org, num, held, part, yqueue, ath, got, size, used, yenv, args)) (h1 : 0 < r → post 0 (ylim, yfuel, nI (st + 1), nI D, opn, heap, ycur, yfoc, ypend, left, yalloc, yout, depth, res, ysty, fail, fresh, ready, upd ykinds st k, upd yvalues st v, ar, beg, org, num, held, part, yqueue, ath, got, size, used, yenv, args)) : wY_node_142 post k v ylim yfuel (nI st) (nI D) opn heap ycur yfoc ypend left yalloc yout depth res ysty fail fresh ready ykinds yvalues ar beg org num held part yqueue ath got size used yenv args := by
  have hv : vp_in (nI st) 64 := vp_in_nI hst (by decide)
  unfold wY_node_142
  rw [nI_clamp (show st < 2 ^ 31 by omega)]
  refine ⟨hv, nm_e ⟨hv, nm_e (nm_r (nI_1 _) ?_)⟩⟩
  refine gm_ywant (scopes := scopes) (by omega) hok hD hb (by omega) hlo hr ?_
  rcases Nat.eq_zero_or_pos r with z | z
  · have := h0 z
    subst z
    exact br_t (by rw [nI_0]; decide) (nm_r (nI_1 _) this)
  · exact br_f (nI_nle z (by omega)) (h1 z)
end
section
variable {t0 t1 t2 t3 t4 : Int32} {fb im : Int64} {defs stored wanted blocks sp mark frames style ev pc env : Int32} {acc : Int64} {budget fuel alloc out pres : Int32} {cur foc : Int64} {qd : Int32} {params first kinds values scopes child place : Nat → Int32} {cells : Nat → Int64} {orgs helds : Nat → Int32} {pend : Nat → Int64} {fT fN fE fM fD queue : Nat → Int32} {lm D N st wn : Nat} {b : Nat → Nat}
theorem gm_xps (h : (gm_PI params first kinds values scopes child place lm D N st wn b)) (hw : 0 < wn) : wn < 321 ∧ ∃ s, s ≤ 12 ∧ s = gm_vl params D + gm_SF kinds values (gm_w (gm_kd kinds values)) st st ∧
    ((place (wn - 1) = -1 ∧ st = N ∧ wn = 1 ∧ s = gm_vl params D) ∨
     ∃ i c, place (wn - 1) = nI (i * 5 + c) ∧ N ≤ i ∧ i < st ∧ c < gm_kd kinds values i ∧ gm_Par (gm_w (gm_kd kinds values)) i st ∧ gm_w (gm_kd kinds values) st + c + 1 = gm_w (gm_kd kinds values) i + gm_kd kinds values i ∧ s = gm_vl scopes i + (if kinds i = 3 then gm_vl values i else 0)) ∧
    ∀ post : Int32 → Prop, post (nI s) → wpX_placeScope post (t0, t1, t2, t3, t4, fb, im, nI lm, nI D, nI st, nI wn, blocks, sp, mark, frames, style, ev, pc, env, acc, budget, fuel, alloc, out, pres, cur, foc, qd, params, first, kinds, values, scopes, child, place, cells, orgs, helds, pend, fT, fN, fE, fM, fD, queue) := by
  obtain ⟨n1, n2, n3, n4, n5, n6⟩ := gm_pi_n h
  have hwl : wn < 321 := by
    have := h.2.2.2 hw
    have := gm_w_hi (k := gm_kd kinds values) (i := N) (st - N) (fun s a b => gm_kd_le (n5 s (by omega)))
    rw [show N + (st - N) = st by omega] at this
    omega
  refine ⟨hwl, ?_⟩
  obtain ⟨s, s1, s2, s3⟩ := gm_top h hw
  refine ⟨s, s1, s2, s3, fun post hp => ?_⟩
  obtain ⟨m, rfl⟩ : ∃ m, wn = m + 1 := ⟨wn - 1, by omega⟩
  have hD := h.1.2.2.2.2.2.1 hw
  rcases s3 with ⟨e1, e2, e3, e4⟩ | ⟨i, c, e1, e2, e3, e4, e5, e6, e7⟩
  · refine gm_xplace0 (by omega) hD e1 ?_ hp
    rw [(h.1.2.2.2.2.2.2.2.2.2 D (Or.inr ⟨rfl, hw⟩)).2.1, e4]
  · have := gm_kd_le (n5 i e3)
    rw [e7] at hp
    exact gm_xplace1 (by omega) e1 (by omega) (by omega) (n5 i e3) hp
end
theorem i_vc_node {k : Nat} {u : SX} {v : SY} (I : i_Rel k u v) (hk : k + 3 ≤ 1538) (v1 : Int32) (v2 : Int32) : wpX_node (fun r u' => wpY_node (fun r' v' => r' = r ∧ i_Rel (k + 3) u' v') v v1 v2) u v1 v2 := by
  refine gm_el (P := fun u v => wpX_node (fun r u' => wpY_node (fun r' v' => r' = r ∧ i_Rel (k + 3) u' v') v v1 v2) u v1 v2) ?_ I
  intro lm D N st wn B bud fu q H b t0 t1 t2 t3 t4 fb im sp mark frames style ev pc env acc alloc out pres cur foc params first kinds values scopes child place cells orgs helds pend fT fN fE fM fD queue opn ycur yfoc depth res ysty fail fresh ready org num held part ath got size used yenv args hf
  have R : i_Rel (k + 3) (t0, t1, t2, t3, t4, fb, im, nI lm, nI D, nI st, nI wn, nI B, sp, mark, frames, style, ev, pc, env, acc, nI bud, nI fu, alloc, out, pres, cur, foc, nI q, params, first, kinds, values, scopes, child, place, cells, orgs, helds, pend, fT, fN, fE, fM, fD, queue) (nI lm, nI bud, nI st, nI D, opn, nI H, ycur, yfoc, nI q, nI fu, alloc, out, depth, res, ysty, fail, fresh, ready, kinds, values, params, first, org, num, held, part, queue, ath, got, size, used, yenv, args) := gm_in hf
  obtain ⟨n1, n2, n3, n4, n5, n6⟩ := gm_pi_n hf.1
  obtain ⟨f1, f2, f3, f4, f5⟩ := hf
  have hlm : lm ≤ 64 := f1.1.1
  rcases f2 with ⟨ho, hw⟩ | ⟨ho, hw⟩
  · subst hw
    unfold wpX_node wpY_node
    exact br_t nI_0 (br_t ho ⟨rfl, R⟩)
  · have hD := f1.1.2.2.2.2.2.1 hw
    have ho' : ¬ opn = 0 := by rw [ho]; decide
    obtain ⟨w1, s, s1, s2, s3, s4⟩ := gm_xps (t0 := t0) (t1 := t1) (t2 := t2) (t3 := t3) (t4 := t4) (fb := fb) (im := im) (blocks := nI B) (sp := sp) (mark := mark) (frames := frames) (style := style) (ev := ev) (pc := pc) (env := env) (acc := acc) (budget := nI bud) (fuel := nI fu) (alloc := alloc) (out := out) (pres := pres) (cur := cur) (foc := foc) (qd := nI q) (cells := cells) (orgs := orgs) (helds := helds) (pend := pend) (fT := fT) (fN := fN) (fE := fE) (fM := fM) (fD := fD) (queue := queue) f1 hw
    have ysc : ∀ post : Int32 → Prop, post (nI s) → wpY_scopeAt post (nI lm, nI bud, nI st, nI D, opn, nI H, ycur, yfoc, nI q, nI fu, alloc, out, depth, res, ysty, fail, fresh, ready, kinds, values, params, first, org, num, held, part, queue, ath, got, size, used, yenv, args) (nI st) := by
      intro post hp
      rw [s2] at hp
      rw [ho]
      exact gm_pi_yst f1 hw hp
    unfold wpX_node
    dsimp only
    refine br_f (nI_ne0 hw (by omega)) ?_
    rcases Nat.lt_or_ge st lm with hl | hl
    · refine br_t (nI_lt hl (by omega)) (s4 _ (gm_xlegal (fun hLG => ?_) (fun hLG => ?_)))
      · refine br_f (by decide) ?_
        have fin : (v1 = 3 → nI s + v2 ≤ 12) → wX_node_57 (fun r u' => wpY_node (fun r' v' => r' = r ∧ i_Rel (k + 3) u' v') (nI lm, nI bud, nI st, nI D, opn, nI H, ycur, yfoc, nI q, nI fu, alloc, out, depth, res, ysty, fail, fresh, ready, kinds, values, params, first, org, num, held, part, queue, ath, got, size, used, yenv, args) v1 v2) v1 v2 (nI s) t0 t1 t2 t3 t4 fb im (nI lm) (nI D) (nI st) (nI wn) (nI B) sp mark frames style ev pc env acc (nI bud) (nI fu) alloc out pres cur foc (nI q) params first kinds values scopes child place cells orgs helds pend fT fN fE fM fD queue := by
          intro hdeep
          obtain ⟨m, rfl⟩ : ∃ m, wn = m + 1 := ⟨wn - 1, by omega⟩
          have ok := gm_LG_ok (kinds' := upd kinds st v1) (values' := upd values st v2) (scopes' := upd scopes st (nI s)) (i := st) hLG s1 n1 hdeep pk_us pk_us pk_us
          obtain ⟨child', hsl, hsl2⟩ : ∃ child' : Nat → Int32, ((place m = -1 ∧ st = N ∧ m = 0 ∧ child' = child) ∨
              ∃ i c, place m = nI (i * 5 + c) ∧ N ≤ i ∧ i < st ∧ c < gm_kd kinds values i ∧ gm_Par (gm_w (gm_kd kinds values)) i st ∧ gm_w (gm_kd kinds values) st + c + 1 = gm_w (gm_kd kinds values) i + gm_kd kinds values i ∧ s = gm_vl scopes i + (if kinds i = 3 then gm_vl values i else 0) ∧ child' = upd child (i * 5 + c) (nI st)) ∧
              ((place m = -1 ∧ child' = child) ∨ ∃ q, q < 320 ∧ place m = nI q ∧ child' = upd child q (nI st)) := by
            rcases s3 with ⟨e1, e2, e3, e4⟩ | ⟨i, c, e1, e2, e3, e4, e5, e6, e7⟩
            · exact ⟨child, Or.inl ⟨e1, e2, by omega, rfl⟩, Or.inl ⟨e1, rfl⟩⟩
            · have := gm_kd_le (n5 i e3)
              exact ⟨upd child (i * 5 + c) (nI st), Or.inr ⟨i, c, e1, e2, e3, e4, e5, e6, e7, rfl⟩, Or.inr ⟨i * 5 + c, by omega, e1, rfl⟩⟩
          obtain ⟨r1, r2, r3, r4, r5⟩ := gm_PI_node f1 hl s2 s1 ok hsl
          have hkd := gm_kd_le ok
          have hb := (f1.1.2.2.2.2.2.2.2.2.2 D (Or.inr ⟨rfl, hw⟩)).1
          rw [f1.1.2.2.2.2.2.2.2.1] at hb
          have hmm : m + 5 ≤ 320 := by
            have := f1.2.2.2 hw
            have := gm_w_hi (k := gm_kd kinds values) (i := N) (st - N) (fun s a b => gm_kd_le (n5 s (by omega)))
            rw [show N + (st - N) = st by omega] at this
            omega
          have up : ∀ (D' N' : Nat), D ≤ D' → N ≤ N' → ∀ yi x, (gm_V D N params kinds values scopes B orgs helds cells H org num held part) yi x → (gm_V D' N' params (upd kinds st v1) (upd values st v2) (upd scopes st (nI s)) B orgs helds cells H org num held part) yi x := by
            intro D' N' hD' hN' yi x z
            refine gm_V_mono (Nat.le_refl _) (fun _ _ => ⟨rfl, rfl, rfl⟩) (fun _ _ => rfl) (Nat.le_refl _) (fun _ _ => ⟨rfl, rfl⟩) (fun _ _ => rfl) (fun o ho => ?_) z
            unfold gm_par gm_kp
            rcases ho with ⟨z1, z2⟩ | ⟨z1, z2, z3⟩
            · exact ⟨Or.inl ⟨by omega, z2⟩, by rw [if_pos z2, if_pos z2], by rw [if_pos z2, if_pos z2]⟩
            · rw [if_neg (by omega), if_neg (by omega), if_neg (by omega), if_neg (by omega), gm_vl_u (by omega), gm_vl_u (by omega)]
              exact ⟨Or.inr ⟨z1, by omega, by rw [pk_un (by omega)]; exact z3⟩, rfl, rfl⟩
          have yfin : ∀ (post : Int32 → SY → Prop), (m + gm_kd (upd kinds st v1) (upd values st v2) st = 0 → post 1 (nI lm, nI bud, nI (st + 1), nI (D + 1), 0, nI H, ycur, yfoc, nI q, nI fu, alloc, out, depth, res, ysty, fail, fresh, ready, upd kinds st v1, upd values st v2, params, first, org, num, held, part, queue, ath, got, size, used, yenv, args)) → (0 < m + gm_kd (upd kinds st v1) (upd values st v2) st → post 0 (nI lm, nI bud, nI (st + 1), nI D, opn, nI H, ycur, yfoc, nI q, nI fu, alloc, out, depth, res, ysty, fail, fresh, ready, upd kinds st v1, upd values st v2, params, first, org, num, held, part, queue, ath, got, size, used, yenv, args)) → wpY_node post (nI lm, nI bud, nI st, nI D, opn, nI H, ycur, yfoc, nI q, nI fu, alloc, out, depth, res, ysty, fail, fresh, ready, kinds, values, params, first, org, num, held, part, queue, ath, got, size, used, yenv, args) v1 v2 := by
            intro post h0 h1
            refine gm_ynode hl hlm ho' ysc (fun _ => ?_) (fun z => absurd hLG z)
            have h142 : wY_node_142 post v1 v2 (nI lm) (nI bud) (nI st) (nI D) opn (nI H) ycur yfoc (nI q) (nI fu) alloc out depth res ysty fail fresh ready kinds values params first org num held part queue ath got size used yenv args := gm_yn142 (scopes := upd scopes st (nI s)) (by omega) hD hb n4 r3 r2 r1 (by omega) h0 h1
            unfold wY_node_112 wY_node_117
            refine br_f (by decide) ?_
            by_cases h3 : v1 = 3
            · exact br_t h3 (br_t (hdeep h3) h142)
            · exact br_f h3 h142
          unfold wX_node_57
          refine gm_xstore (E := D + 1) (by omega) hmm hsl2 ok ?_
          dsimp only
          rcases Nat.eq_zero_or_pos (m + gm_kd (upd kinds st v1) (upd values st v2) st) with z | z
          · rw [z]
            refine br_t (by rw [nI_0]; decide) (nm_r (nI_1 _) (yfin _ (fun _ => ⟨rfl, ?_⟩) (fun y => by omega)))
            obtain ⟨b', hb'⟩ := r5 z
            refine gm_in (D := D + 1) (N := st + 1) (st := st + 1) (wn := 0) (b := b') ⟨hb', Or.inl ⟨rfl, rfl⟩, f3, f4, ?_⟩
            rcases f5 with g1 | ⟨g1, g2, g3, g4⟩
            · exact Or.inl g1
            · exact Or.inr ⟨g1, up _ _ (by omega) (by omega) _ _ g2, up _ _ (by omega) (by omega) _ _ g3, g4⟩
          · refine br_f (nI_nle z (by omega)) (yfin _ (fun y => by omega) (fun _ => ⟨rfl, ?_⟩))
            refine gm_in (st := st + 1) (wn := m + gm_kd (upd kinds st v1) (upd values st v2) st) (b := b) ⟨r4 z, Or.inr ⟨ho, z⟩, f3, f4, ?_⟩
            rcases f5 with g1 | ⟨g1, g2, g3, g4⟩
            · exact Or.inl g1
            · exact Or.inr ⟨g1, up _ _ (Nat.le_refl _) (Nat.le_refl _) _ _ g2, up _ _ (Nat.le_refl _) (Nat.le_refl _) _ _ g3, g4⟩
        by_cases h3 : v1 = 3
        · refine br_t h3 (br_c (fun z => fin (fun _ => z)) (fun z => ?_))
          refine gm_ynode hl hlm ho' ysc (fun _ => ?_) (fun z => absurd hLG z)
          unfold wY_node_112 wY_node_117
          exact br_f (by decide) (br_t h3 (br_f z ⟨rfl, R⟩))
        · exact br_f h3 (fin (fun z => absurd z h3))
      · refine br_t rfl ?_
        refine gm_ynode hl hlm ho' ysc (fun z => absurd z hLG) (fun _ => ?_)
        unfold wY_node_116 wY_node_117
        exact br_t rfl ⟨rfl, R⟩
    · refine br_f (nI_nlt hl (by omega)) ?_
      unfold wpY_node
      exact br_f ho' (br_f (nI_nlt hl (by omega)) ⟨rfl, R⟩)
end
section
/-! count, view, into -/
theorem i_vc_count {k : Nat} {u : SX} {v : SY} (I : i_Rel k u v) (hk : k + 3 ≤ 1538) (v1 : Int32) : wpX_count (fun r => wpY_count (fun r' => r' = r ∧ i_Rel (k + 3) u v) v v1) u v1 := by
  refine gm_el (P := fun u v => wpX_count (fun r => wpY_count (fun r' => r' = r ∧ i_Rel (k + 3) u v) v v1) u v1) ?_ I
  intro lm D N st wn B bud fu q H b t0 t1 t2 t3 t4 fb im sp mark frames style ev pc env acc alloc out pres cur foc params first kinds values scopes child place cells orgs helds pend fT fN fE fM fD queue opn ycur yfoc depth res ysty fail fresh ready org num held part ath got size used yenv args hf
  have R : i_Rel (k + 3) (t0, t1, t2, t3, t4, fb, im, nI lm, nI D, nI st, nI wn, nI B, sp, mark, frames, style, ev, pc, env, acc, nI bud, nI fu, alloc, out, pres, cur, foc, nI q, params, first, kinds, values, scopes, child, place, cells, orgs, helds, pend, fT, fN, fE, fM, fD, queue) (nI lm, nI bud, nI st, nI D, opn, nI H, ycur, yfoc, nI q, nI fu, alloc, out, depth, res, ysty, fail, fresh, ready, kinds, values, params, first, org, num, held, part, queue, ath, got, size, used, yenv, args) := gm_in hf
  obtain ⟨n1, n2, n3, n4, n5, n6⟩ := gm_pi_n hf.1
  obtain ⟨f1, f2, f3, f4, f5⟩ := hf
  unfold wpX_count wpY_count
  dsimp only
  by_cases h0 : v1 = 0
  · subst h0
    exact br_f (by decide) (br_f (by decide) (br_t rfl (br_t rfl ⟨rfl, R⟩)))
  by_cases h1 : v1 = 1
  · subst h1
    exact br_f (by decide) (br_f (by decide) (br_f h0 (br_t rfl (br_f h0 (br_t rfl ⟨rfl, R⟩)))))
  by_cases h2 : v1 = 2
  · subst h2
    refine br_f (by decide) (br_f (by decide) (br_f h0 (br_f h1 (br_t rfl (br_f h0 (br_f h1 (br_t rfl ?_)))))))
    rcases f2 with ⟨ho, hw⟩ | ⟨ho, hw⟩
    · subst hw
      exact br_t ho ⟨rfl, R⟩
    · refine br_f (by rw [ho]; decide) ?_
      have hD := f1.1.2.2.2.2.2.1 hw
      have hb := (f1.1.2.2.2.2.2.2.2.2.2 D (Or.inr ⟨rfl, hw⟩)).1
      rw [f1.1.2.2.2.2.2.2.2.1] at hb
      obtain ⟨o1, o2, -⟩ := f1.2.2.2 hw
      exact gm_ywant (scopes := scopes) n3 n5 hD hb n4 (fun t a b => o2 t a (by omega)) (r := wn) (by omega) ⟨rfl, R⟩
  by_cases h3 : v1 = 3
  · subst h3
    refine br_f (by decide) (br_f (by decide) (br_f h0 (br_f h1 (br_f h2 (br_t rfl ?_)))))
    rcases f2 with ⟨ho, hw⟩ | ⟨ho, hw⟩
    · subst hw
      unfold wpX_placeScope
      exact br_t nI_0 (br_f h0 (br_f h1 (br_f h2 (br_t rfl (br_t ho ⟨rfl, R⟩)))))
    · obtain ⟨w1, s, s1, s2, s3, s4⟩ := gm_xps (t0 := t0) (t1 := t1) (t2 := t2) (t3 := t3) (t4 := t4) (fb := fb) (im := im) (blocks := nI B) (sp := sp) (mark := mark) (frames := frames) (style := style) (ev := ev) (pc := pc) (env := env) (acc := acc) (budget := nI bud) (fuel := nI fu) (alloc := alloc) (out := out) (pres := pres) (cur := cur) (foc := foc) (qd := nI q) (cells := cells) (orgs := orgs) (helds := helds) (pend := pend) (fT := fT) (fN := fN) (fE := fE) (fM := fM) (fD := fD) (queue := queue) f1 hw
      subst ho
      refine s4 _ (br_f h0 (br_f h1 (br_f h2 (br_t rfl (br_f (by decide) (gm_pi_yst f1 hw ?_))))))
      exact ⟨by rw [s2], R⟩
  by_cases h4 : v1 = 4
  · subst h4
    exact br_f (by decide) (br_f (by decide) (br_f h0 (br_f h1 (br_f h2 (br_f h3 (br_t rfl (br_f h0 (br_f h1 (br_f h2 (br_f h3 (br_t rfl ⟨rfl, R⟩)))))))))))
  by_cases h5 : v1 = 5
  · subst h5
    exact br_f (by decide) (br_f (by decide) (br_f h0 (br_f h1 (br_f h2 (br_f h3 (br_f h4 (br_t rfl (br_f h0 (br_f h1 (br_f h2 (br_f h3 (br_f h4 (br_t rfl ⟨rfl, R⟩)))))))))))))
  by_cases h6 : v1 = 6
  · subst h6
    exact br_f (by decide) (br_f (by decide) (br_f h0 (br_f h1 (br_f h2 (br_f h3 (br_f h4 (br_f h5 (br_t rfl (br_f h0 (br_f h1 (br_f h2 (br_f h3 (br_f h4 (br_f h5 (br_t rfl ⟨rfl, R⟩)))))))))))))))
  by_cases h7 : v1 = 7
  · subst h7
    exact br_f (by decide) (br_f (by decide) (br_f h0 (br_f h1 (br_f h2 (br_f h3 (br_f h4 (br_f h5 (br_f h6 (br_t rfl (br_f h0 (br_f h1 (br_f h2 (br_f h3 (br_f h4 (br_f h5 (br_f h6 (br_t rfl ⟨rfl, R⟩)))))))))))))))))
  · exact br_c (fun _ => br_f h0 (br_f h1 (br_f h2 (br_f h3 (br_f h4 (br_f h5 (br_f h6 (br_f h7 ⟨rfl, R⟩)))))))) (fun _ => br_c (fun _ => br_f h0 (br_f h1 (br_f h2 (br_f h3 (br_f h4 (br_f h5 (br_f h6 (br_f h7 ⟨rfl, R⟩)))))))) (fun _ => br_f h0 (br_f h1 (br_f h2 (br_f h3 (br_f h4 (br_f h5 (br_f h6 (br_f h7 trivial)))))))))
theorem i_vc_view {k : Nat} {u : SX} {v : SY} (I : i_Rel k u v) (hk : k + 3 ≤ 1538) (v1 : Int32) : wpX_view (fun r => wpY_view (fun r' => r' = r ∧ i_Rel (k + 3) u v) v v1) u v1 := by
  refine gm_el (P := fun u v => wpX_view (fun r => wpY_view (fun r' => r' = r ∧ i_Rel (k + 3) u v) v v1) u v1) ?_ I
  intro lm D N st wn B bud fu q H b t0 t1 t2 t3 t4 fb im sp mark frames style ev pc env acc alloc out pres cur foc params first kinds values scopes child place cells orgs helds pend fT fN fE fM fD queue opn ycur yfoc depth res ysty fail fresh ready org num held part ath got size used yenv args hf
  have R : i_Rel (k + 3) (t0, t1, t2, t3, t4, fb, im, nI lm, nI D, nI st, nI wn, nI B, sp, mark, frames, style, ev, pc, env, acc, nI bud, nI fu, alloc, out, pres, cur, foc, nI q, params, first, kinds, values, scopes, child, place, cells, orgs, helds, pend, fT, fN, fE, fM, fD, queue) (nI lm, nI bud, nI st, nI D, opn, nI H, ycur, yfoc, nI q, nI fu, alloc, out, depth, res, ysty, fail, fresh, ready, kinds, values, params, first, org, num, held, part, queue, ath, got, size, used, yenv, args) := gm_in hf
  obtain ⟨n1, n2, n3, n4, n5, n6⟩ := gm_pi_n hf.1
  obtain ⟨f1, f2, f3, f4, f5⟩ := hf
  unfold wpX_view wpY_view
  dsimp only
  rcases f5 with ⟨g1, g2⟩ | ⟨g1, g2, g3, g4, g5⟩
  · refine br_t g1 (br_c (fun h => br_f (by rw [g2]; decide) (br_t h ⟨rfl, R⟩)) (fun h => br_f (by rw [g2]; decide) (br_f h ⟨rfl, R⟩)))
  · obtain ⟨yc, yc1, yc2, -⟩ := gm_V_out g2
    have hyc : 0 ≤ ycur := by rw [yc2]; exact nI_pos' (by omega)
    obtain ⟨y, y1, y2, y3⟩ := gm_V_out g3
    have hv : vp_in (nI y) 512 := vp_in_nI (by omega) (by decide)
    refine br_f (by rw [g1]; decide) ?_
    subst y2
    rw [nI_clamp (show y < 2 ^ 31 by omega)]
    rcases y3 with ⟨e1, e2⟩ | ⟨bb, o, h, e1, e2, e3, e4, e5, e6, e7, e8, e9, e10, e11⟩
    · subst e2
      refine gm_xif_0 (br_t rfl ?_)
      rw [gm_enc_i]
      by_cases h0 : v1 = 0
      · subst h0
        exact br_f (by decide) (br_f (by decide) (br_t rfl (br_t hyc ⟨hv, nm_r e1 (br_t rfl (br_f (by decide) ⟨rfl, R⟩))⟩)))
      by_cases h1 : v1 = 1
      · subst h1
        exact br_f (by decide) (br_f (by decide) (br_f h0 (br_t rfl (br_t hyc ⟨hv, nm_r e1 (br_f h0 (br_t rfl ⟨hv, rfl, R⟩))⟩))))
      by_cases h2 : v1 = 2
      · subst h2
        exact br_f (by decide) (br_f (by decide) (br_f h0 (br_f h1 (br_t rfl (br_t hyc ⟨hv, nm_r e1 (br_f h0 (br_f h1 (br_t rfl ⟨rfl, R⟩)))⟩)))))
      · exact br_c (fun _ => br_t hyc ⟨hv, nm_r e1 (br_f h0 (br_f h1 (br_f h2 (br_f (by decide) ⟨rfl, R⟩))))⟩) (fun _ => br_c (fun _ => br_t hyc ⟨hv, nm_r e1 (br_f h0 (br_f h1 (br_f h2 (br_f (by decide) ⟨rfl, R⟩))))⟩) (fun _ => br_f h0 (br_f h1 (br_f h2 trivial))))
    · subst e2
      obtain ⟨o1, o2, o3, o4, o5, -⟩ := gm_pi_OK f1 e8
      have hvb : vp_in (nI bb) 512 := vp_in_nI (by omega) (by decide)
      have hno : 0 ≤ nI o := nI_pos' (by omega)
      refine gm_xif_1 (by omega) (br_f (by decide) ?_)
      rw [gm_fb_i (by omega)]
      unfold wpX_viewFunction
      dsimp only
      rw [nI_clamp (show bb < 2 ^ 31 by omega)]
      refine ⟨hvb, nm_r e3 ⟨hvb, nm_r e5 ?_⟩⟩
      by_cases h0 : v1 = 0
      · subst h0
        exact br_f (by decide) (br_f (by decide) (br_t rfl (br_t hyc ⟨hv, nm_r e4 (br_t rfl (br_t hno ⟨rfl, R⟩))⟩)))
      by_cases h1 : v1 = 1
      · subst h1
        exact br_f (by decide) (br_f (by decide) (br_f h0 (br_t rfl (br_t hyc ⟨hv, nm_r e4 (br_f h0 (br_t rfl ⟨hv, e7, R⟩))⟩))))
      by_cases h2 : v1 = 2
      · subst h2
        exact br_f (by decide) (br_f (by decide) (br_f h0 (br_f h1 (br_t rfl (br_t hyc ⟨hv, nm_r e4 (br_f h0 (br_f h1 (br_t rfl ⟨rfl, R⟩)))⟩)))))
      by_cases h3 : v1 = 3
      · subst h3
        refine br_f (by decide) (br_f (by decide) (br_f h0 (br_f h1 (br_f h2 (br_t rfl (gm_xpar o2 (br_t hyc ⟨hv, nm_r e4 (br_f h0 (br_f h1 (br_f h2 (br_t hno (br_t rfl (gm_ypar o2 ⟨hv, ?_, R⟩))))))⟩)))))))
        rw [e6]
      by_cases h4 : v1 = 4
      · subst h4
        exact br_f (by decide) (br_f (by decide) (br_f h0 (br_f h1 (br_f h2 (br_f h3 (br_t rfl (br_t hyc ⟨hv, nm_r e4 (br_f h0 (br_f h1 (br_f h2 (br_t hno (br_f h3 (br_t rfl ⟨hv, e6, R⟩))))))⟩)))))))
      by_cases h5 : v1 = 5
      · subst h5
        refine br_f (by decide) (br_f (by decide) (br_f h0 (br_f h1 (br_f h2 (br_f h3 (br_f h4 (br_t rfl (gm_xvar o2 (br_t hyc ⟨hv, nm_r e4 (br_f h0 (br_f h1 (br_f h2 (br_t hno (br_f h3 (br_f h4 (br_t rfl ⟨hv, gm_ykept o1 (fun h8 post hp => gm_pi_ysc f1 f2 ?_ hp) ⟨?_, R⟩⟩)))))))⟩)))))))))
        · rcases e8 with z | z
          · omega
          · exact z.2.1
        · rw [e6]
      · exact br_c (fun _ => br_t hyc ⟨hv, nm_r e4 (br_f h0 (br_f h1 (br_f h2 (br_t hno (br_f h3 (br_f h4 (br_f h5 ⟨rfl, R⟩)))))))⟩) (fun _ => br_c (fun _ => br_t hyc ⟨hv, nm_r e4 (br_f h0 (br_f h1 (br_f h2 (br_t hno (br_f h3 (br_f h4 (br_f h5 ⟨rfl, R⟩)))))))⟩) (fun _ => br_f h0 (br_f h1 (br_f h2 (br_f h3 (br_f h4 (br_f h5 trivial)))))))
theorem i_vc_into {k : Nat} {u : SX} {v : SY} (I : i_Rel k u v) (hk : k + 3 ≤ 1538) (v1 : Int32) : wpX_into (fun r u' => wpY_into (fun r' v' => r' = r ∧ i_Rel (k + 3) u' v') v v1) u v1 := by
  refine gm_el (P := fun u v => wpX_into (fun r u' => wpY_into (fun r' v' => r' = r ∧ i_Rel (k + 3) u' v') v v1) u v1) ?_ I
  intro lm D N st wn B bud fu q H b t0 t1 t2 t3 t4 fb im sp mark frames style ev pc env acc alloc out pres cur foc params first kinds values scopes child place cells orgs helds pend fT fN fE fM fD queue opn ycur yfoc depth res ysty fail fresh ready org num held part ath got size used yenv args hf
  have R : i_Rel (k + 3) (t0, t1, t2, t3, t4, fb, im, nI lm, nI D, nI st, nI wn, nI B, sp, mark, frames, style, ev, pc, env, acc, nI bud, nI fu, alloc, out, pres, cur, foc, nI q, params, first, kinds, values, scopes, child, place, cells, orgs, helds, pend, fT, fN, fE, fM, fD, queue) (nI lm, nI bud, nI st, nI D, opn, nI H, ycur, yfoc, nI q, nI fu, alloc, out, depth, res, ysty, fail, fresh, ready, kinds, values, params, first, org, num, held, part, queue, ath, got, size, used, yenv, args) := gm_in hf
  obtain ⟨n1, n2, n3, n4, n5, n6⟩ := gm_pi_n hf.1
  obtain ⟨f1, f2, f3, f4, f5⟩ := hf
  unfold wpX_into wpY_into
  dsimp only
  rcases f5 with ⟨g1, g2⟩ | ⟨g1, g2, g3, g4, g5⟩
  · exact br_t g1 (br_f (by rw [g2]; decide) ⟨rfl, R⟩)
  · obtain ⟨yc, yc1, yc2, -⟩ := gm_V_out g2
    have hyc : 0 ≤ ycur := by rw [yc2]; exact nI_pos' (by omega)
    obtain ⟨y, y1, y2, y3⟩ := gm_V_out g3
    have hv : vp_in (nI y) 512 := vp_in_nI (by omega) (by decide)
    refine br_f (by rw [g1]; decide) ?_
    subst y2
    rcases y3 with ⟨e1, e2⟩ | ⟨bb, o, h, e1, e2, e3, e4, e5, e6, e7, e8, e9, e10, e11⟩
    · subst e2
      refine gm_xif_0 (br_t rfl (br_t hyc (br_c (fun _ => ⟨rfl, R⟩) (fun hn => ?_))))
      unfold wpY_view
      dsimp only
      rw [nI_clamp (show y < 2 ^ 31 by omega)]
      exact br_t hyc ⟨hv, nm_r e1 (br_f (by decide) (br_f (by decide) (br_f (by decide) (br_f (by decide) (br_f hn ⟨rfl, R⟩)))))⟩
    · subst e2
      obtain ⟨o1, o2, o3, o4, o5, -⟩ := gm_pi_OK f1 e8
      have hvb : vp_in (nI bb) 512 := vp_in_nI (by omega) (by decide)
      have hno : 0 ≤ nI o := nI_pos' (by omega)
      have yv : ∀ post : Int32 → Prop, post (nI (h + gm_kp scopes o)) → wpY_view post (nI lm, nI bud, nI st, nI D, opn, nI H, ycur, nI y, nI q, nI fu, alloc, out, depth, res, ysty, fail, fresh, ready, kinds, values, params, first, org, num, held, part, queue, ath, got, size, used, yenv, args) 5 := by
        intro post hp
        unfold wpY_view
        dsimp only
        rw [nI_clamp (show y < 2 ^ 31 by omega)]
        refine br_t hyc ⟨hv, nm_r e4 (br_f (by decide) (br_f (by decide) (br_f (by decide) (br_t hno (br_f (by decide) (br_f (by decide) (br_t rfl ⟨hv, gm_ykept o1 (fun h8 post hp => gm_pi_ysc f1 f2 ?_ hp) ?_⟩)))))))⟩
        · rcases e8 with z | z
          · omega
          · exact z.2.1
        · rw [e6, nI_add]
          exact hp
      refine gm_xif_1 (by omega) (br_f (by decide) ?_)
      rw [gm_fb_i (by omega), nI_clamp (show bb < 2 ^ 31 by omega), e3, e5]
      refine ⟨hvb, hvb, gm_xvar o2 (nm_r (nI_add _ _) ?_)⟩
      rcases pk_ix v1 (n := h + gm_kp scopes o) (by omega) with hx | hx | ⟨i, hi, rfl⟩
      · exact br_t hx (br_t hyc (br_t hx ⟨rfl, R⟩))
      · have h0 : ¬ v1 < 0 := Int32.not_lt.mpr (Int32.le_trans (nI_pos' (by omega)) hx)
        exact br_f h0 (br_f (Int32.not_lt.mpr hx) (br_t hyc (br_f h0 (yv _ (br_f (Int32.not_lt.mpr hx) ⟨rfl, R⟩)))))
      · have h0 : ¬ nI i < 0 := nI_pos (by omega)
        have h1 : nI i < nI (h + gm_kp scopes o) := nI_lt hi (by omega)
        refine br_f h0 (br_t h1 ?_)
        rw [gm_m12, nI_clamp (show bb * 12 + i < 2 ^ 31 by omega)]
        refine ⟨vp_in_nI (by omega) (by decide), nm_e (br_t hyc (br_f h0 (yv _ (br_t h1 ?_))))⟩
        rw [gm_m16, nI_clamp (show y * 16 + i < 2 ^ 31 by omega)]
        exact ⟨vp_in_nI (by omega) (by decide), nm_e ⟨rfl, gm_in ⟨f1, f2, f3, f4, Or.inr ⟨g1, g2, e11 i hi, g4, g5⟩⟩⟩⟩
end
section
/-! run -/
def gm_sq (queue : Nat → Int32) : Nat → Nat → (Nat → Int64) → (Nat → Int64)
  | 0, _, p => p
  | k + 1, S, p => gm_sq queue k (S + 1) (vp_updL p S (gm_enc (queue k)))
theorem gm_sq_lo {queue : Nat → Int32} : ∀ (k S : Nat) (p : Nat → Int64) (j : Nat), j < S → gm_sq queue k S p j = p j
  | 0, _, _, _, _ => rfl
  | k + 1, S, p, j, h => by
    show gm_sq queue k (S + 1) (vp_updL p S (gm_enc (queue k))) j = p j
    rw [gm_sq_lo k (S + 1) _ j (by omega), pk_uLn (by omega)]
theorem gm_sq_at {queue : Nat → Int32} : ∀ (k S : Nat) (p : Nat → Int64) (j : Nat), j < k → gm_sq queue k S p (S + j) = gm_enc (queue (k - 1 - j))
  | 0, _, _, _, h => by omega
  | k + 1, S, p, 0, h => by
    show gm_sq queue k (S + 1) (vp_updL p S (gm_enc (queue k))) (S + 0) = _
    rw [gm_sq_lo k (S + 1) _ _ (by omega)]
    exact pk_uLs
  | k + 1, S, p, j + 1, h => by
    show gm_sq queue k (S + 1) (vp_updL p S (gm_enc (queue k))) (S + (j + 1)) = _
    rw [show S + (j + 1) = S + 1 + j by omega, gm_sq_at k (S + 1) _ j (by omega), show k + 1 - 1 - (j + 1) = k - 1 - j by omega]
def gm_fl (g : Nat → Int32) (off : Nat) : Nat → Nat → (Nat → Int32) → (Nat → Int32)
  | 0, _, f => f
  | n + 1, i, f => gm_fl g off n (i + 1) (upd f (off + i) (g i))
theorem gm_fl_lo {g : Nat → Int32} {off : Nat} : ∀ (n i : Nat) (f : Nat → Int32) (j : Nat), j < off + i → gm_fl g off n i f j = f j
  | 0, _, _, _, _ => rfl
  | n + 1, i, f, j, h => by
    show gm_fl g off n (i + 1) (upd f (off + i) (g i)) j = f j
    rw [gm_fl_lo n (i + 1) _ j (by omega), pk_un (by omega)]
theorem gm_fl_at {g : Nat → Int32} {off : Nat} : ∀ (n i : Nat) (f : Nat → Int32) (j : Nat), i ≤ j → j < i + n → gm_fl g off n i f (off + j) = g j
  | 0, _, _, _, h1, h2 => by omega
  | n + 1, i, f, j, h1, h2 => by
    show gm_fl g off n (i + 1) (upd f (off + i) (g i)) (off + j) = g j
    rcases Nat.lt_or_ge i j with z | z
    · exact gm_fl_at n (i + 1) _ j (by omega) (by omega)
    · have : j = i := by omega
      subst this
      rw [gm_fl_lo n (j + 1) _ _ (by omega), pk_us]
theorem gm_fl_P {P : Int32 → Prop} {g : Nat → Int32} {off : Nat} : ∀ (n i : Nat) (f : Nat → Int32), (∀ j, P (f j)) → (∀ j, i ≤ j → j < i + n → P (g j)) → ∀ j, P (gm_fl g off n i f j)
  | 0, _, _, h1, _, j => h1 j
  | n + 1, i, f, h1, h2, j => by
    refine gm_fl_P n (i + 1) (upd f (off + i) (g i)) (fun l => ?_) (fun l a b => h2 l (by omega) (by omega)) j
    by_cases z : l = off + i
    · subst z
      rw [pk_us]
      exact h2 i (Nat.le_refl _) (by omega)
    · rw [pk_un z]
      exact h1 l
section
variable {t0 t1 t2 t3 t4 : Int32} {fb im : Int64} {lim defs stored wanted blocks sp mark frames style ev pc env : Int32} {acc : Int64} {budget fuel alloc out pres : Int32} {cur foc : Int64} {qd : Int32} {params first kinds values scopes child place : Nat → Int32} {cells : Nat → Int64} {orgs helds : Nat → Int32} {pend : Nat → Int64} {fT fN fE fM fD queue : Nat → Int32}
theorem gm_xst32 {post : SX → Prop} : ∀ (k S : Nat) (pend : Nat → Int64), k ≤ 8 → S + k ≤ 512 → post (t0, t1, t2, t3, t4, fb, im, lim, defs, stored, wanted, blocks, nI (S + k), mark, frames, style, 0, 0, 0, cur, budget, fuel, alloc, out, pres, cur, foc, qd, params, first, kinds, values, scopes, child, place, cells, orgs, helds, gm_sq queue k S pend, fT, fN, fE, fM, fD, queue) → wX_start_32 post t0 t1 t2 t3 t4 fb im lim defs stored wanted blocks mark frames style ev pc env acc budget fuel alloc out pres cur foc qd (k + 1) (nI k - 1) (nI S) params first kinds values scopes child place cells orgs helds pend fT fN fE fM fD queue
  | 0, S, pend, hk, hS, h => br_t (by rw [nI_0]; decide) h
  | k + 1, S, pend, hk, hS, h => by
    rw [nI_pred]
    refine br_f (nI_pos (by omega)) ?_
    rw [nI_clamp (show k < 2 ^ 31 by omega), nI_clamp (show S < 2 ^ 31 by omega)]
    refine ⟨vp_in_nI (by omega) (by decide), vp_in_nI (by omega) (by decide), nm_e (nm_r (nI_1 _) (nm_r (e' := nI k - 1) (by rw [Int32.sub_eq_add_neg]) ?_))⟩
    refine gm_xst32 k (S + 1) (vp_updL pend S (gm_enc (queue k))) (by omega) (by omega) ?_
    rw [show S + 1 + k = S + (k + 1) by omega]
    exact h
theorem gm_xstart {post : SX → Prop} {q : Nat} {p0 : Int32} (hq : q ≤ 8) (h : post (t0, t1, t2, t3, t4, fb, im, lim, defs, stored, wanted, blocks, nI q, nI 0, nI 0, p0, 0, 0, 0, cur, budget, fuel, alloc, 0, pres, cur, foc, nI q, params, first, kinds, values, scopes, child, place, cells, orgs, helds, gm_sq queue q 0 pend, fT, fN, fE, fM, fD, queue)) : wpX_start post (t0, t1, t2, t3, t4, fb, im, lim, defs, stored, wanted, blocks, sp, mark, frames, style, ev, pc, env, acc, budget, fuel, alloc, out, pres, cur, foc, nI q, params, first, kinds, values, scopes, child, place, cells, orgs, helds, pend, fT, fN, fE, fM, fD, queue) p0 := by
  unfold wpX_start
  dsimp only
  refine nm_e ⟨q + 1, ?_⟩
  refine gm_xst32 q 0 pend hq (by omega) ?_
  rw [Nat.zero_add]
  exact h
end
section
variable {ylim yfuel ystored comp opn heap ycur yfoc ypend left yalloc yout depth res ysty fail fresh ready : Int32} {ykinds yvalues ar beg part yqueue ath got size used yenv : Nat → Int32}
theorem gm_yr93 {post : Int32 → SY → Prop} {H q : Nat} (hq : q ≤ 8) (hH : H + q ≤ 512) : ∀ (n i : Nat) (org num held args : Nat → Int32), i + n = q →
    (∃ n183 : Nat, wY_run_183 post n183 0 ylim yfuel ystored comp opn (nI (H + q)) ycur yfoc (nI q) left yalloc yout (nI 1) ycur ysty fail 0 1 ykinds yvalues ar beg (gm_fl (fun _ => -1) H n i org) (gm_fl yqueue H n i num) (gm_fl (fun _ => 0) H n i held) part yqueue (upd ath 0 (-1)) (upd got 0 (nI q)) (upd size 0 (nI q)) (upd used 0 0) yenv (gm_fl (fun l => nI (H + l)) 0 n i args)) → wY_run_93 post (n + 1) (nI i) ylim yfuel ystored comp opn (nI (H + i)) ycur yfoc (nI q) left yalloc yout depth res ysty fail fresh ready ykinds yvalues ar beg org num held part yqueue ath got size used yenv args
  | 0, i, org, num, held, args, hi, h => by
    have : i = q := by omega
    subst this
    exact br_t (nI_le (Nat.le_refl _) (by omega)) (nm_e (nm_e (nm_e (nm_e h))))
  | n + 1, i, org, num, held, args, hi, h => by
    refine br_f (nI_ge (by omega) (by omega)) ⟨vp_in_nI (by omega) (by decide), gm_ymake (by omega) ?_⟩
    dsimp only
    rw [nI_clamp (show i < 2 ^ 31 by omega)]
    refine ⟨vp_in_nI (by omega) (by decide), nm_r (e' := upd args (0 + i) (nI (H + i))) (by rw [Nat.zero_add]) (nm_r (nI_1 _) ?_)⟩
    exact gm_yr93 hq hH n (i + 1) (upd org (H + i) (-1)) (upd num (H + i) (yqueue i)) (upd held (H + i) 0) (upd args (0 + i) (nI (H + i))) (by omega) h
end
def gm_x77 (post : Int32 → SX → Prop) (u : SX) : Prop := match u with
  | (t0, t1, t2, t3, t4, fb, im, lim, defs, stored, wanted, blocks, sp, mark, frames, style, ev, pc, env, acc, budget, fuel, alloc, out, pres, cur, foc, qd, params, first, kinds, values, scopes, child, place, cells, orgs, helds, pend, fT, fN, fE, fM, fD, queue) => wX_run_77 post t0 t1 t2 t3 t4 fb im lim defs stored wanted blocks sp mark frames style ev pc env acc budget fuel alloc out pres cur foc qd params first kinds values scopes child place cells orgs helds pend fT fN fE fM fD queue
def gm_FP (k : Nat) (u' : SX) (v' : SY) : Prop := ∃ (r : Int32) (u'' : SX) (v'' : SY), i_Rel k u'' v'' ∧ (∀ post : Int32 → SX → Prop, post r u'' → gm_x77 post u') ∧ (∀ post : Int32 → SY → Prop, post r v'' → gm_y240 post v')
section
variable {t0 t1 t2 t3 t4 : Int32} {fb im : Int64} {lm D st wn sty bud : Nat} {pres : Int32} {cur foc : Int64} {qd : Int32} {params first kinds values scopes child place queue : Nat → Int32} {N : Nat} {opn ycur yfoc ypend yout : Int32} {b : Nat → Nat}
theorem gm_hff {k : Nat} (hPI : (gm_PI params first kinds values scopes child place lm D N st wn b)) (hop : gm_Opn opn wn) (hb1 : 24 ≤ bud) (hb2 : bud ≤ 200) : (gm_HFF (gm_FP k) t0 t1 t2 t3 t4 fb im lm D st wn sty (nI bud) pres cur foc qd params first kinds values scopes child place queue (nI lm) (nI bud) opn ycur yfoc ypend yout queue) := by
  intro B fu H oc sp mark frames ev pc env alloc depth res fresh ready acc cells pend orgs helds fT fN fE fM fD org num held part ath got size used yenv args c1 ho
  have h0 : ¬ oc = 0 := by rcases ho with z | z | z <;> rw [z] <;> decide
  have h1 : ¬ oc = 1 := by rcases ho with z | z | z <;> rw [z] <;> decide
  have h2 : ¬ oc = 2 := by rcases ho with z | z | z <;> rw [z] <;> decide
  refine ⟨oc, (t0, t1, t2, t3, t4, fb, im, nI lm, nI D, nI st, nI wn, nI B, sp, mark, frames, nI sty, ev, pc, env, acc, nI bud, nI fu, alloc, oc, 0, cur, foc, nI 0, params, first, kinds, values, scopes, child, place, cells, orgs, helds, pend, fT, fN, fE, fM, fD, queue), (nI lm, nI bud, nI st, nI D, opn, nI H, -1, -1, nI 0, nI fu, alloc, oc, depth, res, nI sty, oc, fresh, ready, kinds, values, params, first, org, num, held, part, queue, ath, got, size, used, yenv, args), ?_, fun post hp => ?_, fun post hp => ?_⟩
  · exact gm_in (q := 0) ⟨hPI, hop, c1, ⟨hb1, hb2, by omega⟩, Or.inl ⟨rfl, rfl⟩⟩
  · show wX_run_77 post t0 t1 t2 t3 t4 fb im (nI lm) (nI D) (nI st) (nI wn) (nI B) sp mark frames (nI sty) ev pc env acc (nI bud) (nI fu) alloc oc pres cur foc qd params first kinds values scopes child place cells orgs helds pend fT fN fE fM fD queue
    unfold wX_run_77
    refine br_f h1 (br_f h2 ?_)
    unfold wX_run_104
    exact ⟨narrow_b0, gm_f0, br_t rfl hp⟩
  · show wY_run_240 post (nI lm) (nI bud) (nI st) (nI D) opn (nI H) ycur yfoc ypend (nI fu) alloc yout depth res (nI sty) oc fresh ready kinds values params first org num held part queue ath got size used yenv args
    unfold wY_run_240
    refine br_f h0 ?_
    unfold wY_run_251
    refine br_f h0 ?_
    unfold wY_run_272
    exact br_f h0 hp
theorem gm_hfs {k : Nat} (hPI : (gm_PI params first kinds values scopes child place lm D N st wn b)) (hop : gm_Opn opn wn) (hb1 : 24 ≤ bud) (hb2 : bud ≤ 200) : (gm_HFS (gm_FP k) t0 t1 t2 t3 t4 fb im lm D st wn sty (nI bud) pres cur foc qd params first kinds values scopes child place queue N (nI lm) (nI bud) opn ycur yfoc ypend yout queue) := by
  intro B fu H sp mark frames pc env alloc yalloc res fresh out acc cells pend orgs helds fT fN fE fM fD org num held part ath got size used yenv args c1 hV hal hB hH ho
  obtain ⟨y, y1, y2, y3⟩ := gm_V_out hV
  have hout : out = 1 ∨ out = 2 := by
    rcases ho with ⟨-, z⟩ | ⟨-, z⟩
    · exact Or.inl z
    · exact Or.inr z
  refine ⟨out, (t0, t1, t2, t3, t4, fb, im, nI lm, nI D, nI st, nI wn, nI B, sp, mark, frames, nI sty, 0, pc, env, acc, nI bud, nI fu, alloc, out, 1, acc, acc, nI 0, params, first, kinds, values, scopes, child, place, cells, orgs, helds, pend, fT, fN, fE, fM, fD, queue), (nI lm, nI bud, nI st, nI D, opn, nI H, res, res, nI 0, nI fu, alloc, out, nI 0, res, nI sty, 0, 0, 1, kinds, values, params, first, org, num, held, part, queue, ath, got, size, used, yenv, args), ?_, fun post hp => ?_, fun post hp => ?_⟩
  · exact gm_in (q := 0) ⟨hPI, hop, c1, ⟨hb1, hb2, by omega⟩, Or.inr ⟨rfl, hV, hV, hB, hH⟩⟩
  · show wX_run_77 post t0 t1 t2 t3 t4 fb im (nI lm) (nI D) (nI st) (nI wn) (nI B) sp mark frames (nI sty) 0 pc env acc (nI bud) (nI fu) alloc out pres cur foc qd params first kinds values scopes child place cells orgs helds pend fT fN fE fM fD queue
    unfold wX_run_77
    have h99 : wX_run_99 post t0 t1 t2 t3 t4 fb im (nI lm) (nI D) (nI st) (nI wn) (nI B) sp mark frames (nI sty) 0 pc env acc (nI bud) (nI fu) alloc out pres cur foc 0 params first kinds values scopes child place cells orgs helds pend fT fN fE fM fD queue := by
      unfold wX_run_99 wX_run_104
      exact ⟨narrow_b1, gm_f1, br_f (by decide) hp⟩
    rcases hout with z | z
    · exact br_t z h99
    · exact br_f (by rw [z]; decide) (br_t z h99)
  · show wY_run_240 post (nI lm) (nI bud) (nI st) (nI D) opn (nI H) ycur yfoc ypend (nI fu) yalloc yout (nI 0) res (nI sty) 0 fresh 1 kinds values params first org num held part queue ath got size used yenv args
    unfold wY_run_240
    refine br_t rfl (gm_yarr ?_)
    dsimp only
    rw [← hal]
    unfold wY_run_251
    refine br_t rfl ?_
    unfold wY_run_272
    refine br_t rfl ?_
    subst y2
    rw [nI_clamp (show y < 2 ^ 31 by omega)]
    refine ⟨vp_in_nI (by omega) (by decide), ?_⟩
    rcases y3 with ⟨e1, e2⟩ | ⟨bb, o, hh, e1, e2, -, e4, -, -, -, e8, -⟩
    · have hz : out = 1 := by
        rcases ho with ⟨-, z⟩ | ⟨⟨b2, z1, z2⟩, -⟩
        · exact z
        · rw [e2] at z2
          exact absurd z2 (gm_enc_ne (by omega))
      subst hz
      rw [e1]
      exact br_f (by decide) hp
    · have hz : out = 2 := by
        rcases ho with ⟨⟨z1, z2⟩, -⟩ | ⟨-, z⟩
        · rw [z2] at e2
          exact absurd e2 (gm_enc_ne (by omega))
        · exact z
      subst hz
      have := (gm_pi_OK hPI e8).1
      rw [e4]
      exact br_t (nI_pos' (by omega)) hp
end
theorem gm_run11 {k : Nat} {lm D N st wn B bud fu q H : Nat} {b : Nat → Nat} {t0 t1 t2 t3 t4 : Int32} {fb im : Int64} {sp mark frames style ev pc env : Int32} {acc : Int64} {alloc out pres : Int32} {cur foc : Int64} {params first kinds values scopes child place : Nat → Int32} {cells : Nat → Int64} {orgs helds : Nat → Int32} {pend : Nat → Int64} {fT fN fE fM fD queue : Nat → Int32} {opn ycur yfoc depth res ysty fail fresh ready : Int32} {org num held part ath got size used yenv args : Nat → Int32} {sty : Nat} (hsty : sty ≤ 1) (hf : (gm_RF lm D N st wn B bud fu q H b pres cur foc params first kinds values scopes child place cells orgs helds opn ycur yfoc org num held part args)) (yrun : ∀ post : Int32 → SY → Prop, wY_run_11 post (nI sty) (nI lm) (nI bud) (nI st) (nI D) opn (nI H) ycur yfoc (nI q) (nI fu) alloc out depth res ysty fail fresh ready kinds values params first org num held part queue ath got size used yenv args → wpY_run post (nI lm, nI bud, nI st, nI D, opn, nI H, ycur, yfoc, nI q, nI fu, alloc, out, depth, res, ysty, fail, fresh, ready, kinds, values, params, first, org, num, held, part, queue, ath, got, size, used, yenv, args) (nI sty)) :
    wX_run_11 (fun r u' => wpY_run (fun r' v' => r' = r ∧ i_Rel (k + 3) u' v') (nI lm, nI bud, nI st, nI D, opn, nI H, ycur, yfoc, nI q, nI fu, alloc, out, depth, res, ysty, fail, fresh, ready, kinds, values, params, first, org, num, held, part, queue, ath, got, size, used, yenv, args) (nI sty)) (nI sty) t0 t1 t2 t3 t4 fb im (nI lm) (nI D) (nI st) (nI wn) (nI B) sp mark frames style ev pc env acc (nI bud) (nI fu) alloc out pres cur foc (nI q) params first kinds values scopes child place cells orgs helds pend fT fN fE fM fD queue := by
  have R : i_Rel (k + 3) (t0, t1, t2, t3, t4, fb, im, nI lm, nI D, nI st, nI wn, nI B, sp, mark, frames, style, ev, pc, env, acc, nI bud, nI fu, alloc, out, pres, cur, foc, nI q, params, first, kinds, values, scopes, child, place, cells, orgs, helds, pend, fT, fN, fE, fM, fD, queue) (nI lm, nI bud, nI st, nI D, opn, nI H, ycur, yfoc, nI q, nI fu, alloc, out, depth, res, ysty, fail, fresh, ready, kinds, values, params, first, org, num, held, part, queue, ath, got, size, used, yenv, args) := gm_in hf
  obtain ⟨n1, n2, n3, n4, n5, n6⟩ := gm_pi_n hf.1
  obtain ⟨f1, f2, f3, ⟨f4, f6, f7⟩, f5⟩ := hf
  unfold wX_run_11
  rcases f5 with ⟨g1, g2⟩ | ⟨g1, g2, g3, g4, g5⟩
  · refine br_t g1 (yrun _ ?_)
    unfold wY_run_11
    exact br_f (by rw [g2]; decide) ⟨rfl, R⟩
  · obtain ⟨yc, yc1, yc2, -⟩ := gm_V_out g2
    have hyc : 0 ≤ ycur := by rw [yc2]; exact nI_pos' (by omega)
    have hB := f3.1
    refine br_f (by rw [g1]; decide) ?_
    rcases Nat.eq_zero_or_pos q with z | z
    · subst z
      refine br_t nI_0 (yrun _ ?_)
      unfold wY_run_11
      exact br_t hyc (br_t nI_0 ⟨rfl, R⟩)
    · refine br_f (nI_ne0 z (by omega)) ?_
      rcases Nat.lt_or_ge fu q with hl | hl
      · refine br_f (nI_ge hl (by omega)) ?_
        unfold wX_run_77
        refine br_f (by decide) (br_f (by decide) ?_)
        unfold wX_run_104
        refine ⟨narrow_b0, gm_f0, br_t rfl (yrun _ ?_)⟩
        unfold wY_run_11
        refine br_t hyc (br_f (nI_ne0 z (by omega)) (br_f (nI_ge hl (by omega)) ?_))
        unfold wY_run_53
        refine br_f (nI_ge hl (by omega)) ?_
        unfold wY_run_81
        refine br_f (by decide) ?_
        unfold wY_run_251
        refine br_f (by decide) ?_
        unfold wY_run_272
        refine br_f (by decide) ⟨rfl, ?_⟩
        exact gm_in (fu := 0) (q := 0) ⟨f1, f2, f3, ⟨f4, f6, by omega⟩, Or.inl ⟨rfl, rfl⟩⟩
      · have hle : nI q ≤ nI fu := nI_le hl (by omega)
        have hagY : gm_agY H org num held part (gm_fl (fun _ => -1) H q 0 org) (gm_fl queue H q 0 num) (gm_fl (fun _ => 0) H q 0 held) part := ⟨fun y hy => ⟨gm_fl_lo _ _ _ _ (by omega), gm_fl_lo _ _ _ _ (by omega), gm_fl_lo _ _ _ _ (by omega)⟩, fun _ _ => rfl⟩
        have sg : gm_Sg (gm_FP (k + 3)) 0 0 (t0, t1, t2, t3, t4, fb, im, nI lm, nI D, nI st, nI wn, nI B, nI q, nI 0, nI 0, nI sty, 0, 0, 0, cur, nI bud, nI (fu - q), alloc, 0, pres, cur, foc, nI q, params, first, kinds, values, scopes, child, place, cells, orgs, helds, gm_sq queue q 0 pend, fT, fN, fE, fM, fD, queue) (nI lm, nI bud, nI st, nI D, opn, nI (H + q), ycur, yfoc, nI q, nI (fu - q), alloc, out, nI 1, ycur, nI sty, 0, 0, 1, kinds, values, params, first, gm_fl (fun _ => -1) H q 0 org, gm_fl queue H q 0 num, gm_fl (fun _ => 0) H q 0 held, part, queue, upd ath 0 (-1), upd got 0 (nI q), upd size 0 (nI q), upd used 0 0, yenv, gm_fl (fun l => nI (H + l)) 0 q 0 args) := by
          refine (gm_sim f1 f2 hsty (gm_hff f1 f2 f4 f6) (gm_hfs f1 f2 f4 f6) 1500).2.1 (S := q) (M := 0) (F := 0) (d := 1) (by omega) ⟨⟨hB, f3.2.1, ?_⟩, ⟨0, 0, 0, ⟨rfl, rfl, rfl⟩, fun _ => rfl, Or.inr (Or.inr ⟨q, 0, f7, by omega, Or.inl pk_us, pk_us, pk_us, pk_us, by omega, fun jj hj => ?_, Or.inl ⟨rfl, rfl⟩⟩)⟩, gm_VX gm_agX_r hagY (Nat.le_refl _) (by omega) g2, ⟨gm_arr0.symm, fun _ => Or.inl rfl⟩, by omega, by omega, by omega, by omega, by omega⟩
          · exact gm_fl_P (P := fun x => vp_in x 512) q 0 args f3.2.2 (fun jj a c => vp_in_nI (by omega) (by decide))
          · have e1 := gm_fl_at (g := fun l => nI (H + l)) (off := 0) q 0 args (q - 1 - jj) (by omega) (by omega)
            have e2 := gm_sq_at (queue := queue) q 0 pend jj (by omega)
            have e3 := gm_fl_at (g := fun _ => -1) (off := H) q 0 org (q - 1 - jj) (by omega) (by omega)
            have e4 := gm_fl_at (g := queue) (off := H) q 0 num (q - 1 - jj) (by omega) (by omega)
            rw [show 0 * 8 + (q - 1 - jj) = 0 + (q - 1 - jj) by omega, e1, e2]
            refine gm_V_in ⟨H + (q - 1 - jj), by omega, rfl, Or.inl ⟨e3, ?_⟩⟩
            rw [e4]
        obtain ⟨u', v', nX, nY, ⟨r, u'', v'', hR, hx7, hy7⟩, hX, hY⟩ := sg
        refine br_t hle (nm_r (pk_sub hl) (gm_xstart f7 ?_))
        dsimp only
        unfold wpX_execute
        refine ⟨nX, hX _ (hx7 _ (yrun _ ?_))⟩
        unfold wY_run_11
        refine br_t hyc (br_f (nI_ne0 z (by omega)) (br_t hle ?_))
        unfold wY_run_53
        refine br_t hle ?_
        unfold wY_run_81
        refine br_t rfl ⟨q + 1, ?_⟩
        rw [pk_sub hl]
        refine gm_yr93 f7 (by omega) q 0 org num held args (by omega) ⟨nY, ?_⟩
        exact hY _ (hy7 _ ⟨rfl, hR⟩)
theorem i_vc_run {k : Nat} {u : SX} {v : SY} (I : i_Rel k u v) (hk : k + 3 ≤ 1538) (v1 : Int32) : wpX_run (fun r u' => wpY_run (fun r' v' => r' = r ∧ i_Rel (k + 3) u' v') v v1) u v1 := by
  refine gm_el (P := fun u v => wpX_run (fun r u' => wpY_run (fun r' v' => r' = r ∧ i_Rel (k + 3) u' v') v v1) u v1) ?_ I
  intro lm D N st wn B bud fu q H b t0 t1 t2 t3 t4 fb im sp mark frames style ev pc env acc alloc out pres cur foc params first kinds values scopes child place cells orgs helds pend fT fN fE fM fD queue opn ycur yfoc depth res ysty fail fresh ready org num held part ath got size used yenv args hf
  have R : i_Rel (k + 3) (t0, t1, t2, t3, t4, fb, im, nI lm, nI D, nI st, nI wn, nI B, sp, mark, frames, style, ev, pc, env, acc, nI bud, nI fu, alloc, out, pres, cur, foc, nI q, params, first, kinds, values, scopes, child, place, cells, orgs, helds, pend, fT, fN, fE, fM, fD, queue) (nI lm, nI bud, nI st, nI D, opn, nI H, ycur, yfoc, nI q, nI fu, alloc, out, depth, res, ysty, fail, fresh, ready, kinds, values, params, first, org, num, held, part, queue, ath, got, size, used, yenv, args) := gm_in hf
  unfold wpX_run
  dsimp only
  by_cases h0 : v1 = 0
  · subst h0
    refine br_t rfl ?_
    refine gm_run11 (sty := 0) (by omega) hf (fun post hp => ?_)
    unfold wpY_run
    exact br_t rfl hp
  by_cases h1 : v1 = 1
  · subst h1
    refine br_f h0 (br_t rfl ?_)
    refine gm_run11 (sty := 1) (by omega) hf (fun post hp => ?_)
    unfold wpY_run
    exact br_f h0 (br_t rfl hp)
  · refine br_f h0 (br_f h1 ?_)
    unfold wpY_run
    exact br_f h0 (br_f h1 ⟨rfl, R⟩)
end
