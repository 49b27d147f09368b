section
/-! pure rows to paste: stores, nI and lN arithmetic, masks, shifts, narrowing, branches by naturals (pk_le, pk_lt, pk_eq), loops (lp1 .. lp16: the measure of the state; rp1 ..: recursion), negatives. Take what you need -/
theorem pk_us {f : Nat → Int32} {k : Nat} {x : Int32} : upd f k x k = x := if_pos rfl
theorem pk_un {f : Nat → Int32} {k j : Nat} {x : Int32} (h : j ≠ k) : upd f k x j = f j := if_neg h
theorem pk_uLs {f : Nat → Int64} {k : Nat} {x : Int64} : vp_updL f k x k = x := if_pos rfl
theorem pk_uLn {f : Nat → Int64} {k j : Nat} {x : Int64} (h : j ≠ k) : vp_updL f k x j = f j := if_neg h
theorem pk_sub {a b : Nat} (h : b ≤ a) : nI a - nI b = nI (a - b) := by
  obtain ⟨c, rfl⟩ : ∃ c, a = c + b := ⟨a - b, by omega⟩
  rw [← nI_add, Int32.add_sub_cancel, Nat.add_sub_cancel]
theorem pk_m1 (n : Nat) : nI (n + 1) + (-1) = nI n := by
  rw [← nI_1, Int32.add_assoc, show (1 : Int32) + (-1) = 0 from rfl, Int32.add_zero]
theorem pk_mul (a b : Nat) : nI a * nI b = nI (a * b) := (Int32.ofNat_mul a b).symm
theorem pk_div {a d : Nat} (ha : a < 2 ^ 31) (h0 : 0 < d) (hd : d < 2 ^ 31) : nI a / nI d = nI (a / d) := by
  apply Int32.toInt_inj.mp
  rw [lg_idiv_nonneg (by rw [nI_toInt ha]; omega) (by rw [nI_toInt hd]; omega), nI_toInt ha, nI_toInt hd, nI_toInt (Nat.lt_of_le_of_lt (Nat.div_le_self a d) ha)]
  first | rfl | exact (Int.natCast_ediv _ _).symm
theorem pk_rem {a d : Nat} (ha : a < 2 ^ 31) (h0 : 0 < d) (hd : d < 2 ^ 31) : nI a - nI a / nI d * nI d = nI (a % d) := by
  rw [pk_div ha h0 hd, pk_mul, pk_sub (Nat.div_mul_le_self a d)]
  exact congrArg nI (by have := Nat.div_add_mod' a d; omega)
theorem pk_sub_toInt {a b : Nat} (ha : a < 2 ^ 30) (hb : b < 2 ^ 30) : (nI a - nI b).toInt = (a : Int) - b := by
  rw [Int32.toInt_sub, nI_toInt (by omega), nI_toInt (by omega)]
  exact Int.bmod_eq_of_le (by omega) (by omega)
theorem pk_sneg {a b : Nat} (hb : b < 2 ^ 30) (h : a < b) : nI a - nI b < 0 := by
  rw [Int32.lt_iff_toInt_lt, pk_sub_toInt (by omega) hb, show (0 : Int32).toInt = 0 from by decide]
  omega
theorem pk_ix (x : Int32) {n : Nat} (hn : n < 2 ^ 31) : x < 0 ∨ nI n ≤ x ∨ ∃ j : Nat, j < n ∧ x = nI j := by
  by_cases h : x < 0
  · exact Or.inl h
  · obtain ⟨j, hj, rfl⟩ := nI_of h
    by_cases h2 : j < n
    · exact Or.inr (Or.inr ⟨j, h2, rfl⟩)
    · exact Or.inr (Or.inl (nI_le (by omega) hj))
theorem pk_le {x y : Int32} {A B : Prop} (a b : Nat) (f : a ≤ b → A) (g : b < a → B) (hx : x = nI a := by rfl) (hy : y = nI b := by rfl) (ha : a < 2 ^ 31 := by omega) (hb : b < 2 ^ 31 := by omega) : (x ≤ y → A) ∧ (¬ x ≤ y → B) := by
  subst hx hy
  rw [nI_leI ha hb]
  exact ⟨f, fun z => g (by omega)⟩
theorem pk_lt {x y : Int32} {A B : Prop} (a b : Nat) (f : a < b → A) (g : b ≤ a → B) (hx : x = nI a := by rfl) (hy : y = nI b := by rfl) (ha : a < 2 ^ 31 := by omega) (hb : b < 2 ^ 31 := by omega) : (x < y → A) ∧ (¬ x < y → B) := by
  subst hx hy
  rw [nI_ltI ha hb]
  exact ⟨f, fun z => g (by omega)⟩
theorem pk_eq {x y : Int32} {A B : Prop} (a b : Nat) (f : a = b → A) (g : a ≠ b → B) (hx : x = nI a := by rfl) (hy : y = nI b := by rfl) (ha : a < 2 ^ 31 := by omega) (hb : b < 2 ^ 31 := by omega) : (x = y → A) ∧ (¬ x = y → B) := by
  subst hx hy
  rw [nI_eq ha hb]
  exact ⟨f, g⟩
theorem pk_in {x : Int32} (n N : Nat) (h : n < N) (hx : x = nI n := by rfl) (hN : N < 2 ^ 31 := by omega) : vp_in x N := by
  subst hx
  exact vp_in_nI h hN
theorem pk_cl {x : Int32} (n : Nat) (hx : x = nI n := by rfl) (h : n < 2 ^ 31 := by omega) : x.toNatClampNeg = n := by
  subst hx
  exact nI_clamp h
theorem pk_tn {n : Nat} (h : n < 2 ^ 32) : (nI n).toBitVec.toNat = n := Nat.mod_eq_of_lt h
theorem pk_and (x : Int32) {m : Int32} (k : Nat) (hm : m.toBitVec.toNat = 2 ^ k - 1) : x &&& m = nI (x.toBitVec.toNat % 2 ^ k) := by
  apply Int32.toBitVec_inj.mp
  apply BitVec.eq_of_toNat_eq
  rw [Int32.toBitVec_and, BitVec.toNat_and, hm, Nat.and_two_pow_sub_one_eq_mod]
  show _ = (BitVec.ofNat 32 _).toNat
  rw [BitVec.toNat_ofNat]
  exact (Nat.mod_eq_of_lt (Nat.lt_of_le_of_lt (Nat.mod_le _ _) x.toBitVec.isLt)).symm
theorem pk_andN {n : Nat} (h : n < 2 ^ 32) {m : Int32} (k : Nat) (hm : m.toBitVec.toNat = 2 ^ k - 1) : nI n &&& m = nI (n % 2 ^ k) := by
  rw [pk_and _ k hm, pk_tn h]
theorem pk_andE (x : Int32) {m : Int32} (k : Nat) (hm : m.toBitVec.toNat = 2 ^ k - 1) : ∃ j : Nat, j < 2 ^ k ∧ x &&& m = nI j := ⟨_, Nat.mod_lt _ (Nat.two_pow_pos k), pk_and x k hm⟩
theorem pk_andIn (x : Int32) {m : Int32} (k : Nat) (hm : m.toBitVec.toNat = 2 ^ k - 1) (hk : k ≤ 30) : vp_in (x &&& m) (2 ^ k) := by
  obtain ⟨j, hj, e⟩ := pk_andE x k hm
  rw [e]
  exact vp_in_nI hj (Nat.lt_of_le_of_lt (Nat.pow_le_pow_right (by decide) hk) (by decide))
theorem pk_shl (a s : Int32) (k : Nat) (hs : (s.toBitVec.smod 32).toNat = k) : (a <<< s).toBitVec.toNat = a.toBitVec.toNat * 2 ^ k % 2 ^ 32 := by
  show (a.toBitVec <<< (s.toBitVec.smod 32).toNat).toNat = _
  rw [hs, BitVec.toNat_shiftLeft, Nat.shiftLeft_eq]
theorem pk_shlN {n : Nat} (s : Int32) (k : Nat) (hs : (s.toBitVec.smod 32).toNat = k) (h : n * 2 ^ k < 2 ^ 32) : nI n <<< s = nI (n * 2 ^ k) := by
  apply Int32.toBitVec_inj.mp
  apply BitVec.eq_of_toNat_eq
  have hn : n < 2 ^ 32 := Nat.lt_of_le_of_lt (Nat.le_mul_of_pos_right n (Nat.two_pow_pos k)) h
  rw [pk_shl _ _ k hs, pk_tn hn, pk_tn h, Nat.mod_eq_of_lt h]
theorem pk_shr (a s : Int32) (k : Nat) (hs : (s.toBitVec.smod 32).toNat = k) : (a >>> s).toInt = a.toInt >>> k := by
  show (a.toBitVec.sshiftRight (s.toBitVec.smod 32).toNat).toInt = _
  rw [hs, BitVec.toInt_sshiftRight]
  rfl
theorem pk_shrN {n : Nat} (h : n < 2 ^ 31) (s : Int32) (k : Nat) (hs : (s.toBitVec.smod 32).toNat = k) : nI n >>> s = nI (n / 2 ^ k) := by
  apply Int32.toInt_inj.mp
  have h2 : n / 2 ^ k ≤ n := Nat.div_le_self _ _
  rw [pk_shr _ _ k hs, nI_toInt h, nI_toInt (by omega), Int.shiftRight_eq_div_pow]
  rfl
theorem pk_ushr (x s : Int32) (k : Nat) (hs : ((s.toUInt32 &&& Int32.toUInt32 31).toBitVec % 32).toNat = k) : (x.toUInt32 >>> (s.toUInt32 &&& Int32.toUInt32 31)).toInt32.toBitVec.toNat = x.toBitVec.toNat / 2 ^ k := by
  have e : (x.toUInt32 >>> (s.toUInt32 &&& Int32.toUInt32 31)).toInt32.toBitVec = x.toBitVec >>> k := by
    rw [← hs]
    exact UInt32.toBitVec_shiftRight _ _
  rw [e, BitVec.toNat_ushiftRight, Nat.shiftRight_eq_div_pow]
theorem pk_ushrN {n : Nat} (hn : n < 2 ^ 32) (s : Int32) (k : Nat) (hs : ((s.toUInt32 &&& Int32.toUInt32 31).toBitVec % 32).toNat = k) : ((nI n).toUInt32 >>> (s.toUInt32 &&& Int32.toUInt32 31)).toInt32 = nI (n / 2 ^ k) := by
  apply Int32.toBitVec_inj.mp
  apply BitVec.eq_of_toNat_eq
  rw [pk_ushr _ s k hs, pk_tn hn, pk_tn (Nat.lt_of_le_of_lt (Nat.div_le_self _ _) hn)]
theorem pk_nb (z : Int32) : narrow .byte (.int z.toInt8.toInt32) = .int z.toInt8.toInt32 := congrArg Value.int (by simp)
theorem pk_ns (z : Int32) : narrow .short (.int z.toInt16.toInt32) = .int z.toInt16.toInt32 := congrArg Value.int (by simp)
theorem pk_fb (r : Int32) : fits .byte (.int r.toInt8.toInt32) = true := by
  have ⟨a, b⟩ := lg_i2b_range r
  have h1 : (-128 : Int32).toInt = -128 := by decide
  have h2 : (127 : Int32).toInt = 127 := by decide
  simp only [fits, Bool.and_eq_true, decide_eq_true_eq, Int32.le_iff_toInt_le, h1, h2]
  omega
theorem pk_fs (r : Int32) : fits .short (.int r.toInt16.toInt32) = true := by
  have ⟨a, b⟩ := lg_i2s_range r
  have h1 : (-32768 : Int32).toInt = -32768 := by decide
  have h2 : (32767 : Int32).toInt = 32767 := by decide
  simp only [fits, Bool.and_eq_true, decide_eq_true_eq, Int32.le_iff_toInt_le, h1, h2]
  omega
theorem pk_charN {q : Nat} (hq : q < 65536) : narrow .char (.int (nI q)) = .int (nI q) ∧ fits .char (.int (nI q)) = true := by
  constructor
  · have e : (nI q).toUInt32.toUInt16.toUInt32.toInt32 = nI q := by
      apply Int32.toBitVec_inj.mp
      apply BitVec.eq_of_toNat_eq
      show (nI q).toUInt32.toUInt16.toUInt32.toNat = q % 2 ^ 32
      rw [UInt16.toNat_toUInt32, UInt32.toNat_toUInt16, show (nI q).toUInt32.toNat = q % 2 ^ 32 from rfl]
      omega
    exact congrArg Value.int e
  · have a : (0 : Int32) ≤ nI q := nI_pos' (by omega)
    have b : nI q ≤ 65535 := nI_le (b := 65535) (by omega) (by decide)
    show (decide ((0 : Int32) ≤ nI q) && decide (nI q ≤ 65535)) = true
    rw [decide_eq_true a, decide_eq_true b]
    rfl
theorem pk_char (x : Int32) : (x.toUInt32 % 65536).toInt32 = nI (x.toBitVec.toNat % 65536) := by
  apply Int32.toBitVec_inj.mp
  apply BitVec.eq_of_toNat_eq
  rw [pk_tn (by omega)]
  show (x.toUInt32 % 65536).toNat = _
  rw [UInt32.toNat_mod]
  rfl
theorem pk_nc (x : Int32) : narrow .char (.int (x.toUInt32 % 65536).toInt32) = .int (x.toUInt32 % 65536).toInt32 := by
  rw [pk_char]
  exact (pk_charN (Nat.mod_lt _ (by decide))).1
theorem pk_fc (x : Int32) : fits .char (.int (x.toUInt32 % 65536).toInt32) = true := by
  rw [pk_char]
  exact (pk_charN (Nat.mod_lt _ (by decide))).2
theorem pk_vb (z : Int32) : vp_nar .byte z.toInt8.toInt32 = z.toInt8.toInt32 := by rw [vp_nar_byte]; simp
theorem pk_vs (z : Int32) : vp_nar .short z.toInt16.toInt32 = z.toInt16.toInt32 := by rw [vp_nar_short]; simp
theorem pk_vc (z : Int32) : vp_nar .char (z.toUInt32 % 65536).toInt32 = (z.toUInt32 % 65536).toInt32 := Value.int.inj (pk_nc z)
theorem pk_lT {n : Nat} (h : n < 2 ^ 63) : (lN n).toInt = (n : Int) := lg_ofNat_toInt h
theorem pk_lLT {a b : Nat} (ha : a < 2 ^ 63) (hb : b < 2 ^ 63) : lN a < lN b ↔ a < b := by
  rw [Int64.lt_iff_toInt_lt, pk_lT ha, pk_lT hb]; omega
theorem pk_lLE {a b : Nat} (ha : a < 2 ^ 63) (hb : b < 2 ^ 63) : lN a ≤ lN b ↔ a ≤ b := by
  rw [Int64.le_iff_toInt_le, pk_lT ha, pk_lT hb]; omega
theorem pk_lEQ {a b : Nat} (ha : a < 2 ^ 63) (hb : b < 2 ^ 63) : lN a = lN b ↔ a = b := by
  rw [← Int64.toInt_inj, pk_lT ha, pk_lT hb]; omega
theorem pk_lOf {x : Int64} (h : ¬ x < 0) : ∃ k : Nat, k < 2 ^ 63 ∧ x = lN k := by
  rw [Int64.lt_iff_toInt_lt] at h
  have h0 : (0 : Int64).toInt = 0 := by decide
  have hx := Int64.toInt_lt x
  refine ⟨x.toInt.toNat, by omega, Int64.toInt_inj.mp ?_⟩
  rw [pk_lT (by omega)]
  omega
theorem pk_lDiv {a b : Nat} (ha : a < 2 ^ 63) (h0 : 0 < b) (hb : b < 2 ^ 63) : lN a / lN b = lN (a / b) := by
  apply Int64.toInt_inj.mp
  rw [lg_ldiv_nonneg (by rw [pk_lT ha]; omega) (by rw [pk_lT hb]; omega), pk_lT ha, pk_lT hb, pk_lT (Nat.lt_of_le_of_lt (Nat.div_le_self a b) ha)]
  rfl
theorem pk_lRem {a b : Nat} (ha : a < 2 ^ 63) (h0 : 0 < b) (hb : b < 2 ^ 63) : lN a - lN a / lN b * lN b = lN (a % b) := by
  rw [pk_lDiv ha h0 hb, lN_mul, lN_sub (Nat.div_mul_le_self a b)]
  exact congrArg lN (by have := Nat.div_add_mod' a b; omega)
theorem pk_loop {σ : Type} (W : Nat → Nat → σ → Prop) (I : Nat → σ → Prop) (e i0 : Nat) (s : σ) (hi : i0 ≤ e) (h0 : I i0 s) (hx : ∀ n s, I e s → W (n + 1) e s)
    (hs : ∀ n i s, i < e → I i s → (∀ s', I (i + 1) s' → W n (i + 1) s') → W (n + 1) i s) : ∃ n, W n i0 s :=
  ⟨e + 1, loop_i W I e hx hs (e + 1) i0 s hi (by omega) h0⟩
theorem pk_loopD {σ : Type} (W : Nat → Nat → σ → Prop) (I : Nat → σ → Prop) (hx : ∀ n s, I 0 s → W (n + 1) 0 s)
    (hs : ∀ n i s, I (i + 1) s → (∀ s', I i s' → W n i s') → W (n + 1) (i + 1) s) : ∀ (e : Nat) (s : σ), I e s → W (e + 1) e s := by
  intro e
  induction e with
  | zero => exact fun s h => hx 0 s h
  | succ e ih => exact fun s h => hs (e + 1) e s h (fun s' h' => ih s' h')
theorem lp1 {A1 : Type} (W : Nat → A1 → Prop) (I : A1 → Prop) (μ : A1 → Nat) (hs : ∀ (n : Nat) (a1 : A1), I a1 → (∀ (b1 : A1), I b1 → μ b1 < μ a1 → W n b1) → W (n + 1) a1) (a1 : A1) (h : I a1) : ∃ n, W n a1 :=
  loop_m (σ := A1) (fun n s => W n s) (fun s => I s) (fun s => μ s) (fun n s hI hk => hs n s hI (fun b1 h9 hm => hk b1 h9 hm)) a1 h
theorem lp2 {A1 A2 : Type} (W : Nat → A1 → A2 → Prop) (I : A1 → A2 → Prop) (μ : A1 → A2 → Nat) (hs : ∀ (n : Nat) (a1 : A1) (a2 : A2), I a1 a2 → (∀ (b1 : A1) (b2 : A2), I b1 b2 → μ b1 b2 < μ a1 a2 → W n b1 b2) → W (n + 1) a1 a2) (a1 : A1) (a2 : A2) (h : I a1 a2) : ∃ n, W n a1 a2 :=
  loop_m (σ := A1 × A2) (fun n s => W n s.1 s.2) (fun s => I s.1 s.2) (fun s => μ s.1 s.2) (fun n s hI hk => hs n s.1 s.2 hI (fun b1 b2 h9 hm => hk (b1, b2) h9 hm)) (a1, a2) h
theorem lp3 {A1 A2 A3 : Type} (W : Nat → A1 → A2 → A3 → Prop) (I : A1 → A2 → A3 → Prop) (μ : A1 → A2 → A3 → Nat) (hs : ∀ (n : Nat) (a1 : A1) (a2 : A2) (a3 : A3), I a1 a2 a3 → (∀ (b1 : A1) (b2 : A2) (b3 : A3), I b1 b2 b3 → μ b1 b2 b3 < μ a1 a2 a3 → W n b1 b2 b3) → W (n + 1) a1 a2 a3) (a1 : A1) (a2 : A2) (a3 : A3) (h : I a1 a2 a3) : ∃ n, W n a1 a2 a3 :=
  loop_m (σ := A1 × A2 × A3) (fun n s => W n s.1 s.2.1 s.2.2) (fun s => I s.1 s.2.1 s.2.2) (fun s => μ s.1 s.2.1 s.2.2) (fun n s hI hk => hs n s.1 s.2.1 s.2.2 hI (fun b1 b2 b3 h9 hm => hk (b1, b2, b3) h9 hm)) (a1, a2, a3) h
theorem lp4 {A1 A2 A3 A4 : Type} (W : Nat → A1 → A2 → A3 → A4 → Prop) (I : A1 → A2 → A3 → A4 → Prop) (μ : A1 → A2 → A3 → A4 → Nat) (hs : ∀ (n : Nat) (a1 : A1) (a2 : A2) (a3 : A3) (a4 : A4), I a1 a2 a3 a4 → (∀ (b1 : A1) (b2 : A2) (b3 : A3) (b4 : A4), I b1 b2 b3 b4 → μ b1 b2 b3 b4 < μ a1 a2 a3 a4 → W n b1 b2 b3 b4) → W (n + 1) a1 a2 a3 a4) (a1 : A1) (a2 : A2) (a3 : A3) (a4 : A4) (h : I a1 a2 a3 a4) : ∃ n, W n a1 a2 a3 a4 :=
  loop_m (σ := A1 × A2 × A3 × A4) (fun n s => W n s.1 s.2.1 s.2.2.1 s.2.2.2) (fun s => I s.1 s.2.1 s.2.2.1 s.2.2.2) (fun s => μ s.1 s.2.1 s.2.2.1 s.2.2.2) (fun n s hI hk => hs n s.1 s.2.1 s.2.2.1 s.2.2.2 hI (fun b1 b2 b3 b4 h9 hm => hk (b1, b2, b3, b4) h9 hm)) (a1, a2, a3, a4) h
theorem lp5 {A1 A2 A3 A4 A5 : Type} (W : Nat → A1 → A2 → A3 → A4 → A5 → Prop) (I : A1 → A2 → A3 → A4 → A5 → Prop) (μ : A1 → A2 → A3 → A4 → A5 → Nat) (hs : ∀ (n : Nat) (a1 : A1) (a2 : A2) (a3 : A3) (a4 : A4) (a5 : A5), I a1 a2 a3 a4 a5 → (∀ (b1 : A1) (b2 : A2) (b3 : A3) (b4 : A4) (b5 : A5), I b1 b2 b3 b4 b5 → μ b1 b2 b3 b4 b5 < μ a1 a2 a3 a4 a5 → W n b1 b2 b3 b4 b5) → W (n + 1) a1 a2 a3 a4 a5) (a1 : A1) (a2 : A2) (a3 : A3) (a4 : A4) (a5 : A5) (h : I a1 a2 a3 a4 a5) : ∃ n, W n a1 a2 a3 a4 a5 :=
  loop_m (σ := A1 × A2 × A3 × A4 × A5) (fun n s => W n s.1 s.2.1 s.2.2.1 s.2.2.2.1 s.2.2.2.2) (fun s => I s.1 s.2.1 s.2.2.1 s.2.2.2.1 s.2.2.2.2) (fun s => μ s.1 s.2.1 s.2.2.1 s.2.2.2.1 s.2.2.2.2) (fun n s hI hk => hs n s.1 s.2.1 s.2.2.1 s.2.2.2.1 s.2.2.2.2 hI (fun b1 b2 b3 b4 b5 h9 hm => hk (b1, b2, b3, b4, b5) h9 hm)) (a1, a2, a3, a4, a5) h
theorem lp6 {A1 A2 A3 A4 A5 A6 : Type} (W : Nat → A1 → A2 → A3 → A4 → A5 → A6 → Prop) (I : A1 → A2 → A3 → A4 → A5 → A6 → Prop) (μ : A1 → A2 → A3 → A4 → A5 → A6 → Nat) (hs : ∀ (n : Nat) (a1 : A1) (a2 : A2) (a3 : A3) (a4 : A4) (a5 : A5) (a6 : A6), I a1 a2 a3 a4 a5 a6 → (∀ (b1 : A1) (b2 : A2) (b3 : A3) (b4 : A4) (b5 : A5) (b6 : A6), I b1 b2 b3 b4 b5 b6 → μ b1 b2 b3 b4 b5 b6 < μ a1 a2 a3 a4 a5 a6 → W n b1 b2 b3 b4 b5 b6) → W (n + 1) a1 a2 a3 a4 a5 a6) (a1 : A1) (a2 : A2) (a3 : A3) (a4 : A4) (a5 : A5) (a6 : A6) (h : I a1 a2 a3 a4 a5 a6) : ∃ n, W n a1 a2 a3 a4 a5 a6 :=
  loop_m (σ := A1 × A2 × A3 × A4 × A5 × A6) (fun n s => W n s.1 s.2.1 s.2.2.1 s.2.2.2.1 s.2.2.2.2.1 s.2.2.2.2.2) (fun s => I s.1 s.2.1 s.2.2.1 s.2.2.2.1 s.2.2.2.2.1 s.2.2.2.2.2) (fun s => μ s.1 s.2.1 s.2.2.1 s.2.2.2.1 s.2.2.2.2.1 s.2.2.2.2.2) (fun n s hI hk => hs n s.1 s.2.1 s.2.2.1 s.2.2.2.1 s.2.2.2.2.1 s.2.2.2.2.2 hI (fun b1 b2 b3 b4 b5 b6 h9 hm => hk (b1, b2, b3, b4, b5, b6) h9 hm)) (a1, a2, a3, a4, a5, a6) h
theorem lp7 {A1 A2 A3 A4 A5 A6 A7 : Type} (W : Nat → A1 → A2 → A3 → A4 → A5 → A6 → A7 → Prop) (I : A1 → A2 → A3 → A4 → A5 → A6 → A7 → Prop) (μ : A1 → A2 → A3 → A4 → A5 → A6 → A7 → Nat) (hs : ∀ (n : Nat) (a1 : A1) (a2 : A2) (a3 : A3) (a4 : A4) (a5 : A5) (a6 : A6) (a7 : A7), I a1 a2 a3 a4 a5 a6 a7 → (∀ (b1 : A1) (b2 : A2) (b3 : A3) (b4 : A4) (b5 : A5) (b6 : A6) (b7 : A7), I b1 b2 b3 b4 b5 b6 b7 → μ b1 b2 b3 b4 b5 b6 b7 < μ a1 a2 a3 a4 a5 a6 a7 → W n b1 b2 b3 b4 b5 b6 b7) → W (n + 1) a1 a2 a3 a4 a5 a6 a7) (a1 : A1) (a2 : A2) (a3 : A3) (a4 : A4) (a5 : A5) (a6 : A6) (a7 : A7) (h : I a1 a2 a3 a4 a5 a6 a7) : ∃ n, W n a1 a2 a3 a4 a5 a6 a7 :=
  loop_m (σ := A1 × A2 × A3 × A4 × A5 × A6 × A7) (fun n s => W n s.1 s.2.1 s.2.2.1 s.2.2.2.1 s.2.2.2.2.1 s.2.2.2.2.2.1 s.2.2.2.2.2.2) (fun s => I s.1 s.2.1 s.2.2.1 s.2.2.2.1 s.2.2.2.2.1 s.2.2.2.2.2.1 s.2.2.2.2.2.2) (fun s => μ s.1 s.2.1 s.2.2.1 s.2.2.2.1 s.2.2.2.2.1 s.2.2.2.2.2.1 s.2.2.2.2.2.2) (fun n s hI hk => hs n s.1 s.2.1 s.2.2.1 s.2.2.2.1 s.2.2.2.2.1 s.2.2.2.2.2.1 s.2.2.2.2.2.2 hI (fun b1 b2 b3 b4 b5 b6 b7 h9 hm => hk (b1, b2, b3, b4, b5, b6, b7) h9 hm)) (a1, a2, a3, a4, a5, a6, a7) h
theorem lp8 {A1 A2 A3 A4 A5 A6 A7 A8 : Type} (W : Nat → A1 → A2 → A3 → A4 → A5 → A6 → A7 → A8 → Prop) (I : A1 → A2 → A3 → A4 → A5 → A6 → A7 → A8 → Prop) (μ : A1 → A2 → A3 → A4 → A5 → A6 → A7 → A8 → Nat) (hs : ∀ (n : Nat) (a1 : A1) (a2 : A2) (a3 : A3) (a4 : A4) (a5 : A5) (a6 : A6) (a7 : A7) (a8 : A8), I a1 a2 a3 a4 a5 a6 a7 a8 → (∀ (b1 : A1) (b2 : A2) (b3 : A3) (b4 : A4) (b5 : A5) (b6 : A6) (b7 : A7) (b8 : A8), I b1 b2 b3 b4 b5 b6 b7 b8 → μ b1 b2 b3 b4 b5 b6 b7 b8 < μ a1 a2 a3 a4 a5 a6 a7 a8 → W n b1 b2 b3 b4 b5 b6 b7 b8) → W (n + 1) a1 a2 a3 a4 a5 a6 a7 a8) (a1 : A1) (a2 : A2) (a3 : A3) (a4 : A4) (a5 : A5) (a6 : A6) (a7 : A7) (a8 : A8) (h : I a1 a2 a3 a4 a5 a6 a7 a8) : ∃ n, W n a1 a2 a3 a4 a5 a6 a7 a8 :=
  loop_m (σ := A1 × A2 × A3 × A4 × A5 × A6 × A7 × A8) (fun n s => W n s.1 s.2.1 s.2.2.1 s.2.2.2.1 s.2.2.2.2.1 s.2.2.2.2.2.1 s.2.2.2.2.2.2.1 s.2.2.2.2.2.2.2) (fun s => I s.1 s.2.1 s.2.2.1 s.2.2.2.1 s.2.2.2.2.1 s.2.2.2.2.2.1 s.2.2.2.2.2.2.1 s.2.2.2.2.2.2.2) (fun s => μ s.1 s.2.1 s.2.2.1 s.2.2.2.1 s.2.2.2.2.1 s.2.2.2.2.2.1 s.2.2.2.2.2.2.1 s.2.2.2.2.2.2.2) (fun n s hI hk => hs n s.1 s.2.1 s.2.2.1 s.2.2.2.1 s.2.2.2.2.1 s.2.2.2.2.2.1 s.2.2.2.2.2.2.1 s.2.2.2.2.2.2.2 hI (fun b1 b2 b3 b4 b5 b6 b7 b8 h9 hm => hk (b1, b2, b3, b4, b5, b6, b7, b8) h9 hm)) (a1, a2, a3, a4, a5, a6, a7, a8) h
theorem lp9 {A1 A2 A3 A4 A5 A6 A7 A8 A9 : Type} (W : Nat → A1 → A2 → A3 → A4 → A5 → A6 → A7 → A8 → A9 → Prop) (I : A1 → A2 → A3 → A4 → A5 → A6 → A7 → A8 → A9 → Prop) (μ : A1 → A2 → A3 → A4 → A5 → A6 → A7 → A8 → A9 → Nat) (hs : ∀ (n : Nat) (a1 : A1) (a2 : A2) (a3 : A3) (a4 : A4) (a5 : A5) (a6 : A6) (a7 : A7) (a8 : A8) (a9 : A9), I a1 a2 a3 a4 a5 a6 a7 a8 a9 → (∀ (b1 : A1) (b2 : A2) (b3 : A3) (b4 : A4) (b5 : A5) (b6 : A6) (b7 : A7) (b8 : A8) (b9 : A9), I b1 b2 b3 b4 b5 b6 b7 b8 b9 → μ b1 b2 b3 b4 b5 b6 b7 b8 b9 < μ a1 a2 a3 a4 a5 a6 a7 a8 a9 → W n b1 b2 b3 b4 b5 b6 b7 b8 b9) → W (n + 1) a1 a2 a3 a4 a5 a6 a7 a8 a9) (a1 : A1) (a2 : A2) (a3 : A3) (a4 : A4) (a5 : A5) (a6 : A6) (a7 : A7) (a8 : A8) (a9 : A9) (h : I a1 a2 a3 a4 a5 a6 a7 a8 a9) : ∃ n, W n a1 a2 a3 a4 a5 a6 a7 a8 a9 :=
  loop_m (σ := A1 × A2 × A3 × A4 × A5 × A6 × A7 × A8 × A9) (fun n s => W n s.1 s.2.1 s.2.2.1 s.2.2.2.1 s.2.2.2.2.1 s.2.2.2.2.2.1 s.2.2.2.2.2.2.1 s.2.2.2.2.2.2.2.1 s.2.2.2.2.2.2.2.2) (fun s => I s.1 s.2.1 s.2.2.1 s.2.2.2.1 s.2.2.2.2.1 s.2.2.2.2.2.1 s.2.2.2.2.2.2.1 s.2.2.2.2.2.2.2.1 s.2.2.2.2.2.2.2.2) (fun s => μ s.1 s.2.1 s.2.2.1 s.2.2.2.1 s.2.2.2.2.1 s.2.2.2.2.2.1 s.2.2.2.2.2.2.1 s.2.2.2.2.2.2.2.1 s.2.2.2.2.2.2.2.2) (fun n s hI hk => hs n s.1 s.2.1 s.2.2.1 s.2.2.2.1 s.2.2.2.2.1 s.2.2.2.2.2.1 s.2.2.2.2.2.2.1 s.2.2.2.2.2.2.2.1 s.2.2.2.2.2.2.2.2 hI (fun b1 b2 b3 b4 b5 b6 b7 b8 b9 h9 hm => hk (b1, b2, b3, b4, b5, b6, b7, b8, b9) h9 hm)) (a1, a2, a3, a4, a5, a6, a7, a8, a9) h
theorem lp10 {A1 A2 A3 A4 A5 A6 A7 A8 A9 A10 : Type} (W : Nat → A1 → A2 → A3 → A4 → A5 → A6 → A7 → A8 → A9 → A10 → Prop) (I : A1 → A2 → A3 → A4 → A5 → A6 → A7 → A8 → A9 → A10 → Prop) (μ : A1 → A2 → A3 → A4 → A5 → A6 → A7 → A8 → A9 → A10 → Nat) (hs : ∀ (n : Nat) (a1 : A1) (a2 : A2) (a3 : A3) (a4 : A4) (a5 : A5) (a6 : A6) (a7 : A7) (a8 : A8) (a9 : A9) (a10 : A10), I a1 a2 a3 a4 a5 a6 a7 a8 a9 a10 → (∀ (b1 : A1) (b2 : A2) (b3 : A3) (b4 : A4) (b5 : A5) (b6 : A6) (b7 : A7) (b8 : A8) (b9 : A9) (b10 : A10), I b1 b2 b3 b4 b5 b6 b7 b8 b9 b10 → μ b1 b2 b3 b4 b5 b6 b7 b8 b9 b10 < μ a1 a2 a3 a4 a5 a6 a7 a8 a9 a10 → W n b1 b2 b3 b4 b5 b6 b7 b8 b9 b10) → W (n + 1) a1 a2 a3 a4 a5 a6 a7 a8 a9 a10) (a1 : A1) (a2 : A2) (a3 : A3) (a4 : A4) (a5 : A5) (a6 : A6) (a7 : A7) (a8 : A8) (a9 : A9) (a10 : A10) (h : I a1 a2 a3 a4 a5 a6 a7 a8 a9 a10) : ∃ n, W n a1 a2 a3 a4 a5 a6 a7 a8 a9 a10 :=
  loop_m (σ := A1 × A2 × A3 × A4 × A5 × A6 × A7 × A8 × A9 × A10) (fun n s => W n s.1 s.2.1 s.2.2.1 s.2.2.2.1 s.2.2.2.2.1 s.2.2.2.2.2.1 s.2.2.2.2.2.2.1 s.2.2.2.2.2.2.2.1 s.2.2.2.2.2.2.2.2.1 s.2.2.2.2.2.2.2.2.2) (fun s => I s.1 s.2.1 s.2.2.1 s.2.2.2.1 s.2.2.2.2.1 s.2.2.2.2.2.1 s.2.2.2.2.2.2.1 s.2.2.2.2.2.2.2.1 s.2.2.2.2.2.2.2.2.1 s.2.2.2.2.2.2.2.2.2) (fun s => μ s.1 s.2.1 s.2.2.1 s.2.2.2.1 s.2.2.2.2.1 s.2.2.2.2.2.1 s.2.2.2.2.2.2.1 s.2.2.2.2.2.2.2.1 s.2.2.2.2.2.2.2.2.1 s.2.2.2.2.2.2.2.2.2) (fun n s hI hk => hs n s.1 s.2.1 s.2.2.1 s.2.2.2.1 s.2.2.2.2.1 s.2.2.2.2.2.1 s.2.2.2.2.2.2.1 s.2.2.2.2.2.2.2.1 s.2.2.2.2.2.2.2.2.1 s.2.2.2.2.2.2.2.2.2 hI (fun b1 b2 b3 b4 b5 b6 b7 b8 b9 b10 h9 hm => hk (b1, b2, b3, b4, b5, b6, b7, b8, b9, b10) h9 hm)) (a1, a2, a3, a4, a5, a6, a7, a8, a9, a10) h
theorem lp11 {A1 A2 A3 A4 A5 A6 A7 A8 A9 A10 A11 : Type} (W : Nat → A1 → A2 → A3 → A4 → A5 → A6 → A7 → A8 → A9 → A10 → A11 → Prop) (I : A1 → A2 → A3 → A4 → A5 → A6 → A7 → A8 → A9 → A10 → A11 → Prop) (μ : A1 → A2 → A3 → A4 → A5 → A6 → A7 → A8 → A9 → A10 → A11 → Nat) (hs : ∀ (n : Nat) (a1 : A1) (a2 : A2) (a3 : A3) (a4 : A4) (a5 : A5) (a6 : A6) (a7 : A7) (a8 : A8) (a9 : A9) (a10 : A10) (a11 : A11), I a1 a2 a3 a4 a5 a6 a7 a8 a9 a10 a11 → (∀ (b1 : A1) (b2 : A2) (b3 : A3) (b4 : A4) (b5 : A5) (b6 : A6) (b7 : A7) (b8 : A8) (b9 : A9) (b10 : A10) (b11 : A11), I b1 b2 b3 b4 b5 b6 b7 b8 b9 b10 b11 → μ b1 b2 b3 b4 b5 b6 b7 b8 b9 b10 b11 < μ a1 a2 a3 a4 a5 a6 a7 a8 a9 a10 a11 → W n b1 b2 b3 b4 b5 b6 b7 b8 b9 b10 b11) → W (n + 1) a1 a2 a3 a4 a5 a6 a7 a8 a9 a10 a11) (a1 : A1) (a2 : A2) (a3 : A3) (a4 : A4) (a5 : A5) (a6 : A6) (a7 : A7) (a8 : A8) (a9 : A9) (a10 : A10) (a11 : A11) (h : I a1 a2 a3 a4 a5 a6 a7 a8 a9 a10 a11) : ∃ n, W n a1 a2 a3 a4 a5 a6 a7 a8 a9 a10 a11 :=
  loop_m (σ := A1 × A2 × A3 × A4 × A5 × A6 × A7 × A8 × A9 × A10 × A11) (fun n s => W n s.1 s.2.1 s.2.2.1 s.2.2.2.1 s.2.2.2.2.1 s.2.2.2.2.2.1 s.2.2.2.2.2.2.1 s.2.2.2.2.2.2.2.1 s.2.2.2.2.2.2.2.2.1 s.2.2.2.2.2.2.2.2.2.1 s.2.2.2.2.2.2.2.2.2.2) (fun s => I s.1 s.2.1 s.2.2.1 s.2.2.2.1 s.2.2.2.2.1 s.2.2.2.2.2.1 s.2.2.2.2.2.2.1 s.2.2.2.2.2.2.2.1 s.2.2.2.2.2.2.2.2.1 s.2.2.2.2.2.2.2.2.2.1 s.2.2.2.2.2.2.2.2.2.2) (fun s => μ s.1 s.2.1 s.2.2.1 s.2.2.2.1 s.2.2.2.2.1 s.2.2.2.2.2.1 s.2.2.2.2.2.2.1 s.2.2.2.2.2.2.2.1 s.2.2.2.2.2.2.2.2.1 s.2.2.2.2.2.2.2.2.2.1 s.2.2.2.2.2.2.2.2.2.2) (fun n s hI hk => hs n s.1 s.2.1 s.2.2.1 s.2.2.2.1 s.2.2.2.2.1 s.2.2.2.2.2.1 s.2.2.2.2.2.2.1 s.2.2.2.2.2.2.2.1 s.2.2.2.2.2.2.2.2.1 s.2.2.2.2.2.2.2.2.2.1 s.2.2.2.2.2.2.2.2.2.2 hI (fun b1 b2 b3 b4 b5 b6 b7 b8 b9 b10 b11 h9 hm => hk (b1, b2, b3, b4, b5, b6, b7, b8, b9, b10, b11) h9 hm)) (a1, a2, a3, a4, a5, a6, a7, a8, a9, a10, a11) h
theorem lp12 {A1 A2 A3 A4 A5 A6 A7 A8 A9 A10 A11 A12 : Type} (W : Nat → A1 → A2 → A3 → A4 → A5 → A6 → A7 → A8 → A9 → A10 → A11 → A12 → Prop) (I : A1 → A2 → A3 → A4 → A5 → A6 → A7 → A8 → A9 → A10 → A11 → A12 → Prop) (μ : A1 → A2 → A3 → A4 → A5 → A6 → A7 → A8 → A9 → A10 → A11 → A12 → Nat) (hs : ∀ (n : Nat) (a1 : A1) (a2 : A2) (a3 : A3) (a4 : A4) (a5 : A5) (a6 : A6) (a7 : A7) (a8 : A8) (a9 : A9) (a10 : A10) (a11 : A11) (a12 : A12), I a1 a2 a3 a4 a5 a6 a7 a8 a9 a10 a11 a12 → (∀ (b1 : A1) (b2 : A2) (b3 : A3) (b4 : A4) (b5 : A5) (b6 : A6) (b7 : A7) (b8 : A8) (b9 : A9) (b10 : A10) (b11 : A11) (b12 : A12), I b1 b2 b3 b4 b5 b6 b7 b8 b9 b10 b11 b12 → μ b1 b2 b3 b4 b5 b6 b7 b8 b9 b10 b11 b12 < μ a1 a2 a3 a4 a5 a6 a7 a8 a9 a10 a11 a12 → W n b1 b2 b3 b4 b5 b6 b7 b8 b9 b10 b11 b12) → W (n + 1) a1 a2 a3 a4 a5 a6 a7 a8 a9 a10 a11 a12) (a1 : A1) (a2 : A2) (a3 : A3) (a4 : A4) (a5 : A5) (a6 : A6) (a7 : A7) (a8 : A8) (a9 : A9) (a10 : A10) (a11 : A11) (a12 : A12) (h : I a1 a2 a3 a4 a5 a6 a7 a8 a9 a10 a11 a12) : ∃ n, W n a1 a2 a3 a4 a5 a6 a7 a8 a9 a10 a11 a12 :=
  loop_m (σ := A1 × A2 × A3 × A4 × A5 × A6 × A7 × A8 × A9 × A10 × A11 × A12) (fun n s => W n s.1 s.2.1 s.2.2.1 s.2.2.2.1 s.2.2.2.2.1 s.2.2.2.2.2.1 s.2.2.2.2.2.2.1 s.2.2.2.2.2.2.2.1 s.2.2.2.2.2.2.2.2.1 s.2.2.2.2.2.2.2.2.2.1 s.2.2.2.2.2.2.2.2.2.2.1 s.2.2.2.2.2.2.2.2.2.2.2) (fun s => I s.1 s.2.1 s.2.2.1 s.2.2.2.1 s.2.2.2.2.1 s.2.2.2.2.2.1 s.2.2.2.2.2.2.1 s.2.2.2.2.2.2.2.1 s.2.2.2.2.2.2.2.2.1 s.2.2.2.2.2.2.2.2.2.1 s.2.2.2.2.2.2.2.2.2.2.1 s.2.2.2.2.2.2.2.2.2.2.2) (fun s => μ s.1 s.2.1 s.2.2.1 s.2.2.2.1 s.2.2.2.2.1 s.2.2.2.2.2.1 s.2.2.2.2.2.2.1 s.2.2.2.2.2.2.2.1 s.2.2.2.2.2.2.2.2.1 s.2.2.2.2.2.2.2.2.2.1 s.2.2.2.2.2.2.2.2.2.2.1 s.2.2.2.2.2.2.2.2.2.2.2) (fun n s hI hk => hs n s.1 s.2.1 s.2.2.1 s.2.2.2.1 s.2.2.2.2.1 s.2.2.2.2.2.1 s.2.2.2.2.2.2.1 s.2.2.2.2.2.2.2.1 s.2.2.2.2.2.2.2.2.1 s.2.2.2.2.2.2.2.2.2.1 s.2.2.2.2.2.2.2.2.2.2.1 s.2.2.2.2.2.2.2.2.2.2.2 hI (fun b1 b2 b3 b4 b5 b6 b7 b8 b9 b10 b11 b12 h9 hm => hk (b1, b2, b3, b4, b5, b6, b7, b8, b9, b10, b11, b12) h9 hm)) (a1, a2, a3, a4, a5, a6, a7, a8, a9, a10, a11, a12) h
theorem lp13 {A1 A2 A3 A4 A5 A6 A7 A8 A9 A10 A11 A12 A13 : Type} (W : Nat → A1 → A2 → A3 → A4 → A5 → A6 → A7 → A8 → A9 → A10 → A11 → A12 → A13 → Prop) (I : A1 → A2 → A3 → A4 → A5 → A6 → A7 → A8 → A9 → A10 → A11 → A12 → A13 → Prop) (μ : A1 → A2 → A3 → A4 → A5 → A6 → A7 → A8 → A9 → A10 → A11 → A12 → A13 → Nat) (hs : ∀ (n : Nat) (a1 : A1) (a2 : A2) (a3 : A3) (a4 : A4) (a5 : A5) (a6 : A6) (a7 : A7) (a8 : A8) (a9 : A9) (a10 : A10) (a11 : A11) (a12 : A12) (a13 : A13), I a1 a2 a3 a4 a5 a6 a7 a8 a9 a10 a11 a12 a13 → (∀ (b1 : A1) (b2 : A2) (b3 : A3) (b4 : A4) (b5 : A5) (b6 : A6) (b7 : A7) (b8 : A8) (b9 : A9) (b10 : A10) (b11 : A11) (b12 : A12) (b13 : A13), I b1 b2 b3 b4 b5 b6 b7 b8 b9 b10 b11 b12 b13 → μ b1 b2 b3 b4 b5 b6 b7 b8 b9 b10 b11 b12 b13 < μ a1 a2 a3 a4 a5 a6 a7 a8 a9 a10 a11 a12 a13 → W n b1 b2 b3 b4 b5 b6 b7 b8 b9 b10 b11 b12 b13) → W (n + 1) a1 a2 a3 a4 a5 a6 a7 a8 a9 a10 a11 a12 a13) (a1 : A1) (a2 : A2) (a3 : A3) (a4 : A4) (a5 : A5) (a6 : A6) (a7 : A7) (a8 : A8) (a9 : A9) (a10 : A10) (a11 : A11) (a12 : A12) (a13 : A13) (h : I a1 a2 a3 a4 a5 a6 a7 a8 a9 a10 a11 a12 a13) : ∃ n, W n a1 a2 a3 a4 a5 a6 a7 a8 a9 a10 a11 a12 a13 :=
  loop_m (σ := A1 × A2 × A3 × A4 × A5 × A6 × A7 × A8 × A9 × A10 × A11 × A12 × A13) (fun n s => W n s.1 s.2.1 s.2.2.1 s.2.2.2.1 s.2.2.2.2.1 s.2.2.2.2.2.1 s.2.2.2.2.2.2.1 s.2.2.2.2.2.2.2.1 s.2.2.2.2.2.2.2.2.1 s.2.2.2.2.2.2.2.2.2.1 s.2.2.2.2.2.2.2.2.2.2.1 s.2.2.2.2.2.2.2.2.2.2.2.1 s.2.2.2.2.2.2.2.2.2.2.2.2) (fun s => I s.1 s.2.1 s.2.2.1 s.2.2.2.1 s.2.2.2.2.1 s.2.2.2.2.2.1 s.2.2.2.2.2.2.1 s.2.2.2.2.2.2.2.1 s.2.2.2.2.2.2.2.2.1 s.2.2.2.2.2.2.2.2.2.1 s.2.2.2.2.2.2.2.2.2.2.1 s.2.2.2.2.2.2.2.2.2.2.2.1 s.2.2.2.2.2.2.2.2.2.2.2.2) (fun s => μ s.1 s.2.1 s.2.2.1 s.2.2.2.1 s.2.2.2.2.1 s.2.2.2.2.2.1 s.2.2.2.2.2.2.1 s.2.2.2.2.2.2.2.1 s.2.2.2.2.2.2.2.2.1 s.2.2.2.2.2.2.2.2.2.1 s.2.2.2.2.2.2.2.2.2.2.1 s.2.2.2.2.2.2.2.2.2.2.2.1 s.2.2.2.2.2.2.2.2.2.2.2.2) (fun n s hI hk => hs n s.1 s.2.1 s.2.2.1 s.2.2.2.1 s.2.2.2.2.1 s.2.2.2.2.2.1 s.2.2.2.2.2.2.1 s.2.2.2.2.2.2.2.1 s.2.2.2.2.2.2.2.2.1 s.2.2.2.2.2.2.2.2.2.1 s.2.2.2.2.2.2.2.2.2.2.1 s.2.2.2.2.2.2.2.2.2.2.2.1 s.2.2.2.2.2.2.2.2.2.2.2.2 hI (fun b1 b2 b3 b4 b5 b6 b7 b8 b9 b10 b11 b12 b13 h9 hm => hk (b1, b2, b3, b4, b5, b6, b7, b8, b9, b10, b11, b12, b13) h9 hm)) (a1, a2, a3, a4, a5, a6, a7, a8, a9, a10, a11, a12, a13) h
theorem lp14 {A1 A2 A3 A4 A5 A6 A7 A8 A9 A10 A11 A12 A13 A14 : Type} (W : Nat → A1 → A2 → A3 → A4 → A5 → A6 → A7 → A8 → A9 → A10 → A11 → A12 → A13 → A14 → Prop) (I : A1 → A2 → A3 → A4 → A5 → A6 → A7 → A8 → A9 → A10 → A11 → A12 → A13 → A14 → Prop) (μ : A1 → A2 → A3 → A4 → A5 → A6 → A7 → A8 → A9 → A10 → A11 → A12 → A13 → A14 → Nat) (hs : ∀ (n : Nat) (a1 : A1) (a2 : A2) (a3 : A3) (a4 : A4) (a5 : A5) (a6 : A6) (a7 : A7) (a8 : A8) (a9 : A9) (a10 : A10) (a11 : A11) (a12 : A12) (a13 : A13) (a14 : A14), I a1 a2 a3 a4 a5 a6 a7 a8 a9 a10 a11 a12 a13 a14 → (∀ (b1 : A1) (b2 : A2) (b3 : A3) (b4 : A4) (b5 : A5) (b6 : A6) (b7 : A7) (b8 : A8) (b9 : A9) (b10 : A10) (b11 : A11) (b12 : A12) (b13 : A13) (b14 : A14), I b1 b2 b3 b4 b5 b6 b7 b8 b9 b10 b11 b12 b13 b14 → μ b1 b2 b3 b4 b5 b6 b7 b8 b9 b10 b11 b12 b13 b14 < μ a1 a2 a3 a4 a5 a6 a7 a8 a9 a10 a11 a12 a13 a14 → W n b1 b2 b3 b4 b5 b6 b7 b8 b9 b10 b11 b12 b13 b14) → W (n + 1) a1 a2 a3 a4 a5 a6 a7 a8 a9 a10 a11 a12 a13 a14) (a1 : A1) (a2 : A2) (a3 : A3) (a4 : A4) (a5 : A5) (a6 : A6) (a7 : A7) (a8 : A8) (a9 : A9) (a10 : A10) (a11 : A11) (a12 : A12) (a13 : A13) (a14 : A14) (h : I a1 a2 a3 a4 a5 a6 a7 a8 a9 a10 a11 a12 a13 a14) : ∃ n, W n a1 a2 a3 a4 a5 a6 a7 a8 a9 a10 a11 a12 a13 a14 :=
  loop_m (σ := A1 × A2 × A3 × A4 × A5 × A6 × A7 × A8 × A9 × A10 × A11 × A12 × A13 × A14) (fun n s => W n s.1 s.2.1 s.2.2.1 s.2.2.2.1 s.2.2.2.2.1 s.2.2.2.2.2.1 s.2.2.2.2.2.2.1 s.2.2.2.2.2.2.2.1 s.2.2.2.2.2.2.2.2.1 s.2.2.2.2.2.2.2.2.2.1 s.2.2.2.2.2.2.2.2.2.2.1 s.2.2.2.2.2.2.2.2.2.2.2.1 s.2.2.2.2.2.2.2.2.2.2.2.2.1 s.2.2.2.2.2.2.2.2.2.2.2.2.2) (fun s => I s.1 s.2.1 s.2.2.1 s.2.2.2.1 s.2.2.2.2.1 s.2.2.2.2.2.1 s.2.2.2.2.2.2.1 s.2.2.2.2.2.2.2.1 s.2.2.2.2.2.2.2.2.1 s.2.2.2.2.2.2.2.2.2.1 s.2.2.2.2.2.2.2.2.2.2.1 s.2.2.2.2.2.2.2.2.2.2.2.1 s.2.2.2.2.2.2.2.2.2.2.2.2.1 s.2.2.2.2.2.2.2.2.2.2.2.2.2) (fun s => μ s.1 s.2.1 s.2.2.1 s.2.2.2.1 s.2.2.2.2.1 s.2.2.2.2.2.1 s.2.2.2.2.2.2.1 s.2.2.2.2.2.2.2.1 s.2.2.2.2.2.2.2.2.1 s.2.2.2.2.2.2.2.2.2.1 s.2.2.2.2.2.2.2.2.2.2.1 s.2.2.2.2.2.2.2.2.2.2.2.1 s.2.2.2.2.2.2.2.2.2.2.2.2.1 s.2.2.2.2.2.2.2.2.2.2.2.2.2) (fun n s hI hk => hs n s.1 s.2.1 s.2.2.1 s.2.2.2.1 s.2.2.2.2.1 s.2.2.2.2.2.1 s.2.2.2.2.2.2.1 s.2.2.2.2.2.2.2.1 s.2.2.2.2.2.2.2.2.1 s.2.2.2.2.2.2.2.2.2.1 s.2.2.2.2.2.2.2.2.2.2.1 s.2.2.2.2.2.2.2.2.2.2.2.1 s.2.2.2.2.2.2.2.2.2.2.2.2.1 s.2.2.2.2.2.2.2.2.2.2.2.2.2 hI (fun b1 b2 b3 b4 b5 b6 b7 b8 b9 b10 b11 b12 b13 b14 h9 hm => hk (b1, b2, b3, b4, b5, b6, b7, b8, b9, b10, b11, b12, b13, b14) h9 hm)) (a1, a2, a3, a4, a5, a6, a7, a8, a9, a10, a11, a12, a13, a14) h
theorem lp15 {A1 A2 A3 A4 A5 A6 A7 A8 A9 A10 A11 A12 A13 A14 A15 : Type} (W : Nat → A1 → A2 → A3 → A4 → A5 → A6 → A7 → A8 → A9 → A10 → A11 → A12 → A13 → A14 → A15 → Prop) (I : A1 → A2 → A3 → A4 → A5 → A6 → A7 → A8 → A9 → A10 → A11 → A12 → A13 → A14 → A15 → Prop) (μ : A1 → A2 → A3 → A4 → A5 → A6 → A7 → A8 → A9 → A10 → A11 → A12 → A13 → A14 → A15 → Nat) (hs : ∀ (n : Nat) (a1 : A1) (a2 : A2) (a3 : A3) (a4 : A4) (a5 : A5) (a6 : A6) (a7 : A7) (a8 : A8) (a9 : A9) (a10 : A10) (a11 : A11) (a12 : A12) (a13 : A13) (a14 : A14) (a15 : A15), I a1 a2 a3 a4 a5 a6 a7 a8 a9 a10 a11 a12 a13 a14 a15 → (∀ (b1 : A1) (b2 : A2) (b3 : A3) (b4 : A4) (b5 : A5) (b6 : A6) (b7 : A7) (b8 : A8) (b9 : A9) (b10 : A10) (b11 : A11) (b12 : A12) (b13 : A13) (b14 : A14) (b15 : A15), I b1 b2 b3 b4 b5 b6 b7 b8 b9 b10 b11 b12 b13 b14 b15 → μ b1 b2 b3 b4 b5 b6 b7 b8 b9 b10 b11 b12 b13 b14 b15 < μ a1 a2 a3 a4 a5 a6 a7 a8 a9 a10 a11 a12 a13 a14 a15 → W n b1 b2 b3 b4 b5 b6 b7 b8 b9 b10 b11 b12 b13 b14 b15) → W (n + 1) a1 a2 a3 a4 a5 a6 a7 a8 a9 a10 a11 a12 a13 a14 a15) (a1 : A1) (a2 : A2) (a3 : A3) (a4 : A4) (a5 : A5) (a6 : A6) (a7 : A7) (a8 : A8) (a9 : A9) (a10 : A10) (a11 : A11) (a12 : A12) (a13 : A13) (a14 : A14) (a15 : A15) (h : I a1 a2 a3 a4 a5 a6 a7 a8 a9 a10 a11 a12 a13 a14 a15) : ∃ n, W n a1 a2 a3 a4 a5 a6 a7 a8 a9 a10 a11 a12 a13 a14 a15 :=
  loop_m (σ := A1 × A2 × A3 × A4 × A5 × A6 × A7 × A8 × A9 × A10 × A11 × A12 × A13 × A14 × A15) (fun n s => W n s.1 s.2.1 s.2.2.1 s.2.2.2.1 s.2.2.2.2.1 s.2.2.2.2.2.1 s.2.2.2.2.2.2.1 s.2.2.2.2.2.2.2.1 s.2.2.2.2.2.2.2.2.1 s.2.2.2.2.2.2.2.2.2.1 s.2.2.2.2.2.2.2.2.2.2.1 s.2.2.2.2.2.2.2.2.2.2.2.1 s.2.2.2.2.2.2.2.2.2.2.2.2.1 s.2.2.2.2.2.2.2.2.2.2.2.2.2.1 s.2.2.2.2.2.2.2.2.2.2.2.2.2.2) (fun s => I s.1 s.2.1 s.2.2.1 s.2.2.2.1 s.2.2.2.2.1 s.2.2.2.2.2.1 s.2.2.2.2.2.2.1 s.2.2.2.2.2.2.2.1 s.2.2.2.2.2.2.2.2.1 s.2.2.2.2.2.2.2.2.2.1 s.2.2.2.2.2.2.2.2.2.2.1 s.2.2.2.2.2.2.2.2.2.2.2.1 s.2.2.2.2.2.2.2.2.2.2.2.2.1 s.2.2.2.2.2.2.2.2.2.2.2.2.2.1 s.2.2.2.2.2.2.2.2.2.2.2.2.2.2) (fun s => μ s.1 s.2.1 s.2.2.1 s.2.2.2.1 s.2.2.2.2.1 s.2.2.2.2.2.1 s.2.2.2.2.2.2.1 s.2.2.2.2.2.2.2.1 s.2.2.2.2.2.2.2.2.1 s.2.2.2.2.2.2.2.2.2.1 s.2.2.2.2.2.2.2.2.2.2.1 s.2.2.2.2.2.2.2.2.2.2.2.1 s.2.2.2.2.2.2.2.2.2.2.2.2.1 s.2.2.2.2.2.2.2.2.2.2.2.2.2.1 s.2.2.2.2.2.2.2.2.2.2.2.2.2.2) (fun n s hI hk => hs n s.1 s.2.1 s.2.2.1 s.2.2.2.1 s.2.2.2.2.1 s.2.2.2.2.2.1 s.2.2.2.2.2.2.1 s.2.2.2.2.2.2.2.1 s.2.2.2.2.2.2.2.2.1 s.2.2.2.2.2.2.2.2.2.1 s.2.2.2.2.2.2.2.2.2.2.1 s.2.2.2.2.2.2.2.2.2.2.2.1 s.2.2.2.2.2.2.2.2.2.2.2.2.1 s.2.2.2.2.2.2.2.2.2.2.2.2.2.1 s.2.2.2.2.2.2.2.2.2.2.2.2.2.2 hI (fun b1 b2 b3 b4 b5 b6 b7 b8 b9 b10 b11 b12 b13 b14 b15 h9 hm => hk (b1, b2, b3, b4, b5, b6, b7, b8, b9, b10, b11, b12, b13, b14, b15) h9 hm)) (a1, a2, a3, a4, a5, a6, a7, a8, a9, a10, a11, a12, a13, a14, a15) h
theorem lp16 {A1 A2 A3 A4 A5 A6 A7 A8 A9 A10 A11 A12 A13 A14 A15 A16 : Type} (W : Nat → A1 → A2 → A3 → A4 → A5 → A6 → A7 → A8 → A9 → A10 → A11 → A12 → A13 → A14 → A15 → A16 → Prop) (I : A1 → A2 → A3 → A4 → A5 → A6 → A7 → A8 → A9 → A10 → A11 → A12 → A13 → A14 → A15 → A16 → Prop) (μ : A1 → A2 → A3 → A4 → A5 → A6 → A7 → A8 → A9 → A10 → A11 → A12 → A13 → A14 → A15 → A16 → Nat) (hs : ∀ (n : Nat) (a1 : A1) (a2 : A2) (a3 : A3) (a4 : A4) (a5 : A5) (a6 : A6) (a7 : A7) (a8 : A8) (a9 : A9) (a10 : A10) (a11 : A11) (a12 : A12) (a13 : A13) (a14 : A14) (a15 : A15) (a16 : A16), I a1 a2 a3 a4 a5 a6 a7 a8 a9 a10 a11 a12 a13 a14 a15 a16 → (∀ (b1 : A1) (b2 : A2) (b3 : A3) (b4 : A4) (b5 : A5) (b6 : A6) (b7 : A7) (b8 : A8) (b9 : A9) (b10 : A10) (b11 : A11) (b12 : A12) (b13 : A13) (b14 : A14) (b15 : A15) (b16 : A16), I b1 b2 b3 b4 b5 b6 b7 b8 b9 b10 b11 b12 b13 b14 b15 b16 → μ b1 b2 b3 b4 b5 b6 b7 b8 b9 b10 b11 b12 b13 b14 b15 b16 < μ a1 a2 a3 a4 a5 a6 a7 a8 a9 a10 a11 a12 a13 a14 a15 a16 → W n b1 b2 b3 b4 b5 b6 b7 b8 b9 b10 b11 b12 b13 b14 b15 b16) → W (n + 1) a1 a2 a3 a4 a5 a6 a7 a8 a9 a10 a11 a12 a13 a14 a15 a16) (a1 : A1) (a2 : A2) (a3 : A3) (a4 : A4) (a5 : A5) (a6 : A6) (a7 : A7) (a8 : A8) (a9 : A9) (a10 : A10) (a11 : A11) (a12 : A12) (a13 : A13) (a14 : A14) (a15 : A15) (a16 : A16) (h : I a1 a2 a3 a4 a5 a6 a7 a8 a9 a10 a11 a12 a13 a14 a15 a16) : ∃ n, W n a1 a2 a3 a4 a5 a6 a7 a8 a9 a10 a11 a12 a13 a14 a15 a16 :=
  loop_m (σ := A1 × A2 × A3 × A4 × A5 × A6 × A7 × A8 × A9 × A10 × A11 × A12 × A13 × A14 × A15 × A16) (fun n s => W n s.1 s.2.1 s.2.2.1 s.2.2.2.1 s.2.2.2.2.1 s.2.2.2.2.2.1 s.2.2.2.2.2.2.1 s.2.2.2.2.2.2.2.1 s.2.2.2.2.2.2.2.2.1 s.2.2.2.2.2.2.2.2.2.1 s.2.2.2.2.2.2.2.2.2.2.1 s.2.2.2.2.2.2.2.2.2.2.2.1 s.2.2.2.2.2.2.2.2.2.2.2.2.1 s.2.2.2.2.2.2.2.2.2.2.2.2.2.1 s.2.2.2.2.2.2.2.2.2.2.2.2.2.2.1 s.2.2.2.2.2.2.2.2.2.2.2.2.2.2.2) (fun s => I s.1 s.2.1 s.2.2.1 s.2.2.2.1 s.2.2.2.2.1 s.2.2.2.2.2.1 s.2.2.2.2.2.2.1 s.2.2.2.2.2.2.2.1 s.2.2.2.2.2.2.2.2.1 s.2.2.2.2.2.2.2.2.2.1 s.2.2.2.2.2.2.2.2.2.2.1 s.2.2.2.2.2.2.2.2.2.2.2.1 s.2.2.2.2.2.2.2.2.2.2.2.2.1 s.2.2.2.2.2.2.2.2.2.2.2.2.2.1 s.2.2.2.2.2.2.2.2.2.2.2.2.2.2.1 s.2.2.2.2.2.2.2.2.2.2.2.2.2.2.2) (fun s => μ s.1 s.2.1 s.2.2.1 s.2.2.2.1 s.2.2.2.2.1 s.2.2.2.2.2.1 s.2.2.2.2.2.2.1 s.2.2.2.2.2.2.2.1 s.2.2.2.2.2.2.2.2.1 s.2.2.2.2.2.2.2.2.2.1 s.2.2.2.2.2.2.2.2.2.2.1 s.2.2.2.2.2.2.2.2.2.2.2.1 s.2.2.2.2.2.2.2.2.2.2.2.2.1 s.2.2.2.2.2.2.2.2.2.2.2.2.2.1 s.2.2.2.2.2.2.2.2.2.2.2.2.2.2.1 s.2.2.2.2.2.2.2.2.2.2.2.2.2.2.2) (fun n s hI hk => hs n s.1 s.2.1 s.2.2.1 s.2.2.2.1 s.2.2.2.2.1 s.2.2.2.2.2.1 s.2.2.2.2.2.2.1 s.2.2.2.2.2.2.2.1 s.2.2.2.2.2.2.2.2.1 s.2.2.2.2.2.2.2.2.2.1 s.2.2.2.2.2.2.2.2.2.2.1 s.2.2.2.2.2.2.2.2.2.2.2.1 s.2.2.2.2.2.2.2.2.2.2.2.2.1 s.2.2.2.2.2.2.2.2.2.2.2.2.2.1 s.2.2.2.2.2.2.2.2.2.2.2.2.2.2.1 s.2.2.2.2.2.2.2.2.2.2.2.2.2.2.2 hI (fun b1 b2 b3 b4 b5 b6 b7 b8 b9 b10 b11 b12 b13 b14 b15 b16 h9 hm => hk (b1, b2, b3, b4, b5, b6, b7, b8, b9, b10, b11, b12, b13, b14, b15, b16) h9 hm)) (a1, a2, a3, a4, a5, a6, a7, a8, a9, a10, a11, a12, a13, a14, a15, a16) h
theorem pk_least (P : Nat → Prop) (h : ∃ k, P k) : ∃ k, P k ∧ ∀ j, j < k → ¬ P j := by
  obtain ⟨k, hk⟩ := h
  induction k using Nat.strongRecOn with
  | ind k ih =>
    by_cases e : ∃ j, j < k ∧ P j
    · obtain ⟨j, hj, pj⟩ := e
      exact ih j hj pj
    · exact ⟨k, hk, fun j hj pj => e ⟨j, hj, pj⟩⟩
theorem rp1 {ρ A1 : Type} (W : Nat → (ρ → Prop) → A1 → Prop) (ok : A1 → Prop) (μ : A1 → Nat) (val : A1 → ρ)
    (hs : ∀ (d : Nat) (post : ρ → Prop) (a1 : A1), ok a1 → post (val a1) → (∀ (post' : ρ → Prop) (b1 : A1), ok b1 → μ b1 < μ a1 → post' (val b1) → W d post' b1) → W (d + 1) post a1) :
    ∀ (d : Nat) (post : ρ → Prop) (a1 : A1), ok a1 → μ a1 < d → post (val a1) → W d post a1 := by
  intro d
  induction d with
  | zero => intro post a1 _ h; omega
  | succ d ih =>
    intro post a1 ho hm hp
    exact hs d post a1 ho hp (fun post' b1 ho' hm' hp' => ih post' b1 ho' (by omega) hp')
theorem rp2 {ρ A1 A2 : Type} (W : Nat → (ρ → Prop) → A1 → A2 → Prop) (ok : A1 → A2 → Prop) (μ : A1 → A2 → Nat) (val : A1 → A2 → ρ)
    (hs : ∀ (d : Nat) (post : ρ → Prop) (a1 : A1) (a2 : A2), ok a1 a2 → post (val a1 a2) → (∀ (post' : ρ → Prop) (b1 : A1) (b2 : A2), ok b1 b2 → μ b1 b2 < μ a1 a2 → post' (val b1 b2) → W d post' b1 b2) → W (d + 1) post a1 a2) :
    ∀ (d : Nat) (post : ρ → Prop) (a1 : A1) (a2 : A2), ok a1 a2 → μ a1 a2 < d → post (val a1 a2) → W d post a1 a2 := by
  intro d
  induction d with
  | zero => intro post a1 a2 _ h; omega
  | succ d ih =>
    intro post a1 a2 ho hm hp
    exact hs d post a1 a2 ho hp (fun post' b1 b2 ho' hm' hp' => ih post' b1 b2 ho' (by omega) hp')
theorem rp3 {ρ A1 A2 A3 : Type} (W : Nat → (ρ → Prop) → A1 → A2 → A3 → Prop) (ok : A1 → A2 → A3 → Prop) (μ : A1 → A2 → A3 → Nat) (val : A1 → A2 → A3 → ρ)
    (hs : ∀ (d : Nat) (post : ρ → Prop) (a1 : A1) (a2 : A2) (a3 : A3), ok a1 a2 a3 → post (val a1 a2 a3) → (∀ (post' : ρ → Prop) (b1 : A1) (b2 : A2) (b3 : A3), ok b1 b2 b3 → μ b1 b2 b3 < μ a1 a2 a3 → post' (val b1 b2 b3) → W d post' b1 b2 b3) → W (d + 1) post a1 a2 a3) :
    ∀ (d : Nat) (post : ρ → Prop) (a1 : A1) (a2 : A2) (a3 : A3), ok a1 a2 a3 → μ a1 a2 a3 < d → post (val a1 a2 a3) → W d post a1 a2 a3 := by
  intro d
  induction d with
  | zero => intro post a1 a2 a3 _ h; omega
  | succ d ih =>
    intro post a1 a2 a3 ho hm hp
    exact hs d post a1 a2 a3 ho hp (fun post' b1 b2 b3 ho' hm' hp' => ih post' b1 b2 b3 ho' (by omega) hp')
theorem rp4 {ρ A1 A2 A3 A4 : Type} (W : Nat → (ρ → Prop) → A1 → A2 → A3 → A4 → Prop) (ok : A1 → A2 → A3 → A4 → Prop) (μ : A1 → A2 → A3 → A4 → Nat) (val : A1 → A2 → A3 → A4 → ρ)
    (hs : ∀ (d : Nat) (post : ρ → Prop) (a1 : A1) (a2 : A2) (a3 : A3) (a4 : A4), ok a1 a2 a3 a4 → post (val a1 a2 a3 a4) → (∀ (post' : ρ → Prop) (b1 : A1) (b2 : A2) (b3 : A3) (b4 : A4), ok b1 b2 b3 b4 → μ b1 b2 b3 b4 < μ a1 a2 a3 a4 → post' (val b1 b2 b3 b4) → W d post' b1 b2 b3 b4) → W (d + 1) post a1 a2 a3 a4) :
    ∀ (d : Nat) (post : ρ → Prop) (a1 : A1) (a2 : A2) (a3 : A3) (a4 : A4), ok a1 a2 a3 a4 → μ a1 a2 a3 a4 < d → post (val a1 a2 a3 a4) → W d post a1 a2 a3 a4 := by
  intro d
  induction d with
  | zero => intro post a1 a2 a3 a4 _ h; omega
  | succ d ih =>
    intro post a1 a2 a3 a4 ho hm hp
    exact hs d post a1 a2 a3 a4 ho hp (fun post' b1 b2 b3 b4 ho' hm' hp' => ih post' b1 b2 b3 b4 ho' (by omega) hp')
theorem rp5 {ρ A1 A2 A3 A4 A5 : Type} (W : Nat → (ρ → Prop) → A1 → A2 → A3 → A4 → A5 → Prop) (ok : A1 → A2 → A3 → A4 → A5 → Prop) (μ : A1 → A2 → A3 → A4 → A5 → Nat) (val : A1 → A2 → A3 → A4 → A5 → ρ)
    (hs : ∀ (d : Nat) (post : ρ → Prop) (a1 : A1) (a2 : A2) (a3 : A3) (a4 : A4) (a5 : A5), ok a1 a2 a3 a4 a5 → post (val a1 a2 a3 a4 a5) → (∀ (post' : ρ → Prop) (b1 : A1) (b2 : A2) (b3 : A3) (b4 : A4) (b5 : A5), ok b1 b2 b3 b4 b5 → μ b1 b2 b3 b4 b5 < μ a1 a2 a3 a4 a5 → post' (val b1 b2 b3 b4 b5) → W d post' b1 b2 b3 b4 b5) → W (d + 1) post a1 a2 a3 a4 a5) :
    ∀ (d : Nat) (post : ρ → Prop) (a1 : A1) (a2 : A2) (a3 : A3) (a4 : A4) (a5 : A5), ok a1 a2 a3 a4 a5 → μ a1 a2 a3 a4 a5 < d → post (val a1 a2 a3 a4 a5) → W d post a1 a2 a3 a4 a5 := by
  intro d
  induction d with
  | zero => intro post a1 a2 a3 a4 a5 _ h; omega
  | succ d ih =>
    intro post a1 a2 a3 a4 a5 ho hm hp
    exact hs d post a1 a2 a3 a4 a5 ho hp (fun post' b1 b2 b3 b4 b5 ho' hm' hp' => ih post' b1 b2 b3 b4 b5 ho' (by omega) hp')
theorem rp6 {ρ A1 A2 A3 A4 A5 A6 : Type} (W : Nat → (ρ → Prop) → A1 → A2 → A3 → A4 → A5 → A6 → Prop) (ok : A1 → A2 → A3 → A4 → A5 → A6 → Prop) (μ : A1 → A2 → A3 → A4 → A5 → A6 → Nat) (val : A1 → A2 → A3 → A4 → A5 → A6 → ρ)
    (hs : ∀ (d : Nat) (post : ρ → Prop) (a1 : A1) (a2 : A2) (a3 : A3) (a4 : A4) (a5 : A5) (a6 : A6), ok a1 a2 a3 a4 a5 a6 → post (val a1 a2 a3 a4 a5 a6) → (∀ (post' : ρ → Prop) (b1 : A1) (b2 : A2) (b3 : A3) (b4 : A4) (b5 : A5) (b6 : A6), ok b1 b2 b3 b4 b5 b6 → μ b1 b2 b3 b4 b5 b6 < μ a1 a2 a3 a4 a5 a6 → post' (val b1 b2 b3 b4 b5 b6) → W d post' b1 b2 b3 b4 b5 b6) → W (d + 1) post a1 a2 a3 a4 a5 a6) :
    ∀ (d : Nat) (post : ρ → Prop) (a1 : A1) (a2 : A2) (a3 : A3) (a4 : A4) (a5 : A5) (a6 : A6), ok a1 a2 a3 a4 a5 a6 → μ a1 a2 a3 a4 a5 a6 < d → post (val a1 a2 a3 a4 a5 a6) → W d post a1 a2 a3 a4 a5 a6 := by
  intro d
  induction d with
  | zero => intro post a1 a2 a3 a4 a5 a6 _ h; omega
  | succ d ih =>
    intro post a1 a2 a3 a4 a5 a6 ho hm hp
    exact hs d post a1 a2 a3 a4 a5 a6 ho hp (fun post' b1 b2 b3 b4 b5 b6 ho' hm' hp' => ih post' b1 b2 b3 b4 b5 b6 ho' (by omega) hp')
theorem rec_p {σ ρ : Type} (W : Nat → (ρ → Prop) → σ → Prop) (ok : σ → Prop) (μ : σ → Nat) (val : σ → ρ)
    (hs : ∀ d s post, ok s → post (val s) → (∀ s' post', ok s' → μ s' < μ s → post' (val s') → W d post' s') → W (d + 1) post s) :
    ∀ d s post, ok s → μ s < d → post (val s) → W d post s := by
  intro d
  induction d with
  | zero => intro s post _ h; omega
  | succ d ih =>
    intro s post ho hm hp
    exact hs d s post ho hp (fun s' post' ho' hm' hp' => ih s' post' ho' (by omega) hp')
theorem rec_q {σ ρ : Type} (W : Nat → (ρ → Prop) → σ → Prop) (ok : σ → Prop) (μ : σ → Nat) (Q : σ → ρ → Prop)
    (hs : ∀ d s post, ok s → (∀ r, Q s r → post r) → (∀ s' post', ok s' → μ s' < μ s → (∀ r, Q s' r → post' r) → W d post' s') → W (d + 1) post s) :
    ∀ d s post, ok s → μ s < d → (∀ r, Q s r → post r) → W d post s := by
  intro d
  induction d with
  | zero => intro s post _ h; omega
  | succ d ih =>
    intro s post ho hm hp
    exact hs d s post ho hp (fun s' post' ho' hm' hp' => ih s' post' ho' (by omega) hp')
def bx_sum (f : Nat → Int32) : Nat → Int32
  | 0 => 0
  | n + 1 => bx_sum f n + f n
theorem ek_u {A : Prop} {B : Nat → Prop} {k N : Nat} (hk : k < N) (h : B k) : (some k = none → A) ∧ (∀ y : Nat, some k = some y → (y < N ∧ B y)) :=
  ⟨fun z => absurd z (Option.some_ne_none k), fun _ e => (by cases e; exact ⟨hk, h⟩)⟩
theorem ek_nu {A : Prop} {B : Nat → Prop} (h : A) : ((none : Option Nat) = none → A) ∧ (∀ y : Nat, (none : Option Nat) = some y → B y) :=
  ⟨fun _ => h, fun _ e => (by cases e)⟩
theorem ek_if {c d A B : Prop} (e : c ↔ d) (f : d → A) (g : ¬ d → B) : (c → A) ∧ (¬ c → B) :=
  ⟨fun z => f (e.mp z), fun z => g (fun y => z (e.mpr y))⟩
theorem ek_v {α : Sort _} {P : α → Prop} {a b : α} (e : a = b) (h : P b) : P a := e ▸ h
theorem co_some {x : Option Nat} {A : Prop} {B : Nat → Prop} (i : Nat) (h : B i) (hx : x = some i := by rfl) : (x = none → A) ∧ (∀ y : Nat, x = some y → B y) := by
  subst hx
  exact ⟨fun e => (nomatch e), fun y e => Option.some.inj e ▸ h⟩
theorem co_none {x : Option Nat} {A : Prop} {B : Nat → Prop} (h : A) (hx : x = none := by rfl) : (x = none → A) ∧ (∀ y : Nat, x = some y → B y) := by
  subst hx
  exact ⟨fun _ => h, fun y e => (nomatch e)⟩
theorem co_any {x : Option Nat} {A : Prop} {B : Nat → Prop} (hn : x = none → A) (hs : ∀ i : Nat, x = some i → B i) : (x = none → A) ∧ (∀ y : Nat, x = some y → B y) := ⟨hn, hs⟩
theorem co_2 {P : Nat → Prop} (h0 : P 0) (h1 : P 1) {i : Nat} (hi : i < 2) : P i :=
  match i, hi with
  | 0, _ => h0
  | 1, _ => h1
theorem co_3 {P : Nat → Prop} (h0 : P 0) (h1 : P 1) (h2 : P 2) {i : Nat} (hi : i < 3) : P i :=
  match i, hi with
  | 0, _ => h0
  | 1, _ => h1
  | 2, _ => h2
theorem co_4 {P : Nat → Prop} (h0 : P 0) (h1 : P 1) (h2 : P 2) (h3 : P 3) {i : Nat} (hi : i < 4) : P i :=
  match i, hi with
  | 0, _ => h0
  | 1, _ => h1
  | 2, _ => h2
  | 3, _ => h3
theorem co_dec {N : Nat} {P : Nat → Prop} [DecidablePred P] (h : (List.range N).all (fun i => decide (P i)) = true) {i : Nat} (hi : i < N) : P i := by
  have := List.all_eq_true.mp h i (List.mem_range.mpr hi)
  exact of_decide_eq_true this
theorem co_tab {α : Type} {l : List α} {d : α} {P : α → Prop} (h : ∀ a, a ∈ l → P a) {i : Nat} (hi : i < l.length) : P (l.getD i d) := by
  rw [List.getD_eq_getElem?_getD, List.getElem?_eq_getElem hi]
  exact h _ (List.getElem_mem hi)
theorem pk_mu {x : Int32} {L : Nat} (h0 : ¬ x < 0) (h : ¬ nI L ≤ x) (hL : L < 2 ^ 31) : ∃ j : Nat, j < L ∧ x = nI j ∧ x + 1 = nI (j + 1) ∧ x.toNatClampNeg = j ∧ L - (x + 1).toNatClampNeg < L - x.toNatClampNeg := by
  obtain ⟨j, hj, rfl⟩ := nI_of h0
  have hl : j < L := Nat.not_le.mp fun q => h (nI_le q hj)
  refine ⟨j, hl, rfl, nI_1 j, nI_clamp hj, ?_⟩
  rw [nI_1, nI_clamp (by omega), nI_clamp hj]
  omega
theorem op_s {α : Type} {r : Option α} {A : Prop} {B : α → Prop} {y : α} (h : r = some y) (b : B y) : (r = none → A) ∧ ∀ z, r = some z → B z :=
  ⟨fun e => (by rw [h] at e; cases e), fun z e => (by rw [h] at e; cases e; exact b)⟩
def l_holds {α : Type} (a : Nat → Option Nat) (LP : List Nat) (p : Nat → α) (c : Nat) (b : Nat → α) : Prop :=
  ∀ j, j < c → ∃ y, a j = some y ∧ y ∈ LP ∧ p y = b j
theorem l_holds_0 {α : Type} {a : Nat → Option Nat} {LP : List Nat} {p b : Nat → α} : l_holds a LP p 0 b := fun j h => absurd h (Nat.not_lt_zero j)
theorem l_in_new (LP : List Nat) (q : Nat) : q ∈ LP ++ [q] := List.mem_append.mpr (Or.inr (List.mem_singleton.mpr rfl))
def l_sum (b : Nat → Int32) : Nat → Int32
  | 0 => 0
  | k + 1 => l_sum b k + b k
theorem sb_shr0 (x : Int32) : x >>> ((0 : Int32) &&& 31) = x := by
  rw [show ((0 : Int32) &&& 31) = 0 by decide]
  simp
theorem sb_shl0 (x : Int32) : x <<< ((0 : Int32) &&& 31) = x := by
  rw [show ((0 : Int32) &&& 31) = 0 by decide]
  simp
theorem sb_cl0 : (0 : Int32).toNatClampNeg = 0 := by decide
theorem sb_m1 {p : Nat} (h : 0 < p) : nI p + (-1) = nI (p - 1) := by
  obtain ⟨q, rfl⟩ : ∃ q, p = q + 1 := ⟨p - 1, by omega⟩
  exact pk_m1 q
def sb_b (c : Nat) : Int32 := (nI c).toInt8.toInt32
theorem sb_byte : ∀ c, c < 256 → sb_b c &&& 255 = nI c ∧ ((nI c).toUInt32 % 65536).toInt32 = nI c ∧ nI c ≤ 255 := by decide +kernel
def sb_Fit (a : Nat → Int32) : Prop := ∀ j, fits .byte (.int (a j)) = true
def sb_Lat (t : Nat → Nat) (n : Nat) (a : Nat → Int32) : Prop := ∀ j, j < n → t j < 256 ∧ a j = sb_b (t j)
theorem sb_fitB (c : Nat) : fits .byte (.int (sb_b c)) = true := pk_fb _
theorem sb_fit0 : sb_Fit (fun _ => 0) := fun _ => by
  show fits .byte (.int 0) = true
  decide
theorem sb_fitU {a : Nat → Int32} {k : Nat} {x : Int32} (h : sb_Fit a) (hx : fits .byte (.int x) = true) : sb_Fit (upd a k x) := by
  intro j
  by_cases e : j = k
  · subst e
    rw [pk_us]
    exact hx
  · rw [pk_un e]
    exact h j
def sb_cat (t : Nat → Nat) (n : Nat) (s : Nat → Nat) : Nat → Nat := fun j => if j < n then t j else s (j - n)
theorem sb_cat_lo {t s : Nat → Nat} {n j : Nat} (h : j < n) : sb_cat t n s j = t j := if_pos h
theorem sb_cat_hi {t s : Nat → Nat} {n j : Nat} : sb_cat t n s (n + j) = s j := by
  show (if n + j < n then t (n + j) else s (n + j - n)) = s j
  rw [if_neg (by omega), Nat.add_sub_cancel_left]
theorem sb_latPut {t s : Nat → Nat} {n w : Nat} {a a' : Nat → Int32} (h : sb_Lat t n a) (hk : ∀ j, j < n → a' j = a j) (hs : ∀ i, i < w → s i < 256 ∧ a' (n + i) = sb_b (s i)) : sb_Lat (sb_cat t n s) (n + w) a' := by
  intro j hj
  by_cases e : j < n
  · rw [sb_cat_lo e, hk j e]
    exact h j e
  · obtain ⟨i, rfl⟩ : ∃ i, j = n + i := ⟨j - n, by omega⟩
    rw [sb_cat_hi]
    exact hs i (by omega)
theorem sb_latKeep {t : Nat → Nat} {n : Nat} {a a' : Nat → Int32} (h : sb_Lat t n a) (hk : ∀ j, j < n → a' j = a j) : sb_Lat t n a' := fun j hj => by
  rw [hk j hj]
  exact h j hj
def sb_cap (q m : Nat) : Nat := if q ≤ m then m else if 2 * m + 2 < q then q else 2 * m + 2
def sb_Room (q m mc ms : Nat) : Prop := q ≤ m ∨ (1 ≤ mc ∧ sb_cap q m ≤ ms ∧ sb_cap q m ≤ 65536)
theorem sb_cap_ge (q m : Nat) : q ≤ sb_cap q m := by
  unfold sb_cap
  split
  · omega
  · split <;> omega
theorem sb_cap_gem (q m : Nat) : m ≤ sb_cap q m := by
  unfold sb_cap
  split
  · omega
  · split <;> omega
theorem sb_cap_le {q m mc ms : Nat} (hm : m ≤ 65536) (hr : sb_Room q m mc ms) : sb_cap q m ≤ 65536 := by
  rcases hr with h | h
  · rw [sb_cap, if_pos h]
    exact hm
  · exact h.2.2
theorem sb_at {P : Int32 → Prop} {x y : Int32} (e : x = y) (h : P y) : P x := e ▸ h
def sb_dg (w : Nat) : Nat := if w < 10 then 1 else if w < 100 then 2 else if w < 1000 then 3 else if w < 10000 then 4 else if w < 100000 then 5 else if w < 1000000 then 6 else if w < 10000000 then 7 else if w < 100000000 then 8 else if w < 1000000000 then 9 else 10
def sb_dec (v : Nat) : Nat → Nat := fun i => 48 + v / 10 ^ (sb_dg v - 1 - i) % 10
theorem sb_dg_in (w : Nat) : 1 ≤ sb_dg w ∧ sb_dg w ≤ 10 := by
  unfold sb_dg
  constructor <;> (repeat' split) <;> omega
theorem sb_dg100 {w : Nat} (h : 100 ≤ w) (hw : w < 2 ^ 31) : sb_dg w = sb_dg (w / 100) + 2 := by
  rw [sb_dg, sb_dg, if_neg (show ¬ w < 10 by omega), if_neg (show ¬ w < 100 by omega)]
  by_cases h3 : w < 1000
  · rw [if_pos h3, if_pos (show w / 100 < 10 by omega)]
  rw [if_neg h3, if_neg (show ¬ w / 100 < 10 by omega)]
  by_cases h4 : w < 10000
  · rw [if_pos h4, if_pos (show w / 100 < 100 by omega)]
  rw [if_neg h4, if_neg (show ¬ w / 100 < 100 by omega)]
  by_cases h5 : w < 100000
  · rw [if_pos h5, if_pos (show w / 100 < 1000 by omega)]
  rw [if_neg h5, if_neg (show ¬ w / 100 < 1000 by omega)]
  by_cases h6 : w < 1000000
  · rw [if_pos h6, if_pos (show w / 100 < 10000 by omega)]
  rw [if_neg h6, if_neg (show ¬ w / 100 < 10000 by omega)]
  by_cases h7 : w < 10000000
  · rw [if_pos h7, if_pos (show w / 100 < 100000 by omega)]
  rw [if_neg h7, if_neg (show ¬ w / 100 < 100000 by omega)]
  by_cases h8 : w < 100000000
  · rw [if_pos h8, if_pos (show w / 100 < 1000000 by omega)]
  rw [if_neg h8, if_neg (show ¬ w / 100 < 1000000 by omega)]
  by_cases h9 : w < 1000000000
  · rw [if_pos h9, if_pos (show w / 100 < 10000000 by omega)]
  rw [if_neg h9, if_neg (show ¬ w / 100 < 10000000 by omega)]
  rw [if_pos (show w / 100 < 100000000 by omega)]
theorem sb_negT {w : Nat} (h : w < 2 ^ 31) : (-nI w).toInt = -(w : Int) := by
  rw [Int32.toInt_neg, nI_toInt h]
  exact Int.bmod_eq_of_le (by omega) (by omega)
theorem sb_nle {a b : Nat} (ha : a < 2 ^ 31) (hb : b < 2 ^ 31) : -nI a ≤ -nI b ↔ b ≤ a := by
  rw [Int32.le_iff_toInt_le, sb_negT ha, sb_negT hb]
  omega
theorem sb_nlt {a b : Nat} (ha : a < 2 ^ 31) (hb : b < 2 ^ 31) : -nI a < -nI b ↔ b < a := by
  rw [Int32.lt_iff_toInt_lt, sb_negT ha, sb_negT hb]
  omega
theorem sb_cmp {A B : Prop} {x : Int32} (v c : Nat) (f : c ≤ v → A) (g : v < c → B) (hv : v < 2 ^ 31) (hx : x = -nI c := by rfl) (hc : c < 2 ^ 31 := by omega) : (-nI v ≤ x → A) ∧ (¬ -nI v ≤ x → B) := by
  subst hx
  rw [sb_nle hv hc]
  exact ⟨f, fun z => g (by omega)⟩
theorem sb_ndiv {w : Nat} (hw : w < 2 ^ 31) : (-nI w) / 100 = -nI (w / 100) := by
  apply Int32.toInt_inj.mp
  have h100 : (100 : Int32).toInt = 100 := by decide
  rw [Int32.toInt_div, sb_negT hw, h100, sb_negT (by omega), Int.neg_tdiv, Int.tdiv_eq_ediv_of_nonneg (by omega), Int.bmod_eq_of_le (by omega) (by omega)]
  omega
theorem sb_nrem {w : Nat} (hw : w < 2 ^ 31) : (-nI (w / 100)) * 100 - (-nI w) = nI (w % 100) := by
  have h := pk_rem (a := w) (d := 100) hw (by decide) (by decide)
  rw [pk_div hw (by decide) (by decide)] at h
  rw [← h]
  show (-nI (w / 100)) * nI 100 - (-nI w) = nI w - nI (w / 100) * nI 100
  rw [Int32.neg_mul, Int32.sub_neg, Int32.add_comm, ← Int32.sub_eq_add_neg]
end
section
/-! paths, contents, the view of a tree: pure -/
def ty_ch (I : Nat → Int32) (c n : Nat) : Nat := (I (4 * c + n)).toNatClampNeg
def ty_rt (R : Nat → Int32) (t : Nat) : Nat := (R t).toNatClampNeg
def ty_lv (p : Nat) : Nat := if p < 4 then 1 else if p < 20 then 2 else 3
def ty_nm (p k : Nat) : Nat := if p < 4 then p else if p < 20 then (if k = 0 then (p - 4) / 4 else p % 4) else (if k = 0 then (p - 20) / 16 else if k = 1 then (p - 20) / 4 % 4 else p % 4)
def ty_an (I : Nat → Int32) (r p : Nat) : Nat → Nat
  | 0 => r
  | k + 1 => ty_ch I (ty_an I r p k) (ty_nm p k)
def ty_at (I : Nat → Int32) (r p : Nat) : Nat := if p < 84 then ty_an I r p (ty_lv p) else 0
def ty_cl (p n : Nat) : Nat := if p < 4 then 4 + 4 * p + n else if p < 20 then 20 + 4 * (p - 4) + n else 1000
def ty_pt (p k : Nat) : Nat := if k = 0 then p else if k < 5 then ty_cl p (k - 1) else ty_cl (ty_cl p ((k - 5) / 4)) ((k - 5) % 4)
def ty_pr (I : Nat → Int32) (c k : Nat) : Nat := if k = 0 then c else if k < 5 then ty_ch I c (k - 1) else ty_ch I (ty_ch I c ((k - 5) / 4)) ((k - 5) % 4)
theorem ty_nm_lt {p : Nat} (hp : p < 84) (k : Nat) : ty_nm p k < 4 := by
  unfold ty_nm
  split
  · omega
  · split
    · split <;> omega
    · split
      · omega
      · split <;> omega
theorem ty_lv1 {p : Nat} (h : p < 4) : ty_lv p = 1 := if_pos h
theorem ty_lv2 {p : Nat} (h : ¬ p < 4) (h2 : p < 20) : ty_lv p = 2 := by unfold ty_lv; rw [if_neg h, if_pos h2]
theorem ty_lv3 {p : Nat} (h2 : ¬ p < 20) : ty_lv p = 3 := by unfold ty_lv; rw [if_neg (by omega), if_neg h2]
theorem ty_nm1 {a : Nat} (ha : a < 4) (k : Nat) : ty_nm a k = a := if_pos ha
theorem ty_nm20 {a b : Nat} (ha : a < 4) (hb : b < 4) : ty_nm (4 + 4 * a + b) 0 = a := by
  unfold ty_nm; rw [if_neg (by omega), if_pos (by omega), if_pos rfl]; omega
theorem ty_nm21 {a b : Nat} (ha : a < 4) (hb : b < 4) : ty_nm (4 + 4 * a + b) 1 = b := by
  unfold ty_nm; rw [if_neg (by omega), if_pos (by omega), if_neg (by omega)]; omega
theorem ty_nm30 {a b c : Nat} (ha : a < 4) (hb : b < 4) (hc : c < 4) : ty_nm (20 + 16 * a + 4 * b + c) 0 = a := by
  unfold ty_nm; rw [if_neg (by omega), if_neg (by omega), if_pos rfl]; omega
theorem ty_nm31 {a b c : Nat} (ha : a < 4) (hb : b < 4) (hc : c < 4) : ty_nm (20 + 16 * a + 4 * b + c) 1 = b := by
  unfold ty_nm; rw [if_neg (by omega), if_neg (by omega), if_neg (by omega), if_pos rfl]; omega
theorem ty_nm32 {a b c : Nat} (ha : a < 4) (hb : b < 4) (hc : c < 4) : ty_nm (20 + 16 * a + 4 * b + c) 2 = c := by
  unfold ty_nm; rw [if_neg (by omega), if_neg (by omega), if_neg (by omega), if_neg (by omega)]; omega
theorem ty_at1 (I : Nat → Int32) (r : Nat) {a : Nat} (ha : a < 4) : ty_at I r a = ty_ch I r a := by
  unfold ty_at; rw [if_pos (by omega), ty_lv1 ha]
  show ty_ch I r (ty_nm a 0) = _
  rw [ty_nm1 ha]
theorem ty_at2 (I : Nat → Int32) (r : Nat) {a b : Nat} (ha : a < 4) (hb : b < 4) : ty_at I r (4 + 4 * a + b) = ty_ch I (ty_ch I r a) b := by
  unfold ty_at; rw [if_pos (by omega), ty_lv2 (by omega) (by omega)]
  show ty_ch I (ty_ch I r (ty_nm _ 0)) (ty_nm _ 1) = _
  rw [ty_nm20 ha hb, ty_nm21 ha hb]
theorem ty_at3 (I : Nat → Int32) (r : Nat) {a b c : Nat} (ha : a < 4) (hb : b < 4) (hc : c < 4) : ty_at I r (20 + 16 * a + 4 * b + c) = ty_ch I (ty_ch I (ty_ch I r a) b) c := by
  unfold ty_at; rw [if_pos (by omega), ty_lv3 (by omega)]
  show ty_ch I (ty_ch I (ty_ch I r (ty_nm _ 0)) (ty_nm _ 1)) (ty_nm _ 2) = _
  rw [ty_nm30 ha hb hc, ty_nm31 ha hb hc, ty_nm32 ha hb hc]
theorem ty_atB (I : Nat → Int32) (r : Nat) {p : Nat} (h : 84 ≤ p) : ty_at I r p = 0 := if_neg (by omega)
theorem ty_cases {P : Nat → Prop} (h1 : ∀ a, a < 4 → P a) (h2 : ∀ a b, a < 4 → b < 4 → P (4 + 4 * a + b)) (h3 : ∀ a b c, a < 4 → b < 4 → c < 4 → P (20 + 16 * a + 4 * b + c)) : ∀ p, p < 84 → P p := by
  intro p hp
  by_cases c1 : p < 4
  · exact h1 p c1
  · by_cases c2 : p < 20
    · have h := h2 ((p - 4) / 4) ((p - 4) % 4) (by omega) (by omega)
      have e : 4 + 4 * ((p - 4) / 4) + (p - 4) % 4 = p := by omega
      rw [e] at h; exact h
    · have h := h3 ((p - 20) / 16) ((p - 20) / 4 % 4) ((p - 20) % 4) (by omega) (by omega) (by omega)
      have e : 20 + 16 * ((p - 20) / 16) + 4 * ((p - 20) / 4 % 4) + (p - 20) % 4 = p := by omega
      rw [e] at h; exact h
theorem ty_cl1 {a : Nat} (ha : a < 4) (n : Nat) : ty_cl a n = 4 + 4 * a + n := if_pos ha
theorem ty_cl2 {a b : Nat} (ha : a < 4) (hb : b < 4) (n : Nat) : ty_cl (4 + 4 * a + b) n = 20 + 16 * a + 4 * b + n := by
  unfold ty_cl; rw [if_neg (by omega), if_pos (by omega)]; omega
theorem ty_cl3 {p : Nat} (h : ¬ p < 20) (n : Nat) : ty_cl p n = 1000 := by
  unfold ty_cl; rw [if_neg (by omega), if_neg h]
theorem ty_cl_r {p n : Nat} (hn : n < 4) : ty_cl p n < 84 ∨ ty_cl p n = 1000 := by
  unfold ty_cl
  split
  · exact Or.inl (by omega)
  · split
    · exact Or.inl (by omega)
    · exact Or.inr rfl
theorem ty_pt_r {p k : Nat} (hp : p < 84) (hk : k < 21) : ty_pt p k < 84 ∨ ty_pt p k = 1000 := by
  unfold ty_pt
  split
  · exact Or.inl hp
  · split
    · exact ty_cl_r (by omega)
    · exact ty_cl_r (by omega)
theorem ty_pt0 (p : Nat) : ty_pt p 0 = p := rfl
theorem ty_pt1 (p : Nat) {n : Nat} (hn : n < 4) : ty_pt p (1 + n) = ty_cl p n := by
  unfold ty_pt; rw [if_neg (by omega), if_pos (by omega), Nat.add_sub_cancel_left]
theorem ty_pt2 (p : Nat) {n j : Nat} (hn : n < 4) (hj : j < 4) : ty_pt p (5 + 4 * n + j) = ty_cl (ty_cl p n) j := by
  unfold ty_pt; rw [if_neg (by omega), if_neg (by omega)]
  have e1 : (5 + 4 * n + j - 5) / 4 = n := by omega
  have e2 : (5 + 4 * n + j - 5) % 4 = j := by omega
  rw [e1, e2]
theorem ty_pr0 (I : Nat → Int32) (c : Nat) : ty_pr I c 0 = c := rfl
theorem ty_pr1 (I : Nat → Int32) (c : Nat) {n : Nat} (hn : n < 4) : ty_pr I c (1 + n) = ty_ch I c n := by
  unfold ty_pr; rw [if_neg (by omega), if_pos (by omega), Nat.add_sub_cancel_left]
theorem ty_pr2 (I : Nat → Int32) (c : Nat) {n j : Nat} (hn : n < 4) (hj : j < 4) : ty_pr I c (5 + 4 * n + j) = ty_ch I (ty_ch I c n) j := by
  unfold ty_pr; rw [if_neg (by omega), if_neg (by omega)]
  have e1 : (5 + 4 * n + j - 5) / 4 = n := by omega
  have e2 : (5 + 4 * n + j - 5) % 4 = j := by omega
  rw [e1, e2]
theorem ty_kcases {P : Nat → Prop} (h0 : P 0) (h1 : ∀ n, n < 4 → P (1 + n)) (h2 : ∀ n j, n < 4 → j < 4 → P (5 + 4 * n + j)) : ∀ k, k < 21 → P k := by
  intro k hk
  by_cases c0 : k = 0
  · rw [c0]; exact h0
  · by_cases c1 : k < 5
    · have h := h1 (k - 1) (by omega)
      have e : 1 + (k - 1) = k := by omega
      rw [e] at h; exact h
    · have h := h2 ((k - 5) / 4) ((k - 5) % 4) (by omega) (by omega)
      have e : 5 + 4 * ((k - 5) / 4) + (k - 5) % 4 = k := by omega
      rw [e] at h; exact h
theorem ty_pt_inj {p k j : Nat} (hp : p < 84) (hk : k < 21) (hj : j < 21) (h : ty_pt p k = ty_pt p j) (hb : ty_pt p k < 84) : k = j := by
  unfold ty_pt ty_cl at h hb
  repeat' split at h
  all_goals (repeat' split at hb)
  all_goals omega

/-- what the pool of contents keeps -/
def ty_Po (m : Nat) (K N I : Nat → Int32) : Prop :=
  1 ≤ m ∧ m ≤ 1024 ∧ K 0 = 0 ∧ (∀ n, n < 4 → I n = 0) ∧
  (∀ c, 1 ≤ c → c < m → (K c = 1 ∧ ∀ n, n < 4 → I (4 * c + n) = 0) ∨ (K c = 2 ∧ N c = 0)) ∧
  (∀ c, 1 ≤ c → c < m → ∀ n, n < 4 → ∃ j, j < c ∧ I (4 * c + n) = nI j) ∧
  (∀ c d, 1 ≤ c → c < m → 1 ≤ d → d < m → K c = K d → N c = N d → (∀ n, n < 4 → I (4 * c + n) = I (4 * d + n)) → c = d)
theorem ty_c0 : (0 : Int32).toNatClampNeg = 0 := by decide
section
variable {m : Nat} {K N I : Nat → Int32}
theorem ty_po_ch0 (P : ty_Po m K N I) {n : Nat} (hn : n < 4) : ty_ch I 0 n = 0 := by
  unfold ty_ch
  rw [Nat.mul_zero, Nat.zero_add, P.2.2.2.1 n hn]; exact ty_c0
theorem ty_po_ch (P : ty_Po m K N I) {c n : Nat} (hc : c < m) (hn : n < 4) : I (4 * c + n) = nI (ty_ch I c n) ∧ ty_ch I c n ≤ c ∧ ty_ch I c n < m ∧ (1 ≤ c → ty_ch I c n < c) := by
  by_cases c0 : c = 0
  · subst c0
    have e := ty_po_ch0 P hn
    refine ⟨?_, by omega, by omega, by omega⟩
    rw [e, nI_0, Nat.mul_zero, Nat.zero_add]; exact P.2.2.2.1 n hn
  · obtain ⟨j, hj, e⟩ := P.2.2.2.2.2.1 c (by omega) hc n hn
    have h1 := P.2.1
    have e2 : ty_ch I c n = j := by unfold ty_ch; rw [e]; exact nI_clamp (by omega)
    rw [e2]
    exact ⟨e, by omega, by omega, fun _ => hj⟩
theorem ty_po_lt (P : ty_Po m K N I) {c n : Nat} (hc : c < m) (hn : n < 4) : ty_ch I c n < m := (ty_po_ch P hc hn).2.2.1
theorem ty_K0 (P : ty_Po m K N I) {c : Nat} (hc : c < m) : K c = 0 ↔ c = 0 := by
  constructor
  · intro h
    by_cases c0 : c = 0
    · exact c0
    · rcases P.2.2.2.2.1 c (by omega) hc with z | z
      · rw [h] at z; exact absurd z.1 (by decide)
      · rw [h] at z; exact absurd z.1 (by decide)
  · intro h; rw [h]; exact P.2.2.1
theorem ty_K012 (P : ty_Po m K N I) {c : Nat} (hc : c < m) : K c = 0 ∨ K c = 1 ∨ K c = 2 := by
  by_cases c0 : c = 0
  · exact Or.inl ((ty_K0 P hc).mpr c0)
  · rcases P.2.2.2.2.1 c (by omega) hc with z | z
    · exact Or.inr (Or.inl z.1)
    · exact Or.inr (Or.inr z.1)
theorem ty_nof (P : ty_Po m K N I) {c n : Nat} (hc : c < m) (hn : n < 4) (h : K c ≠ 2) : ty_ch I c n = 0 := by
  by_cases c0 : c = 0
  · rw [c0]; exact ty_po_ch0 P hn
  · rcases P.2.2.2.2.1 c (by omega) hc with z | z
    · unfold ty_ch; rw [z.2 n hn]; exact ty_c0
    · exact absurd z.1 h
theorem ty_an_lt (P : ty_Po m K N I) {r p : Nat} (hr : r < m) (hp : p < 84) : ∀ k, ty_an I r p k < m
  | 0 => hr
  | k + 1 => ty_po_lt P (ty_an_lt P hr hp k) (ty_nm_lt hp k)
theorem ty_at_lt (P : ty_Po m K N I) {r : Nat} (hr : r < m) (p : Nat) : ty_at I r p < m := by
  unfold ty_at
  split
  · rename_i h; exact ty_an_lt P hr h _
  · have := P.1; omega
theorem ty_eqc (P : ty_Po m K N I) {c d : Nat} (hc : c < m) (hd : d < m) (hK : K c = K d) (hN : K c = 1 → N c = N d) (hch : ∀ n, n < 4 → ty_ch I c n = ty_ch I d n) : c = d := by
  by_cases c0 : c = 0
  · have := (ty_K0 P hd).mp (by rw [← hK]; exact (ty_K0 P hc).mpr c0); omega
  by_cases d0 : d = 0
  · have := (ty_K0 P hc).mp (by rw [hK]; exact (ty_K0 P hd).mpr d0); omega
  refine P.2.2.2.2.2.2 c d (by omega) hc (by omega) hd hK ?_ ?_
  · rcases P.2.2.2.2.1 c (by omega) hc with z | z
    · exact hN z.1
    · rcases P.2.2.2.2.1 d (by omega) hd with w | w
      · rw [hK, w.1] at z; exact absurd z.1 (by decide)
      · rw [z.2, w.2]
  · intro n hn
    rw [(ty_po_ch P hc hn).1, (ty_po_ch P hd hn).1, hch n hn]
/-- at most d levels of contents in one -/
def ty_Hd (I : Nat → Int32) : Nat → Nat → Prop
  | 0, c => ∀ n, n < 4 → ty_ch I c n = 0
  | d + 1, c => ∀ n, n < 4 → ty_Hd I d (ty_ch I c n)
theorem ty_Hd0 (P : ty_Po m K N I) : ∀ d, ty_Hd I d 0
  | 0 => fun _ hn => ty_po_ch0 P hn
  | d + 1 => fun n hn => by rw [ty_po_ch0 P hn]; exact ty_Hd0 P d
theorem ty_HdS (P : ty_Po m K N I) : ∀ d c, ty_Hd I d c → ty_Hd I (d + 1) c
  | 0, c, h => fun n hn => by rw [h n hn]; exact ty_Hd0 P 0
  | d + 1, c, h => fun n hn => ty_HdS P d _ (h n hn)
theorem ty_Hd2 (P : ty_Po m K N I) {r : Nat} (h : ty_Hd I 3 r) : ∀ p, p < 84 → ty_Hd I 2 (ty_at I r p) := by
  refine ty_cases ?_ ?_ ?_
  · intro a ha; rw [ty_at1 I r ha]; exact h a ha
  · intro a b ha hb; rw [ty_at2 I r ha hb]; exact ty_HdS P _ _ (h a ha b hb)
  · intro a b c ha hb hc; rw [ty_at3 I r ha hb hc]; exact ty_HdS P _ _ (ty_HdS P _ _ (h a ha b hb c hc))
theorem ty_HdL {r : Nat} (h : ty_Hd I 3 r) : ∀ p, p < 84 → ty_Hd I (3 - ty_lv p) (ty_at I r p) := by
  refine ty_cases ?_ ?_ ?_
  · intro a ha; rw [ty_at1 I r ha, ty_lv1 ha]; exact h a ha
  · intro a b ha hb; rw [ty_at2 I r ha hb, ty_lv2 (by omega) (by omega)]; exact h a ha b hb
  · intro a b c ha hb hc; rw [ty_at3 I r ha hb hc, ty_lv3 (by omega)]; exact h a ha b hb c hc
theorem ty_at_cl (P : ty_Po m K N I) {r : Nat} (h : ty_Hd I 3 r) {p n : Nat} (hp : p < 84 ∨ p = 1000) (hn : n < 4) : ty_at I r (ty_cl p n) = ty_ch I (ty_at I r p) n := by
  rcases hp with hp | hp
  · refine ty_cases (P := fun p => ty_at I r (ty_cl p n) = ty_ch I (ty_at I r p) n) ?_ ?_ ?_ p hp
    · intro a ha; rw [ty_cl1 ha, ty_at2 I r ha hn, ty_at1 I r ha]
    · intro a b ha hb; rw [ty_cl2 ha hb, ty_at3 I r ha hb hn, ty_at2 I r ha hb]
    · intro a b c ha hb hc; rw [ty_cl3 (by omega), ty_atB I r (by omega), ty_at3 I r ha hb hc]; exact (h a ha b hb c hc n hn).symm
  · subst hp; rw [ty_cl3 (by omega), ty_atB I r (by omega)]; exact (ty_po_ch0 P hn).symm
theorem ty_at_pt (P : ty_Po m K N I) {r : Nat} (h : ty_Hd I 3 r) {p : Nat} (hp : p < 84) : ∀ k, k < 21 → ty_at I r (ty_pt p k) = ty_pr I (ty_at I r p) k := by
  refine ty_kcases ?_ ?_ ?_
  · rw [ty_pt0, ty_pr0]
  · intro n hn; rw [ty_pt1 p hn, ty_pr1 _ _ hn, ty_at_cl P h (Or.inl hp) hn]
  · intro n j hn hj; rw [ty_pt2 p hn hj, ty_pr2 _ _ hn hj, ty_at_cl P h (ty_cl_r hn) hj, ty_at_cl P h (Or.inl hp) hn]
theorem ty_eqp (P : ty_Po m K N I) {c d : Nat} (hc : c < m) (hd : d < m) (h2c : ty_Hd I 2 c) (h2d : ty_Hd I 2 d) (h : ∀ k, k < 21 → K (ty_pr I c k) = K (ty_pr I d k) ∧ (K (ty_pr I c k) = 1 → N (ty_pr I c k) = N (ty_pr I d k))) : c = d := by
  refine ty_eqc P hc hd (h 0 (by omega)).1 (h 0 (by omega)).2 fun n hn => ?_
  have h1 := h (1 + n) (by omega)
  rw [ty_pr1 _ _ hn, ty_pr1 _ _ hn] at h1
  refine ty_eqc P (ty_po_lt P hc hn) (ty_po_lt P hd hn) h1.1 h1.2 fun j hj => ?_
  have h3 := h (5 + 4 * n + j) (by omega)
  rw [ty_pr2 _ _ hn hj, ty_pr2 _ _ hn hj] at h3
  refine ty_eqc P (ty_po_lt P (ty_po_lt P hc hn) hj) (ty_po_lt P (ty_po_lt P hd hn) hj) h3.1 h3.2 fun i hi => ?_
  rw [h2c n hn j hj i hi, h2d n hn j hj i hi]
theorem ty_pr_lt (P : ty_Po m K N I) {c : Nat} (hc : c < m) : ∀ k, k < 21 → ty_pr I c k < m := by
  refine ty_kcases ?_ ?_ ?_
  · exact hc
  · intro n hn; rw [ty_pr1 _ _ hn]; exact ty_po_lt P hc hn
  · intro n j hn hj; rw [ty_pr2 _ _ hn hj]; exact ty_po_lt P (ty_po_lt P hc hn) hj
end
end
section
/-! a larger pool; a tree with another content at a path -/
def ty_Ex (m : Nat) (K N I : Nat → Int32) (m' : Nat) (K' N' I' : Nat → Int32) : Prop :=
  m ≤ m' ∧ ∀ i, (i < m ∨ m' ≤ i) → K' i = K i ∧ N' i = N i ∧ ∀ n, n < 4 → I' (4 * i + n) = I (4 * i + n)
theorem ty_Ex_rf (m : Nat) (K N I : Nat → Int32) : ty_Ex m K N I m K N I := ⟨Nat.le_refl _, fun _ _ => ⟨rfl, rfl, fun _ _ => rfl⟩⟩
theorem ty_Ex_tr {m : Nat} {K N I : Nat → Int32} {m1 : Nat} {K1 N1 I1 : Nat → Int32} {m2 : Nat} {K2 N2 I2 : Nat → Int32} (h : ty_Ex m K N I m1 K1 N1 I1) (g : ty_Ex m1 K1 N1 I1 m2 K2 N2 I2) : ty_Ex m K N I m2 K2 N2 I2 := by
  have h1 := h.1
  have g1 := g.1
  refine ⟨by omega, fun i hi => ?_⟩
  have a := h.2 i (by omega)
  have b := g.2 i (by omega)
  exact ⟨b.1.trans a.1, b.2.1.trans a.2.1, fun n hn => (b.2.2 n hn).trans (a.2.2 n hn)⟩
section
variable {m : Nat} {K N I : Nat → Int32} {m' : Nat} {K' N' I' : Nat → Int32}
theorem ty_ex_K (E : ty_Ex m K N I m' K' N' I') {c : Nat} (hc : c < m) : K' c = K c := (E.2 c (Or.inl hc)).1
theorem ty_ex_N (E : ty_Ex m K N I m' K' N' I') {c : Nat} (hc : c < m) : N' c = N c := (E.2 c (Or.inl hc)).2.1
theorem ty_ex_ch (E : ty_Ex m K N I m' K' N' I') {c n : Nat} (hc : c < m) (hn : n < 4) : ty_ch I' c n = ty_ch I c n := by
  unfold ty_ch; rw [(E.2 c (Or.inl hc)).2.2 n hn]
theorem ty_ex_an (P : ty_Po m K N I) (E : ty_Ex m K N I m' K' N' I') {r p : Nat} (hr : r < m) (hp : p < 84) : ∀ k, ty_an I' r p k = ty_an I r p k
  | 0 => rfl
  | k + 1 => by
    show ty_ch I' (ty_an I' r p k) _ = ty_ch I (ty_an I r p k) _
    rw [ty_ex_an P E hr hp k, ty_ex_ch E (ty_an_lt P hr hp k) (ty_nm_lt hp k)]
theorem ty_ex_at (P : ty_Po m K N I) (E : ty_Ex m K N I m' K' N' I') {r : Nat} (hr : r < m) (p : Nat) : ty_at I' r p = ty_at I r p := by
  unfold ty_at
  split
  · rename_i h; exact ty_ex_an P E hr h _
  · rfl
theorem ty_ex_Hd (P : ty_Po m K N I) (E : ty_Ex m K N I m' K' N' I') : ∀ d c, c < m → ty_Hd I d c → ty_Hd I' d c
  | 0, c, hc, h => fun n hn => by rw [ty_ex_ch E hc hn]; exact h n hn
  | d + 1, c, hc, h => fun n hn => by rw [ty_ex_ch E hc hn]; exact ty_ex_Hd P E d _ (ty_po_lt P hc hn) (h n hn)
theorem ty_ex_pr (P : ty_Po m K N I) (E : ty_Ex m K N I m' K' N' I') {c : Nat} (hc : c < m) : ∀ k, k < 21 → ty_pr I' c k = ty_pr I c k := by
  refine ty_kcases ?_ ?_ ?_
  · rw [ty_pr0, ty_pr0]
  · intro n hn; rw [ty_pr1 _ _ hn, ty_pr1 _ _ hn, ty_ex_ch E hc hn]
  · intro n j hn hj; rw [ty_pr2 _ _ hn hj, ty_pr2 _ _ hn hj, ty_ex_ch E hc hn, ty_ex_ch E (ty_po_lt P hc hn) hj]
end
/-- one tree: the content r looks like the rows a (kinds), b (numbers) -/
def ty_T1 (m : Nat) (K N I : Nat → Int32) (r : Nat) (a b : Nat → Int32) : Prop :=
  r < m ∧ K r = 2 ∧ ty_Hd I 3 r ∧ ∀ p, p < 84 → a p = K (ty_at I r p) ∧ (a p = 1 → b p = N (ty_at I r p))
/-- all nine trees -/
def ty_Tr (m : Nat) (K N I R A B : Nat → Int32) : Prop :=
  ∀ t, t < 9 → R t = nI (ty_rt R t) ∧ ty_T1 m K N I (ty_rt R t) (fun p => A (84 * t + p)) (fun p => B (84 * t + p))
theorem ty_T1_ex {m : Nat} {K N I : Nat → Int32} {m' : Nat} {K' N' I' : Nat → Int32} (P : ty_Po m K N I) (E : ty_Ex m K N I m' K' N' I') {r : Nat} {a b : Nat → Int32} (h : ty_T1 m K N I r a b) : ty_T1 m' K' N' I' r a b := by
  have e := E.1
  have hr := h.1
  refine ⟨by omega, (ty_ex_K E hr).trans h.2.1, ty_ex_Hd P E _ _ hr h.2.2.1, fun p hp => ?_⟩
  rw [ty_ex_at P E hr, ty_ex_K E (ty_at_lt P hr p), ty_ex_N E (ty_at_lt P hr p)]
  exact h.2.2.2 p hp
theorem ty_Tr_ex {m : Nat} {K N I : Nat → Int32} {m' : Nat} {K' N' I' : Nat → Int32} {R A B : Nat → Int32} (P : ty_Po m K N I) (E : ty_Ex m K N I m' K' N' I') (h : ty_Tr m K N I R A B) : ty_Tr m' K' N' I' R A B :=
  fun t ht => ⟨(h t ht).1, ty_T1_ex P E (h t ht).2⟩
theorem ty_T1_cg {m : Nat} {K N I : Nat → Int32} {r : Nat} {a b a' b' : Nat → Int32} (h : ty_T1 m K N I r a b) (ha : ∀ p, p < 84 → a' p = a p) (hb : ∀ p, p < 84 → b' p = b p) : ty_T1 m K N I r a' b' :=
  ⟨h.1, h.2.1, h.2.2.1, fun p hp => by rw [ha p hp, hb p hp]; exact h.2.2.2 p hp⟩
/-- the contents from a level on down to the path: s j at level j, c at the path -/
def ty_Sq (m' : Nat) (K' I' I : Nat → Int32) (r p c k : Nat) (s : Nat → Nat) : Prop :=
  s (ty_lv p) = c ∧ ∀ j, k ≤ j → j < ty_lv p → s j < m' ∧ K' (s j) = 2 ∧ ∀ n, n < 4 → ty_ch I' (s j) n = if n = ty_nm p j then s (j + 1) else ty_ch I (ty_an I r p j) n
/-- the folders on the way -/
def ty_Fo (K I : Nat → Int32) (r p : Nat) : Prop := ∀ j, 1 ≤ j → j < ty_lv p → K (ty_an I r p j) = 2
section
variable {m : Nat} {K N I : Nat → Int32} {m' : Nat} {K' N' I' : Nat → Int32}
theorem ty_set1 (P : ty_Po m K N I) (E : ty_Ex m K N I m' K' N' I') {r c f a : Nat} (ha : a < 4) (hr : r < m)
    (hf : ∀ n, n < 4 → ty_ch I' f n = if n = a then c else ty_ch I r n) (h3 : ty_Hd I 3 r) (hc : ty_Hd I' 2 c) :
    ty_Hd I' 3 f ∧ ty_at I' f a = c ∧ ∀ q, q < 84 → (∀ k, k < 21 → q ≠ ty_pt a k) → ty_at I' f q = ty_at I r q := by
  refine ⟨?_, ?_, ?_⟩
  · intro n hn
    rw [hf n hn]
    split
    · exact hc
    · exact ty_ex_Hd P E _ _ (ty_po_lt P hr hn) (h3 n hn)
  · rw [ty_at1 _ _ ha, hf a ha, if_pos rfl]
  · refine ty_cases ?_ ?_ ?_
    · intro x hx hq
      rw [ty_at1 _ _ hx, ty_at1 _ _ hx, hf x hx, if_neg (show ¬ x = a from fun e => hq 0 (by omega) e)]
    · intro x y hx hy hq
      have hne : ¬ x = a := by
        intro e; subst e
        exact hq (1 + y) (by omega) (by rw [ty_pt1 _ hy, ty_cl1 hx])
      rw [ty_at2 _ _ hx hy, ty_at2 _ _ hx hy, hf x hx, if_neg hne, ty_ex_ch E (ty_po_lt P hr hx) hy]
    · intro x y z hx hy hz hq
      have hne : ¬ x = a := by
        intro e; subst e
        exact hq (5 + 4 * y + z) (by omega) (by rw [ty_pt2 _ hy hz, ty_cl1 hx, ty_cl2 hx hy])
      rw [ty_at3 _ _ hx hy hz, ty_at3 _ _ hx hy hz, hf x hx, if_neg hne, ty_ex_ch E (ty_po_lt P hr hx) hy, ty_ex_ch E (ty_po_lt P (ty_po_lt P hr hx) hy) hz]
theorem ty_set2 (P : ty_Po m K N I) (E : ty_Ex m K N I m' K' N' I') {r c f g a b : Nat} (ha : a < 4) (hb : b < 4) (hr : r < m)
    (hf : ∀ n, n < 4 → ty_ch I' f n = if n = a then g else ty_ch I r n)
    (hg : ∀ n, n < 4 → ty_ch I' g n = if n = b then c else ty_ch I (ty_ch I r a) n)
    (h3 : ty_Hd I 3 r) (hc : ty_Hd I' 1 c) :
    ty_Hd I' 3 f ∧ ty_at I' f (4 + 4 * a + b) = c ∧ ∀ q, q < 84 → (∀ k, k < 21 → q ≠ ty_pt (4 + 4 * a + b) k) → ty_at I' f q = ty_at I r q ∨ (ty_at I' f q = g ∧ ty_at I r q = ty_ch I r a) := by
  refine ⟨?_, ?_, ?_⟩
  · intro n hn
    rw [hf n hn]
    split
    · intro j hj
      rw [hg j hj]
      split
      · exact hc
      · exact ty_ex_Hd P E _ _ (ty_po_lt P (ty_po_lt P hr ha) hj) (h3 a ha j hj)
    · exact ty_ex_Hd P E _ _ (ty_po_lt P hr hn) (h3 n hn)
  · rw [ty_at2 _ _ ha hb, hf a ha, if_pos rfl, hg b hb, if_pos rfl]
  · refine ty_cases ?_ ?_ ?_
    · intro x hx hq
      rw [ty_at1 _ _ hx, ty_at1 _ _ hx, hf x hx]
      by_cases e : x = a
      · subst e; rw [if_pos rfl]; exact Or.inr ⟨rfl, rfl⟩
      · rw [if_neg e]; exact Or.inl rfl
    · intro x y hx hy hq
      rw [ty_at2 _ _ hx hy, ty_at2 _ _ hx hy, hf x hx]
      refine Or.inl ?_
      by_cases e : x = a
      · subst e
        rw [if_pos rfl, hg y hy, if_neg (show ¬ y = b from fun e2 => hq 0 (by omega) (by rw [ty_pt0, e2]))]
      · rw [if_neg e, ty_ex_ch E (ty_po_lt P hr hx) hy]
    · intro x y z hx hy hz hq
      rw [ty_at3 _ _ hx hy hz, ty_at3 _ _ hx hy hz, hf x hx]
      refine Or.inl ?_
      by_cases e : x = a
      · subst e
        have hne : ¬ y = b := by
          intro e2; subst e2
          exact hq (1 + z) (by omega) (by rw [ty_pt1 _ hz, ty_cl2 hx hy])
        rw [if_pos rfl, hg y hy, if_neg hne, ty_ex_ch E (ty_po_lt P (ty_po_lt P hr hx) hy) hz]
      · rw [if_neg e, ty_ex_ch E (ty_po_lt P hr hx) hy, ty_ex_ch E (ty_po_lt P (ty_po_lt P hr hx) hy) hz]
theorem ty_set3 (P : ty_Po m K N I) (E : ty_Ex m K N I m' K' N' I') {r c f g h a b d : Nat} (ha : a < 4) (hb : b < 4) (hd : d < 4) (hr : r < m)
    (hf : ∀ n, n < 4 → ty_ch I' f n = if n = a then g else ty_ch I r n)
    (hg : ∀ n, n < 4 → ty_ch I' g n = if n = b then h else ty_ch I (ty_ch I r a) n)
    (hh : ∀ n, n < 4 → ty_ch I' h n = if n = d then c else ty_ch I (ty_ch I (ty_ch I r a) b) n)
    (h3 : ty_Hd I 3 r) (hc : ty_Hd I' 0 c) :
    ty_Hd I' 3 f ∧ ty_at I' f (20 + 16 * a + 4 * b + d) = c ∧ ∀ q, q < 84 → (∀ k, k < 21 → q ≠ ty_pt (20 + 16 * a + 4 * b + d) k) → ty_at I' f q = ty_at I r q ∨ (ty_at I' f q = g ∧ ty_at I r q = ty_ch I r a) ∨ (ty_at I' f q = h ∧ ty_at I r q = ty_ch I (ty_ch I r a) b) := by
  refine ⟨?_, ?_, ?_⟩
  · intro n hn
    rw [hf n hn]
    split
    · intro j hj
      rw [hg j hj]
      split
      · intro i hi
        rw [hh i hi]
        split
        · exact hc
        · exact ty_ex_Hd P E _ _ (ty_po_lt P (ty_po_lt P (ty_po_lt P hr ha) hb) hi) (h3 a ha b hb i hi)
      · exact ty_ex_Hd P E _ _ (ty_po_lt P (ty_po_lt P hr ha) hj) (h3 a ha j hj)
    · exact ty_ex_Hd P E _ _ (ty_po_lt P hr hn) (h3 n hn)
  · rw [ty_at3 _ _ ha hb hd, hf a ha, if_pos rfl, hg b hb, if_pos rfl, hh d hd, if_pos rfl]
  · refine ty_cases ?_ ?_ ?_
    · intro x hx hq
      rw [ty_at1 _ _ hx, ty_at1 _ _ hx, hf x hx]
      by_cases e : x = a
      · subst e; rw [if_pos rfl]; exact Or.inr (Or.inl ⟨rfl, rfl⟩)
      · rw [if_neg e]; exact Or.inl rfl
    · intro x y hx hy hq
      rw [ty_at2 _ _ hx hy, ty_at2 _ _ hx hy, hf x hx]
      by_cases e : x = a
      · subst e
        rw [if_pos rfl, hg y hy]
        by_cases e2 : y = b
        · subst e2; rw [if_pos rfl]; exact Or.inr (Or.inr ⟨rfl, rfl⟩)
        · rw [if_neg e2]; exact Or.inl rfl
      · rw [if_neg e, ty_ex_ch E (ty_po_lt P hr hx) hy]; exact Or.inl rfl
    · intro x y z hx hy hz hq
      rw [ty_at3 _ _ hx hy hz, ty_at3 _ _ hx hy hz, hf x hx]
      refine Or.inl ?_
      by_cases e : x = a
      · subst e
        rw [if_pos rfl, hg y hy]
        by_cases e2 : y = b
        · subst e2
          rw [if_pos rfl, hh z hz, if_neg (show ¬ z = d from fun e3 => hq 0 (by omega) (by rw [ty_pt0, e3]))]
        · rw [if_neg e2, ty_ex_ch E (ty_po_lt P (ty_po_lt P hr hx) hy) hz]
      · rw [if_neg e, ty_ex_ch E (ty_po_lt P hr hx) hy, ty_ex_ch E (ty_po_lt P (ty_po_lt P hr hx) hy) hz]
/-- all three levels -/
theorem ty_setA (P : ty_Po m K N I) (E : ty_Ex m K N I m' K' N' I') {r c : Nat} {s : Nat → Nat} (hr : r < m) (h3 : ty_Hd I 3 r) :
    ∀ p, p < 84 → ty_Hd I' (3 - ty_lv p) c → ty_Fo K I r p → ty_Sq m' K' I' I r p c 0 s →
    s 0 < m' ∧ K' (s 0) = 2 ∧ ty_Hd I' 3 (s 0) ∧ ty_at I' (s 0) p = c ∧ ∀ q, q < 84 → (∀ k, k < 21 → q ≠ ty_pt p k) → ty_at I' (s 0) q = ty_at I r q ∨ (K' (ty_at I' (s 0) q) = 2 ∧ K (ty_at I r q) = 2) := by
  refine ty_cases ?_ ?_ ?_
  · intro a ha hc hF hS
    have hl := ty_lv1 ha
    have s0 := hS.2 0 (by omega) (by omega)
    have e1 : s 1 = c := by have := hS.1; rw [hl] at this; exact this
    have hf : ∀ n, n < 4 → ty_ch I' (s 0) n = if n = a then c else ty_ch I r n := by
      intro n hn; have := s0.2.2 n hn; rw [ty_nm1 ha] at this; rw [this, e1]; rfl
    rw [hl] at hc
    have q := ty_set1 P E ha hr hf h3 hc
    exact ⟨s0.1, s0.2.1, q.1, q.2.1, fun x hx hk => Or.inl (q.2.2 x hx hk)⟩
  · intro a b ha hb hc hF hS
    have hl : ty_lv (4 + 4 * a + b) = 2 := ty_lv2 (by omega) (by omega)
    have s0 := hS.2 0 (by omega) (by omega)
    have s1 := hS.2 1 (by omega) (by omega)
    have e1 : s 2 = c := by have := hS.1; rw [hl] at this; exact this
    have n1 : ty_an I r (4 + 4 * a + b) 1 = ty_ch I r a := by
      show ty_ch I r (ty_nm _ 0) = _; rw [ty_nm20 ha hb]
    have hf : ∀ n, n < 4 → ty_ch I' (s 0) n = if n = a then s 1 else ty_ch I r n := by
      intro n hn; have := s0.2.2 n hn; rw [ty_nm20 ha hb] at this; exact this
    have hg : ∀ n, n < 4 → ty_ch I' (s 1) n = if n = b then c else ty_ch I (ty_ch I r a) n := by
      intro n hn; have := s1.2.2 n hn; rw [ty_nm21 ha hb, n1, e1] at this; exact this
    rw [hl] at hc
    have q := ty_set2 P E ha hb hr hf hg h3 hc
    have F1 := hF 1 (by omega) (by omega)
    rw [n1] at F1
    refine ⟨s0.1, s0.2.1, q.1, q.2.1, fun x hx hk => ?_⟩
    rcases q.2.2 x hx hk with z | z
    · exact Or.inl z
    · exact Or.inr ⟨by rw [z.1]; exact s1.2.1, by rw [z.2]; exact F1⟩
  · intro a b d ha hb hd hc hF hS
    have hl : ty_lv (20 + 16 * a + 4 * b + d) = 3 := ty_lv3 (by omega)
    have s0 := hS.2 0 (by omega) (by omega)
    have s1 := hS.2 1 (by omega) (by omega)
    have s2 := hS.2 2 (by omega) (by omega)
    have e1 : s 3 = c := by have := hS.1; rw [hl] at this; exact this
    have n1 : ty_an I r (20 + 16 * a + 4 * b + d) 1 = ty_ch I r a := by
      show ty_ch I r (ty_nm _ 0) = _; rw [ty_nm30 ha hb hd]
    have n2 : ty_an I r (20 + 16 * a + 4 * b + d) 2 = ty_ch I (ty_ch I r a) b := by
      show ty_ch I (ty_an I r _ 1) (ty_nm _ 1) = _; rw [ty_nm31 ha hb hd, n1]
    have hf : ∀ n, n < 4 → ty_ch I' (s 0) n = if n = a then s 1 else ty_ch I r n := by
      intro n hn; have := s0.2.2 n hn; rw [ty_nm30 ha hb hd] at this; exact this
    have hg : ∀ n, n < 4 → ty_ch I' (s 1) n = if n = b then s 2 else ty_ch I (ty_ch I r a) n := by
      intro n hn; have := s1.2.2 n hn; rw [ty_nm31 ha hb hd, n1] at this; exact this
    have hh : ∀ n, n < 4 → ty_ch I' (s 2) n = if n = d then c else ty_ch I (ty_ch I (ty_ch I r a) b) n := by
      intro n hn; have := s2.2.2 n hn; rw [ty_nm32 ha hb hd, n2, e1] at this; exact this
    rw [hl] at hc
    have q := ty_set3 P E ha hb hd hr hf hg hh h3 hc
    have F1 := hF 1 (by omega) (by omega)
    rw [n1] at F1
    have F2 := hF 2 (by omega) (by omega)
    rw [n2] at F2
    refine ⟨s0.1, s0.2.1, q.1, q.2.1, fun x hx hk => ?_⟩
    rcases q.2.2 x hx hk with z | z | z
    · exact Or.inl z
    · exact Or.inr ⟨by rw [z.1]; exact s1.2.1, by rw [z.2]; exact F1⟩
    · exact Or.inr ⟨by rw [z.1]; exact s2.2.1, by rw [z.2]; exact F2⟩
/-- the tree's rows behind a change: those in the path are c's, the others stay -/
theorem ty_T1_set (P : ty_Po m K N I) (P' : ty_Po m' K' N' I') (E : ty_Ex m K N I m' K' N' I') {r c p : Nat} {s : Nat → Nat} {a b a' b' : Nat → Int32}
    (h : ty_T1 m K N I r a b) (hp : p < 84) (hc : ty_Hd I' (3 - ty_lv p) c) (hF : ty_Fo K I r p) (hS : ty_Sq m' K' I' I r p c 0 s)
    (h1 : ∀ k, k < 21 → ty_pt p k < 84 → a' (ty_pt p k) = K' (ty_pr I' c k) ∧ (a' (ty_pt p k) = 1 → b' (ty_pt p k) = N' (ty_pr I' c k)))
    (h2 : ∀ q, q < 84 → (∀ k, k < 21 → q ≠ ty_pt p k) → a' q = a q ∧ b' q = b q) : ty_T1 m' K' N' I' (s 0) a' b' := by
  have q := ty_setA P E h.1 h.2.2.1 p hp hc hF hS
  refine ⟨q.1, q.2.1, q.2.2.1, fun x hx => ?_⟩
  by_cases hk : ∃ k, k < 21 ∧ x = ty_pt p k
  · obtain ⟨k, hk, e⟩ := hk
    subst e
    rw [ty_at_pt P' q.2.2.1 hp k hk, q.2.2.2.1]
    exact h1 k hk hx
  · have hn : ∀ k, k < 21 → x ≠ ty_pt p k := fun k h1 h2 => hk ⟨k, h1, h2⟩
    have g := h2 x hx hn
    rw [g.1, g.2]
    have hm := h.2.2.2 x hx
    have hl := ty_at_lt P h.1 x
    rcases q.2.2.2.2 x hx hn with z | z
    · rw [z, ty_ex_K E hl, ty_ex_N E hl]; exact hm
    · refine ⟨hm.1.trans (z.2.trans z.1.symm), fun e => ?_⟩
      rw [hm.1, z.2] at e
      exact absurd e (by decide)
end
theorem ty_pig (m : Nat) : ∀ (n : Nat) (f : Nat → Nat), (∀ i, i < n → f i < m) → (∀ i j, i < n → j < n → f i = f j → i = j) → n ≤ m := by
  induction m with
  | zero =>
    intro n f h _
    by_cases e : n = 0
    · omega
    · exact absurd (h 0 (by omega)) (by omega)
  | succ m ih =>
    intro n f h hi
    by_cases e : ∃ i, i < n ∧ f i = m
    · obtain ⟨i0, h0, e0⟩ := e
      have key := ih (n - 1) (fun j => if j = i0 then f (n - 1) else f j) (fun j hj => by
        by_cases c : j = i0
        · rw [if_pos c]
          have h1 := h (n - 1) (by omega)
          have h2 : f (n - 1) ≠ m := fun z => by
            have := hi (n - 1) i0 (by omega) h0 (by rw [z, e0])
            omega
          omega
        · rw [if_neg c]
          have h1 := h j (by omega)
          have h2 : f j ≠ m := fun z => c (hi j i0 (by omega) h0 (by rw [z, e0]))
          omega) (fun a b ha hb hab => by
        by_cases ca : a = i0
        · by_cases cb : b = i0
          · omega
          · rw [if_pos ca, if_neg cb] at hab
            have := hi (n - 1) b (by omega) (by omega) hab
            omega
        · by_cases cb : b = i0
          · rw [if_neg ca, if_pos cb] at hab
            have := hi a (n - 1) (by omega) (by omega) hab
            omega
          · rw [if_neg ca, if_neg cb] at hab
            exact hi a b (by omega) (by omega) hab)
      omega
    · have := ih n f (fun i hi' => by
        have h1 := h i hi'
        have h2 : f i ≠ m := fun z => e ⟨i, hi', z⟩
        omega) hi
      omega
end
section
/-! the table of contents: hash, content -/
def ty_h5 (p0 p1 p2 p3 p4 p5 : Int32) : Int32 := ((((((((((p0 * 31) + p1) * 31) + p2) * 31) + p3) * 31) + p4) * 31) + p5)
def ty_h6 (h : Int32) : Int32 := ((h ^^^ ((h.toUInt32 >>> ((11 : Int32).toUInt32 &&& Int32.toUInt32 31)).toInt32)) ^^^ ((h.toUInt32 >>> ((22 : Int32).toUInt32 &&& Int32.toUInt32 31)).toInt32)) &&& 2047
def ty_hs (p0 p1 p2 p3 p4 p5 : Int32) : Int32 := ty_h6 (ty_h5 p0 p1 p2 p3 p4 p5)
theorem ty_hs_r (p0 p1 p2 p3 p4 p5 : Int32) : ∃ j, j < 2048 ∧ ty_hs p0 p1 p2 p3 p4 p5 = nI j := by
  obtain ⟨j, hj, e⟩ := pk_andE ((ty_h5 p0 p1 p2 p3 p4 p5 ^^^ (((ty_h5 p0 p1 p2 p3 p4 p5).toUInt32 >>> ((11 : Int32).toUInt32 &&& Int32.toUInt32 31)).toInt32)) ^^^ (((ty_h5 p0 p1 p2 p3 p4 p5).toUInt32 >>> ((22 : Int32).toUInt32 &&& Int32.toUInt32 31)).toInt32)) (m := 2047) 11 (by decide)
  exact ⟨j, hj, e⟩
theorem ty_m4 (k : Nat) : (4 : Int32) * nI k = nI (4 * k) := pk_mul 4 k
theorem ty_a2 (k : Nat) : nI k + 2 = nI (k + 2) := nI_add k 2
theorem ty_a3 (k : Nat) : nI k + 3 = nI (k + 3) := nI_add k 3
theorem ty_nm1' {k : Nat} (h : k < 2 ^ 31) : nI k ≠ -1 := by
  intro e
  have := nI_pos h
  rw [e] at this
  exact this (by decide)
/-- the hash of a content in the pool -/
def ty_hN (K N I : Nat → Int32) (c : Nat) : Nat := (ty_hs (K c) (N c) (I (4 * c)) (I (4 * c + 1)) (I (4 * c + 2)) (I (4 * c + 3))).toNatClampNeg
def ty_Tb (m : Nat) (K N I T : Nat → Int32) : Prop :=
  (∀ h, h < 2048 → T h = -1 ∨ ∃ k, 1 ≤ k ∧ k < m ∧ T h = nI k) ∧
  (∀ h g, h < 2048 → g < 2048 → T h ≠ -1 → T h = T g → h = g) ∧
  (∀ k, 1 ≤ k → k < m → ∃ d, T ((ty_hN K N I k + d) % 2048) = nI k ∧ ∀ e, e < d → T ((ty_hN K N I k + e) % 2048) ≠ -1)
def ty_Pl (m : Nat) (K N I T : Nat → Int32) : Prop := ty_Po m K N I ∧ ty_Tb m K N I T
/-- the content k is that one -/
def ty_Dt (K N I : Nat → Int32) (k : Nat) (kd x a b c d : Int32) : Prop := K k = kd ∧ N k = x ∧ I (4 * k) = a ∧ I (4 * k + 1) = b ∧ I (4 * k + 2) = c ∧ I (4 * k + 3) = d
theorem ty_full {m : Nat} {K N I T : Nat → Int32} (hm : m ≤ 1024) (B : ty_Tb m K N I T) (h0 : Nat) (hf : ∀ e, e < 2048 → T ((h0 + e) % 2048) ≠ -1) : False := by
  have hall : ∀ h, h < 2048 → T h ≠ -1 := by
    intro h hh
    have := hf ((h + 2048 - h0 % 2048) % 2048) (Nat.mod_lt _ (by omega))
    have e : (h0 + (h + 2048 - h0 % 2048) % 2048) % 2048 = h := by omega
    rw [e] at this; exact this
  have hk : ∀ h, h < 2048 → 1 ≤ (T h).toNatClampNeg ∧ (T h).toNatClampNeg < m ∧ T h = nI (T h).toNatClampNeg := by
    intro h hh
    obtain ⟨k, k1, k2, e⟩ := (B.1 h hh).resolve_left (hall h hh)
    have e2 : (T h).toNatClampNeg = k := by rw [e]; exact nI_clamp (by omega)
    rw [e2]; exact ⟨k1, k2, e⟩
  have := ty_pig m 2048 (fun h => (T h).toNatClampNeg) (fun i hi => (hk i hi).2.1) (fun i j hi hj e => by
    refine B.2.1 i j hi hj (hall i hi) ?_
    rw [(hk i hi).2.2, (hk j hj).2.2, e])
  omega
/-- four cells of a new content -/
def ty_I4 (I : Nat → Int32) (m : Nat) (v : Nat → Nat) : Nat → Int32 := upd (upd (upd (upd I (4 * m) (nI (v 0))) (4 * m + 1) (nI (v 1))) (4 * m + 2) (nI (v 2))) (4 * m + 3) (nI (v 3))
theorem ty_I4_o (I : Nat → Int32) (m : Nat) (v : Nat → Nat) {i n : Nat} (hi : i ≠ m) (hn : n < 4) : ty_I4 I m v (4 * i + n) = I (4 * i + n) := by
  unfold ty_I4
  rw [pk_un (by omega), pk_un (by omega), pk_un (by omega), pk_un (by omega)]
theorem ty_I4_0 (I : Nat → Int32) (m : Nat) (v : Nat → Nat) : ty_I4 I m v (4 * m) = nI (v 0) := by
  unfold ty_I4
  rw [pk_un (by omega), pk_un (by omega), pk_un (by omega), pk_us]
theorem ty_I4_1 (I : Nat → Int32) (m : Nat) (v : Nat → Nat) : ty_I4 I m v (4 * m + 1) = nI (v 1) := by
  unfold ty_I4
  rw [pk_un (by omega), pk_un (by omega), pk_us]
theorem ty_I4_2 (I : Nat → Int32) (m : Nat) (v : Nat → Nat) : ty_I4 I m v (4 * m + 2) = nI (v 2) := by
  unfold ty_I4
  rw [pk_un (by omega), pk_us]
theorem ty_I4_3 (I : Nat → Int32) (m : Nat) (v : Nat → Nat) : ty_I4 I m v (4 * m + 3) = nI (v 3) := by
  unfold ty_I4
  rw [pk_us]
theorem ty_lt4 {P : Nat → Prop} (h0 : P 0) (h1 : P 1) (h2 : P 2) (h3 : P 3) : ∀ n, n < 4 → P n := by
  intro n hn
  match n, hn with
  | 0, _ => exact h0
  | 1, _ => exact h1
  | 2, _ => exact h2
  | 3, _ => exact h3
  | n + 4, h => omega
theorem ty_I4_n (I : Nat → Int32) (m : Nat) (v : Nat → Nat) : ∀ n, n < 4 → ty_I4 I m v (4 * m + n) = nI (v n) :=
  ty_lt4 (ty_I4_0 I m v) (ty_I4_1 I m v) (ty_I4_2 I m v) (ty_I4_3 I m v)
theorem ty_hN_cg {K N I K' N' I' : Nat → Int32} {c : Nat} (hK : K' c = K c) (hN : N' c = N c) (hI : ∀ n, n < 4 → I' (4 * c + n) = I (4 * c + n)) : ty_hN K' N' I' c = ty_hN K N I c := by
  have i0 := hI 0 (by omega)
  rw [Nat.add_zero] at i0
  unfold ty_hN
  rw [hK, hN, i0, hI 1 (by omega), hI 2 (by omega), hI 3 (by omega)]
/-- what a content's call gives -/
def ty_Cn (m : Nat) (K N I : Nat → Int32) (m' : Nat) (K' N' I' : Nat → Int32) (k : Nat) (kd x : Int32) (v : Nat → Nat) : Prop :=
  ty_Ex m K N I m' K' N' I' ∧ 1 ≤ k ∧ k < m' ∧ (m' = m ∨ (m' = m + 1 ∧ k = m)) ∧ K' k = kd ∧ N' k = x ∧ ∀ n, n < 4 → I' (4 * k + n) = nI (v n)
theorem ty_new {m : Nat} {K N I T : Nat → Int32} (P : ty_Pl m K N I T) (hm : m < 1024) (kd x : Int32) (v : Nat → Nat) (hv : ∀ n, n < 4 → v n < m)
    (hkd : (kd = 1 ∧ ∀ n, n < 4 → v n = 0) ∨ (kd = 2 ∧ x = 0)) (h0 i : Nat) (eh : ty_hs kd x (nI (v 0)) (nI (v 1)) (nI (v 2)) (nI (v 3)) = nI h0) (hh : h0 < 2048)
    (hT : T ((h0 + i) % 2048) = -1) (hb : ∀ e, e < i → T ((h0 + e) % 2048) ≠ -1)
    (hno : ∀ k, 1 ≤ k → k < m → ¬ ty_Dt K N I k kd x (nI (v 0)) (nI (v 1)) (nI (v 2)) (nI (v 3))) :
    ty_Pl (m + 1) (upd K m kd) (upd N m x) (ty_I4 I m v) (upd T ((h0 + i) % 2048) (nI m)) ∧ ty_Cn m K N I (m + 1) (upd K m kd) (upd N m x) (ty_I4 I m v) m kd x v := by
  have P1 := P.1.1
  have hs : (h0 + i) % 2048 < 2048 := Nat.mod_lt _ (by omega)
  have oK : ∀ c, c ≠ m → upd K m kd c = K c := fun c hc => pk_un hc
  have oN : ∀ c, c ≠ m → upd N m x c = N c := fun c hc => pk_un hc
  have E : ty_Ex m K N I (m + 1) (upd K m kd) (upd N m x) (ty_I4 I m v) := by
    refine ⟨by omega, fun c hc => ?_⟩
    have hc' : c ≠ m := by omega
    exact ⟨oK c hc', oN c hc', fun n hn => ty_I4_o I m v hc' hn⟩
  have hN : ∀ c, c < m → ty_hN (upd K m kd) (upd N m x) (ty_I4 I m v) c = ty_hN K N I c := fun c hc =>
    ty_hN_cg (oK c (by omega)) (oN c (by omega)) (fun n hn => ty_I4_o I m v (by omega) hn)
  have hNm : ty_hN (upd K m kd) (upd N m x) (ty_I4 I m v) m = h0 := by
    unfold ty_hN
    rw [pk_us, pk_us, ty_I4_0, ty_I4_1, ty_I4_2, ty_I4_3, eh]; exact nI_clamp (by omega)
  refine ⟨⟨⟨by omega, by omega, ?_, ?_, ?_, ?_, ?_⟩, ?_, ?_, ?_⟩, E, P1, by omega, Or.inr ⟨rfl, rfl⟩, pk_us, pk_us, ty_I4_n I m v⟩
  · rw [oK 0 (by omega)]; exact P.1.2.2.1
  · intro n hn
    have := ty_I4_o I m v (i := 0) (n := n) (by omega) hn
    rw [Nat.mul_zero, Nat.zero_add] at this
    rw [this]; exact P.1.2.2.2.1 n hn
  · intro c h1 h2
    by_cases e : c = m
    · subst e
      rw [pk_us, pk_us]
      rcases hkd with z | z
      · exact Or.inl ⟨z.1, fun n hn => by rw [ty_I4_n I c v n hn, z.2 n hn]; rfl⟩
      · exact Or.inr z
    · rw [oK c e, oN c e]
      rcases P.1.2.2.2.2.1 c h1 (by omega) with z | z
      · exact Or.inl ⟨z.1, fun n hn => by rw [ty_I4_o I m v e hn]; exact z.2 n hn⟩
      · exact Or.inr z
  · intro c h1 h2 n hn
    by_cases e : c = m
    · subst e
      exact ⟨v n, hv n hn, ty_I4_n I c v n hn⟩
    · rw [ty_I4_o I m v e hn]; exact P.1.2.2.2.2.2.1 c h1 (by omega) n hn
  · have key : ∀ c, 1 ≤ c → c < m → upd K m kd c = upd K m kd m → upd N m x c = upd N m x m → (∀ n, n < 4 → ty_I4 I m v (4 * c + n) = ty_I4 I m v (4 * m + n)) → False := by
      intro c h1 h2 eK eN eI
      have hc : c ≠ m := by omega
      rw [oK c hc, pk_us] at eK
      rw [oN c hc, pk_us] at eN
      have f : ∀ n, n < 4 → I (4 * c + n) = nI (v n) := fun n hn => by
        have := eI n hn
        rw [ty_I4_o I m v hc hn, ty_I4_n I m v n hn] at this; exact this
      have f0 := f 0 (by omega)
      rw [Nat.add_zero] at f0
      exact hno c h1 h2 ⟨eK, eN, f0, f 1 (by omega), f 2 (by omega), f 3 (by omega)⟩
    intro c d c1 c2 d1 d2 eK eN eI
    by_cases hc : c = m
    · by_cases hd : d = m
      · omega
      · rw [hc] at eK eN eI
        exact absurd (key d d1 (by omega) eK.symm eN.symm (fun n hn => (eI n hn).symm)) id
    · by_cases hd : d = m
      · rw [hd] at eK eN eI
        exact absurd (key c c1 (by omega) eK eN eI) id
      · rw [oK c hc, oK d hd] at eK
        rw [oN c hc, oN d hd] at eN
        refine P.1.2.2.2.2.2.2 c d c1 (by omega) d1 (by omega) eK eN fun n hn => ?_
        have := eI n hn
        rw [ty_I4_o I m v hc hn, ty_I4_o I m v hd hn] at this; exact this
  · intro h hl
    by_cases e : h = (h0 + i) % 2048
    · rw [e, pk_us]; exact Or.inr ⟨m, P1, by omega, rfl⟩
    · rw [pk_un e]
      rcases P.2.1 h hl with z | ⟨k, k1, k2, z⟩
      · exact Or.inl z
      · exact Or.inr ⟨k, k1, by omega, z⟩
  · intro h g hl gl hne e
    have key : ∀ h, h < 2048 → h ≠ (h0 + i) % 2048 → T h = nI m → False := by
      intro h hl hne e
      rcases P.2.1 h hl with z | ⟨k, k1, k2, z⟩
      · rw [e] at z; exact ty_nm1' (by omega) z
      · rw [e, nI_eq (by omega) (by omega)] at z; omega
    by_cases eh : h = (h0 + i) % 2048
    · by_cases eg : g = (h0 + i) % 2048
      · omega
      · rw [eh, pk_us, pk_un eg] at e; exact absurd (key g gl eg e.symm) id
    · by_cases eg : g = (h0 + i) % 2048
      · rw [eg, pk_us, pk_un eh] at e; exact absurd (key h hl eh e) id
      · rw [pk_un eh] at hne
        rw [pk_un eh, pk_un eg] at e
        exact P.2.2.1 h g hl gl hne e
  · have hkeep : ∀ h, T h ≠ -1 → upd T ((h0 + i) % 2048) (nI m) h ≠ -1 := by
      intro h hne
      by_cases e : h = (h0 + i) % 2048
      · rw [e, pk_us]; exact ty_nm1' (by omega)
      · rw [pk_un e]; exact hne
    intro k k1 k2
    by_cases e : k = m
    · subst e
      rw [hNm]
      exact ⟨i, pk_us, fun e he => hkeep _ (hb e he)⟩
    · obtain ⟨d, z, w⟩ := P.2.2.2 k k1 (by omega)
      rw [hN k (by omega)]
      refine ⟨d, ?_, fun e he => hkeep _ (w e he)⟩
      rw [pk_un, z]
      intro e2
      rw [e2, hT] at z
      exact ty_nm1' (by omega) z.symm
section
variable {m : Nat} {pf pl ac cc al st dp : Int32} {K N I T rn R kp pb ap sd cp wy na : Nat → Int32}
theorem ty_hash {post : Int32 → Prop} {p0 p1 p2 p3 p4 p5 : Int32} (h : post (ty_hs p0 p1 p2 p3 p4 p5)) : wpX_hash post (nI m, pf, pl, ac, cc, al, st, dp, K, N, I, T, rn, R, kp, pb, ap, sd, cp, wy, na) p0 p1 p2 p3 p4 p5 :=
  nm_e (nm_e (nm_e (nm_e (nm_e h))))
theorem ty_isThat {post : Int32 → Prop} {k : Nat} {kd x a : Int32} (hk : k < 1024) (h1 : K k = kd → N k = x → I (4 * k) = a → post 1) (h0 : ¬ (K k = kd ∧ N k = x ∧ I (4 * k) = a) → post 0) : wpX_isThat post (nI m, pf, pl, ac, cc, al, st, dp, K, N, I, T, rn, R, kp, pb, ap, sd, cp, wy, na) (nI k) kd x a := by
  unfold wpX_isThat
  simp only [ty_m4, nI_clamp (show k < 2 ^ 31 by omega), nI_clamp (show 4 * k < 2 ^ 31 by omega)]
  refine ⟨vp_in_nI hk (by decide), br_c (fun e1 => ⟨vp_in_nI hk (by decide), br_c (fun e2 => ⟨vp_in_nI (by omega) (by decide), br_c (fun e3 => h1 e1 e2 e3) (fun e3 => h0 fun z => e3 z.2.2)⟩) (fun e2 => h0 fun z => e2 z.2.1)⟩) (fun e1 => h0 fun z => e1 z.1)⟩
theorem ty_ct125 {post : Int32 → SX → Prop} {kd x : Int32} {v : Nat → Nat} {h : Nat} (hm : m < 1024) (hh : h < 2048)
    (hp : post (nI m) (nI (m + 1), pf, pl, ac, cc, al, st, dp, upd K m kd, upd N m x, ty_I4 I m v, upd T h (nI m), rn, R, kp, pb, ap, sd, cp, wy, na)) :
    wX_content_125 post kd x (nI (v 0)) (nI (v 1)) (nI (v 2)) (nI (v 3)) (nI h) (nI m) pf pl ac cc al st dp K N I T rn R kp pb ap sd cp wy na := by
  unfold wX_content_125
  simp only [ty_m4, nI_1, ty_a2, ty_a3, nI_clamp (show m < 2 ^ 31 by omega), nI_clamp (show 4 * m < 2 ^ 31 by omega), nI_clamp (show 4 * m + 1 < 2 ^ 31 by omega), nI_clamp (show 4 * m + 2 < 2 ^ 31 by omega), nI_clamp (show 4 * m + 3 < 2 ^ 31 by omega), nI_clamp (show h < 2 ^ 31 by omega)]
  exact ⟨vp_in_nI hm (by decide), nm_e ⟨vp_in_nI hm (by decide), nm_e ⟨vp_in_nI (by omega) (by decide), nm_e ⟨vp_in_nI (by omega) (by decide), nm_e ⟨vp_in_nI (by omega) (by decide), nm_e ⟨vp_in_nI (by omega) (by decide), nm_e ⟨vp_in_nI hh (by decide), nm_e (nm_e hp)⟩⟩⟩⟩⟩⟩⟩
theorem ty_ct18 {post : Int32 → SX → Prop} {kd x a b c d : Int32} (P : ty_Pl m K N I T) (h0 : Nat)
    (hfound : ∀ k, 1 ≤ k → k < m → ty_Dt K N I k kd x a b c d → post (nI k) (nI m, pf, pl, ac, cc, al, st, dp, K, N, I, T, rn, R, kp, pb, ap, sd, cp, wy, na))
    (hnew : ∀ i, T ((h0 + i) % 2048) = -1 → (∀ e, e < i → T ((h0 + e) % 2048) ≠ -1 ∧ ∀ k, k < m → T ((h0 + e) % 2048) = nI k → ¬ ty_Dt K N I k kd x a b c d) → wX_content_125 post kd x a b c d (nI ((h0 + i) % 2048)) (nI m) pf pl ac cc al st dp K N I T rn R kp pb ap sd cp wy na) :
    ∀ n i, i ≤ 2048 → 2048 - i < n → (∀ e, e < i → T ((h0 + e) % 2048) ≠ -1 ∧ ∀ k, k < m → T ((h0 + e) % 2048) = nI k → ¬ ty_Dt K N I k kd x a b c d) → wX_content_18 post kd x a b c d (nI m) pf pl ac cc al st dp K N I T rn R kp pb ap sd cp wy na n (nI ((h0 + i) % 2048)) (nI i) := by
  have hm := P.1.2.1
  intro n
  induction n with
  | zero => intro i _ h; omega
  | succ n ih =>
    intro i hi hn hp
    by_cases e : i = 2048
    · subst e
      exact absurd (ty_full hm P.2 h0 (fun e he => (hp e he).1)) id
    · have hs : (h0 + i) % 2048 < 2048 := Nat.mod_lt _ (by omega)
      have hnext : (∀ k, k < m → T ((h0 + i) % 2048) = nI k → ¬ ty_Dt K N I k kd x a b c d) → T ((h0 + i) % 2048) ≠ -1 → wX_content_109 post (wX_content_18 post kd x a b c d (nI m) pf pl ac cc al st dp K N I T rn R kp pb ap sd cp wy na n) kd x a b c d (nI ((h0 + i) % 2048)) (nI i) (nI m) pf pl ac cc al st dp K N I T rn R kp pb ap sd cp wy na := by
        intro z w
        have e1 : (nI ((h0 + i) % 2048) + 1) &&& 2047 = nI ((h0 + (i + 1)) % 2048) := by
          rw [nI_1, pk_andN (n := (h0 + i) % 2048 + 1) (by omega) 11 (by decide)]
          exact congrArg nI (by omega)
        refine nm_r e1 (nm_r (nI_1 i) ?_)
        refine ih (i + 1) (by omega) (by omega) fun e he => ?_
        by_cases e2 : e < i
        · exact hp e e2
        · have : e = i := by omega
          subst this
          exact ⟨w, z⟩
      have hnew' := hnew i
      revert hnew' hnext hs
      generalize (h0 + i) % 2048 = s
      intro hs hnext hnew'
      have ec : (nI s).toNatClampNeg = s := nI_clamp (by omega)
      refine br_f (nI_ge (b := 2048) (by omega) (by decide)) ⟨vp_in_nI hs (by decide), ?_⟩
      rw [ec]
      by_cases hT : T s = -1
      · exact br_t hT (hnew' hT hp)
      · obtain ⟨k, k1, k2, ek⟩ := (P.2.1 s hs).resolve_left hT
        refine br_f hT ⟨vp_in_nI hs (by decide), nm_r ek ?_⟩
        have hgo : ¬ ty_Dt K N I k kd x a b c d → wX_content_109 post (wX_content_18 post kd x a b c d (nI m) pf pl ac cc al st dp K N I T rn R kp pb ap sd cp wy na n) kd x a b c d (nI s) (nI i) (nI m) pf pl ac cc al st dp K N I T rn R kp pb ap sd cp wy na := fun z =>
          hnext (fun j hj ej => by
            rw [ek, nI_eq (by omega) (by omega)] at ej
            rw [← ej]; exact z) hT
        have c1 : (4 * nI k + 1 : Int32) = nI (4 * k + 1) := by rw [ty_m4, nI_1]
        have c2 : (4 * nI k + 2 : Int32) = nI (4 * k + 2) := by rw [ty_m4, ty_a2]
        have c3 : (4 * nI k + 3 : Int32) = nI (4 * k + 3) := by rw [ty_m4, ty_a3]
        rw [c1, c2, c3, nI_clamp (show 4 * k + 1 < 2 ^ 31 by omega), nI_clamp (show 4 * k + 2 < 2 ^ 31 by omega), nI_clamp (show 4 * k + 3 < 2 ^ 31 by omega)]
        refine ty_isThat (by omega) (fun e1 e2 e3 => ?_) (fun z => br_t rfl (hgo fun w => z ⟨w.1, w.2.1, w.2.2.1⟩))
        refine br_f (by decide) ⟨vp_in_nI (by omega) (by decide), br_c (fun e4 => ⟨vp_in_nI (by omega) (by decide), br_c (fun e5 => ⟨vp_in_nI (by omega) (by decide), br_c (fun e6 => hfound k k1 k2 ⟨e1, e2, e3, e4, e5, e6⟩) (fun z => hgo fun w => z w.2.2.2.2.2)⟩) (fun z => hgo fun w => z w.2.2.2.2.1)⟩) (fun z => hgo fun w => z w.2.2.2.1)⟩
theorem ty_content {post : Int32 → SX → Prop} (P : ty_Pl m K N I T) (hm : m < 1024) (kd x : Int32) (v : Nat → Nat) (hv : ∀ n, n < 4 → v n < m)
    (hkd : (kd = 1 ∧ ∀ n, n < 4 → v n = 0) ∨ (kd = 2 ∧ x = 0))
    (h : ∀ k m' K' N' I' T', ty_Pl m' K' N' I' T' → ty_Cn m K N I m' K' N' I' k kd x v → post (nI k) (nI m', pf, pl, ac, cc, al, st, dp, K', N', I', T', rn, R, kp, pb, ap, sd, cp, wy, na)) :
    wpX_content post (nI m, pf, pl, ac, cc, al, st, dp, K, N, I, T, rn, R, kp, pb, ap, sd, cp, wy, na) kd x (nI (v 0)) (nI (v 1)) (nI (v 2)) (nI (v 3)) := by
  obtain ⟨h0, hh, eh⟩ := ty_hs_r kd x (nI (v 0)) (nI (v 1)) (nI (v 2)) (nI (v 3))
  unfold wpX_content
  refine ty_hash ?_
  rw [eh]
  refine ⟨2049, ?_⟩
  have e0 : nI h0 = nI ((h0 + 0) % 2048) := congrArg nI (by omega)
  rw [e0]
  refine ty_ct18 P h0 ?_ ?_ 2049 0 (by omega) (by omega) (fun e he => by omega)
  · intro k k1 k2 hd
    refine h k m K N I T P ⟨ty_Ex_rf m K N I, k1, k2, Or.inl rfl, hd.1, hd.2.1, ?_⟩
    exact ty_lt4 hd.2.2.1 hd.2.2.2.1 hd.2.2.2.2.1 hd.2.2.2.2.2
  · intro i hT hb
    have q := ty_new P hm kd x v hv hkd h0 i eh hh hT (fun e he => (hb e he).1) ?_
    · exact ty_ct125 hm (Nat.mod_lt _ (by omega)) (h m (m + 1) _ _ _ _ q.1 q.2)
    · intro k k1 k2 hd
      obtain ⟨dd, z, w⟩ := P.2.2.2 k k1 k2
      have e1 : ty_hN K N I k = h0 := by
        unfold ty_hN
        rw [hd.1, hd.2.1, hd.2.2.1, hd.2.2.2.1, hd.2.2.2.2.1, hd.2.2.2.2.2, eh]; exact nI_clamp (by omega)
      rw [e1] at z w
      rcases Nat.lt_trichotomy dd i with y | y | y
      · exact (hb dd y).2 k k2 z hd
      · subst y; rw [hT] at z; exact ty_nm1' (k := k) (by have := P.1.2.1; omega) z.symm
      · exact w i y hT
end
end
section
/-! ways, contentAt, with, setContent -/
def ty_par (p : Nat) : Nat := if p < 20 then (p - 4) / 4 else 4 + (p - 20) / 4
/-- the path on the way to p at level k + 1 -/
def ty_up (p k : Nat) : Nat := if p < 4 then p else if p < 20 then (if k = 0 then (p - 4) / 4 else p) else (if k = 0 then (p - 20) / 16 else if k = 1 then 4 + (p - 20) / 4 else p)
theorem ty_up_lt {p : Nat} (hp : p < 84) (k : Nat) : ty_up p k < 84 := by
  unfold ty_up
  split
  · omega
  · split
    · split <;> omega
    · split
      · omega
      · split <;> omega
theorem ty_up_nm {p : Nat} (hp : p < 84) {k : Nat} (hk : k < ty_lv p) : ty_up p k % 4 = ty_nm p k := by
  unfold ty_lv at hk
  unfold ty_up ty_nm
  split
  · rename_i h; omega
  · rename_i h
    rw [if_neg h] at hk
    split
    · rename_i h2
      rw [if_pos h2] at hk
      split <;> omega
    · rename_i h2
      rw [if_neg h2] at hk
      split
      · omega
      · split <;> omega
theorem ty_up_top {p : Nat} (hp : p < 84) : ty_up p (ty_lv p - 1) = p := by
  unfold ty_lv ty_up
  split
  · rfl
  · split
    · rfl
    · rfl
theorem ty_up_par {p k : Nat} (hp : p < 84) (hk : k + 1 < ty_lv p) : ¬ ty_up p (k + 1) < 4 ∧ ty_par (ty_up p (k + 1)) = ty_up p k := by
  unfold ty_lv at hk
  by_cases h : p < 4
  · rw [if_pos h] at hk; omega
  · rw [if_neg h] at hk
    by_cases h2 : p < 20
    · rw [if_pos h2] at hk
      have k0 : k = 0 := by omega
      subst k0
      have e1 : ty_up p (0 + 1) = p := by unfold ty_up; rw [if_neg h, if_pos h2, if_neg (by omega)]
      have e0 : ty_up p 0 = (p - 4) / 4 := by unfold ty_up; rw [if_neg h, if_pos h2, if_pos rfl]
      rw [e1, e0]
      exact ⟨h, by unfold ty_par; rw [if_pos h2]⟩
    · rw [if_neg h2] at hk
      have e2 : ty_up p 2 = p := by unfold ty_up; rw [if_neg h, if_neg h2, if_neg (by omega), if_neg (by omega)]
      have e1 : ty_up p 1 = 4 + (p - 20) / 4 := by unfold ty_up; rw [if_neg h, if_neg h2, if_neg (by omega), if_pos rfl]
      have e0 : ty_up p 0 = (p - 20) / 16 := by unfold ty_up; rw [if_neg h, if_neg h2, if_pos rfl]
      by_cases k0 : k = 0
      · subst k0
        rw [Nat.zero_add, e1, e0]
        refine ⟨by omega, ?_⟩
        unfold ty_par
        rw [if_pos (by omega)]
        omega
      · have k1 : k = 1 := by omega
        subst k1
        show ¬ ty_up p 2 < 4 ∧ ty_par (ty_up p 2) = ty_up p 1
        rw [e2, e1]
        exact ⟨by omega, by unfold ty_par; rw [if_neg h2]⟩
theorem ty_lv_r (p : Nat) : 1 ≤ ty_lv p ∧ ty_lv p ≤ 3 := by
  unfold ty_lv
  split
  · omega
  · split <;> omega
/-- one less -/
def ty_dn (k : Nat) : Int32 := nI k + (-1)
theorem ty_dn0 : ty_dn 0 = -1 := by decide
theorem ty_dnS (k : Nat) : ty_dn (k + 1) = nI k := pk_m1 k
theorem ty_dnP {k : Nat} (h : 1 ≤ k) : nI k - 1 = ty_dn k := by
  obtain ⟨j, rfl⟩ : ∃ j, k = j + 1 := ⟨k - 1, by omega⟩
  rw [ty_dnS, nI_pred]
theorem ty_sd4 {p : Nat} (h : 4 ≤ p) (hp : p < 84) : (nI p - 4) / 4 = nI ((p - 4) / 4) := by
  have e : nI p - 4 = nI (p - 4) := pk_sub (b := 4) h
  rw [e]; exact pk_div (d := 4) (by omega) (by omega) (by omega)
theorem ty_sd20 {p : Nat} (h : 20 ≤ p) (hp : p < 84) : 4 + (nI p - 20) / 4 = nI (4 + (p - 20) / 4) := by
  have e : nI p - 20 = nI (p - 20) := pk_sub (b := 20) h
  have e2 : nI (p - 20) / 4 = nI ((p - 20) / 4) := pk_div (d := 4) (by omega) (by omega) (by omega)
  rw [e, e2]; exact nI_add 4 _
section
variable {m : Nat} {pf pl ac cc al st dp : Int32} {K N I T rn R kp pb ap sd cp wy na : Nat → Int32}
theorem ty_nameOf {post : Int32 → Prop} {p : Nat} (hp : p < 84) (h : post (nI (p % 4))) : wpX_nameOf post (nI m, pf, pl, ac, cc, al, st, dp, K, N, I, T, rn, R, kp, pb, ap, sd, cp, wy, na) (nI p) := by
  unfold wpX_nameOf
  have e : nI p &&& 3 = nI (p % 4) := pk_andN (n := p) (by omega) 2 (by decide)
  show post (nI p &&& 3)
  rw [e]; exact h
theorem ty_parentOf {post : Int32 → Prop} {p : Nat} (hp : p < 84) (h4 : ¬ p < 4) (h : post (nI (ty_par p))) : wpX_parentOf post (nI m, pf, pl, ac, cc, al, st, dp, K, N, I, T, rn, R, kp, pb, ap, sd, cp, wy, na) (nI p) := by
  refine br_t (nI_le (a := 4) (by omega) (by omega)) ?_
  by_cases h2 : p < 20
  · refine br_f (nI_ge (b := 20) h2 (by decide)) ⟨by decide, ?_⟩
    rw [ty_sd4 (by omega) hp]
    unfold ty_par at h; rw [if_pos h2] at h; exact h
  · refine br_t (nI_le (a := 20) (by omega) (by omega)) ⟨by decide, ?_⟩
    rw [ty_sd20 (by omega) hp]
    unfold ty_par at h; rw [if_neg h2] at h; exact h
theorem ty_parentOf0 {post : Int32 → Prop} {p : Nat} (h4 : p < 4) (h : post (-1)) : wpX_parentOf post (nI m, pf, pl, ac, cc, al, st, dp, K, N, I, T, rn, R, kp, pb, ap, sd, cp, wy, na) (nI p) :=
  br_f (nI_ge (b := 4) h4 (by decide)) h
theorem ty_levelOf {post : Int32 → Prop} {p : Nat} (hp : p < 84) (h : post (nI (ty_lv p))) : wpX_levelOf post (nI m, pf, pl, ac, cc, al, st, dp, K, N, I, T, rn, R, kp, pb, ap, sd, cp, wy, na) (nI p) := by
  by_cases h4 : p < 4
  · rw [ty_lv1 h4] at h
    exact br_f (nI_ge (b := 4) h4 (by decide)) h
  · refine br_t (nI_le (a := 4) (by omega) (by omega)) ?_
    by_cases h2 : p < 20
    · rw [ty_lv2 h4 h2] at h
      exact br_f (nI_ge (b := 20) h2 (by decide)) h
    · rw [ty_lv3 h2] at h
      exact br_t (nI_le (a := 20) (by omega) (by omega)) h
theorem ty_fw63 {post : SX → Prop} {r p : Nat} (P : ty_Po m K N I) (hr : r < m) (hp : p < 84) (hna : ∀ j, j < ty_lv p → na j = nI (ty_nm p j))
    (h : ∀ wy', (∀ j, j ≤ ty_lv p → wy' j = nI (ty_an I r p j)) → post (nI m, pf, pl, ac, cc, al, st, nI (ty_lv p), K, N, I, T, rn, R, kp, pb, ap, sd, cp, wy', na)) :
    ∀ n i wy, i ≤ ty_lv p → ty_lv p - i < n → (∀ j, j ≤ i → wy j = nI (ty_an I r p j)) → wX_findWay_63 post (nI m) pf pl ac cc al st (nI (ty_lv p)) n (nI i) K N I T rn R kp pb ap sd cp wy na := by
  have hl := ty_lv_r p
  have hm := P.2.1
  intro n
  induction n with
  | zero => intro i wy _ h; omega
  | succ n ih =>
    intro i wy hi hn hw
    by_cases e : i = ty_lv p
    · refine br_t (nI_le (by omega) (by omega)) (h wy fun j hj => hw j (by omega))
    · refine br_f (nI_ge (by omega) (by omega)) ⟨vp_in_nI (by omega) (by decide), vp_in_nI (by omega) (by decide), ?_⟩
      have ha := ty_an_lt P hr hp i
      have hb := ty_nm_lt hp i
      have c := ty_po_ch P ha hb
      rw [nI_clamp (show i < 2 ^ 31 by omega), hw i (Nat.le_refl _), hna i (by omega), ty_m4, nI_add, nI_1, nI_clamp (show 4 * ty_an I r p i + ty_nm p i < 2 ^ 31 by omega), nI_clamp (show i + 1 < 2 ^ 31 by omega)]
      refine ⟨vp_in_nI (by omega) (by decide), vp_in_nI (by omega) (by decide), nm_r (congrArg (upd wy (i + 1)) c.1) (nm_e ?_)⟩
      refine ih (i + 1) _ (by omega) (by omega) fun j hj => ?_
      by_cases e2 : j = i + 1
      · subst e2; rw [pk_us]; rfl
      · rw [pk_un e2]; exact hw j (by omega)
theorem ty_fw19 {post : SX → Prop} {r p t : Nat} (P : ty_Po m K N I) (hR : R t = nI r) (hr : r < m) (ht : t < 9) (hp : p < 84)
    (h : ∀ wy' na', (∀ j, j ≤ ty_lv p → wy' j = nI (ty_an I r p j)) → (∀ j, j < ty_lv p → na' j = nI (ty_nm p j)) → post (nI m, pf, pl, ac, cc, al, st, nI (ty_lv p), K, N, I, T, rn, R, kp, pb, ap, sd, cp, wy', na')) :
    ∀ k n x3 na, k ≤ ty_lv p → k < n → (∀ j, k ≤ j → j < ty_lv p → na j = nI (ty_nm p j)) → (1 ≤ k → x3 = nI (ty_up p (k - 1))) → wX_findWay_19 post (nI t) (nI m) pf pl ac cc al st (nI (ty_lv p)) n x3 (ty_dn k) K N I T rn R kp pb ap sd cp wy na := by
  have hl := ty_lv_r p
  intro k
  induction k with
  | zero =>
    intro n x3 na _ hn hna _
    obtain ⟨n, rfl⟩ : ∃ j, n = j + 1 := ⟨n - 1, by omega⟩
    rw [ty_dn0]
    refine br_t (by decide) ⟨vp_in_nI ht (by decide), ?_⟩
    rw [nI_clamp (show t < 2 ^ 31 by omega), hR]
    refine nm_e ⟨ty_lv p + 1, ?_⟩
    refine ty_fw63 P hr hp (fun j hj => hna j (by omega) hj) (fun wy' hw => h wy' na hw fun j hj => hna j (by omega) hj) _ 0 _ (by omega) (by omega) fun j hj => ?_
    have : j = 0 := by omega
    subst this
    rw [pk_us]; rfl
  | succ k ih =>
    intro n x3 na hk hn hna hx
    obtain ⟨n, rfl⟩ : ∃ j, n = j + 1 := ⟨n - 1, by omega⟩
    have hx := hx (by omega)
    rw [Nat.add_sub_cancel] at hx
    subst hx
    rw [ty_dnS]
    have hu := ty_up_lt hp k
    refine br_f (nI_pos (by omega)) (ty_nameOf hu ⟨vp_in_nI (by omega) (by decide), ?_⟩)
    rw [ty_up_nm hp (by omega), nI_clamp (show k < 2 ^ 31 by omega)]
    refine nm_e ?_
    have hna' : ∀ j, k ≤ j → j < ty_lv p → upd na k (nI (ty_nm p k)) j = nI (ty_nm p j) := by
      intro j h1 h2
      by_cases e : j = k
      · subst e; exact pk_us
      · rw [pk_un e]; exact hna j (by omega) h2
    by_cases k0 : k = 0
    · subst k0
      by_cases h4 : ty_up p 0 < 4
      · exact ty_parentOf0 h4 (nm_e (ih n _ _ (by omega) (by omega) hna' (fun h => absurd h (by omega))))
      · exact ty_parentOf hu h4 (nm_e (ih n _ _ (by omega) (by omega) hna' (fun h => absurd h (by omega))))
    · obtain ⟨j, rfl⟩ : ∃ j, k = j + 1 := ⟨k - 1, by omega⟩
      have q := ty_up_par hp (k := j) (by omega)
      refine ty_parentOf hu q.1 (nm_e (ih n _ _ (by omega) (by omega) hna' (fun _ => ?_)))
      rw [q.2, Nat.add_sub_cancel]
theorem ty_findWay {post : SX → Prop} {r p t : Nat} (P : ty_Po m K N I) (hR : R t = nI r) (hr : r < m) (ht : t < 9) (hp : p < 84)
    (h : ∀ wy' na', (∀ j, j ≤ ty_lv p → wy' j = nI (ty_an I r p j)) → (∀ j, j < ty_lv p → na' j = nI (ty_nm p j)) → post (nI m, pf, pl, ac, cc, al, st, nI (ty_lv p), K, N, I, T, rn, R, kp, pb, ap, sd, cp, wy', na')) :
    wpX_findWay post (nI m, pf, pl, ac, cc, al, st, dp, K, N, I, T, rn, R, kp, pb, ap, sd, cp, wy, na) (nI t) (nI p) := by
  have hl := ty_lv_r p
  unfold wpX_findWay
  refine ty_levelOf hp (nm_r (ty_dnP hl.1) ⟨ty_lv p + 1, ?_⟩)
  refine ty_fw19 P hR hr ht hp h (ty_lv p) _ (nI p) na (Nat.le_refl _) (by omega) (fun j h1 h2 => by omega) (fun _ => ?_)
  rw [ty_up_top hp]
theorem ty_contentAt {post : Int32 → SX → Prop} {r p t : Nat} (P : ty_Po m K N I) (hR : R t = nI r) (hr : r < m) (ht : t < 9) (hp : p < 84)
    (h : ∀ dp' wy' na', post (nI (ty_at I r p)) (nI m, pf, pl, ac, cc, al, st, dp', K, N, I, T, rn, R, kp, pb, ap, sd, cp, wy', na')) :
    wpX_contentAt post (nI m, pf, pl, ac, cc, al, st, dp, K, N, I, T, rn, R, kp, pb, ap, sd, cp, wy, na) (nI t) (nI p) := by
  have hl := ty_lv_r p
  unfold wpX_contentAt
  refine ty_findWay P hR hr ht hp fun wy' na' hw hn => ⟨vp_in_nI (by omega) (by decide), ?_⟩
  rw [nI_clamp (show ty_lv p < 2 ^ 31 by omega), hw _ (Nat.le_refl _)]
  have e : ty_at I r p = ty_an I r p (ty_lv p) := if_pos hp
  rw [← e]
  exact h _ _ _
/-- a folder's contents with another at a name -/
def ty_wv (I : Nat → Int32) (f n c : Nat) : Nat → Nat := fun j => if j = n then c else ty_ch I f j
theorem ty_wv_e (I : Nat → Int32) {f n c j : Nat} (h : n = j) : nI c = nI (ty_wv I f n c j) := by unfold ty_wv; rw [if_pos h.symm]
theorem ty_wv_n (P : ty_Po m K N I) {f n c j : Nat} (hf : f < m) (hj : j < 4) (h : n ≠ j) : I (4 * f + j) = nI (ty_wv I f n c j) := by
  unfold ty_wv; rw [if_neg (fun e => h e.symm)]; exact (ty_po_ch P hf hj).1
theorem ty_with {post : Int32 → SX → Prop} {f n c : Nat} (P : ty_Pl m K N I T) (hm : m < 1024) (hf : f < m) (hn : n < 4) (hc : c < m)
    (h : ∀ k m' K' N' I' T', ty_Pl m' K' N' I' T' → ty_Cn m K N I m' K' N' I' k 2 0 (ty_wv I f n c) → post (nI k) (nI m', pf, pl, ac, cc, al, st, dp, K', N', I', T', rn, R, kp, pb, ap, sd, cp, wy, na)) :
    wpX_with post (nI m, pf, pl, ac, cc, al, st, dp, K, N, I, T, rn, R, kp, pb, ap, sd, cp, wy, na) (nI f) (nI n) (nI c) := by
  have C : wX_with_89 post (nI (ty_wv I f n c 3)) (nI (ty_wv I f n c 2)) (nI (ty_wv I f n c 1)) (nI (ty_wv I f n c 0)) 0 2 (nI m) pf pl ac cc al st dp K N I T rn R kp pb ap sd cp wy na := by
    unfold wX_with_89
    refine ty_content P hm 2 0 (ty_wv I f n c) (fun j hj => ?_) (Or.inr ⟨rfl, rfl⟩) h
    unfold ty_wv
    split
    · exact hc
    · exact ty_po_lt P.1 hf hj
  have C60 : ∀ z, z = nI (ty_wv I f n c 2) → wX_with_60 post (nI n) (nI c) (nI (4 * f)) (nI (ty_wv I f n c 0)) (nI (ty_wv I f n c 1)) z (nI m) pf pl ac cc al st dp K N I T rn R kp pb ap sd cp wy na := by
    intro z hz
    subst hz
    refine pk_eq n 3 (fun e => ?_) (fun e => ⟨?_, ?_⟩)
    · rw [ty_wv_e I (f := f) e]; exact C
    · rw [ty_a3]; exact vp_in_nI (by omega) (by decide)
    · rw [ty_a3, nI_clamp (show 4 * f + 3 < 2 ^ 31 by omega), ty_wv_n P.1 hf (by omega) e]; exact C
  have C40 : ∀ z, z = nI (ty_wv I f n c 1) → wX_with_40 post (nI n) (nI c) (nI (4 * f)) (nI (ty_wv I f n c 0)) z (nI m) pf pl ac cc al st dp K N I T rn R kp pb ap sd cp wy na := by
    intro z hz
    subst hz
    refine pk_eq n 2 (fun e => ?_) (fun e => ⟨?_, ?_⟩)
    · exact C60 _ (ty_wv_e I e)
    · rw [ty_a2]; exact vp_in_nI (by omega) (by decide)
    · rw [ty_a2, nI_clamp (show 4 * f + 2 < 2 ^ 31 by omega)]; exact C60 _ (ty_wv_n P.1 hf (by omega) e)
  have C20 : ∀ z, z = nI (ty_wv I f n c 0) → wX_with_20 post (nI n) (nI c) (nI (4 * f)) z (nI m) pf pl ac cc al st dp K N I T rn R kp pb ap sd cp wy na := by
    intro z hz
    subst hz
    refine pk_eq n 1 (fun e => ?_) (fun e => ⟨?_, ?_⟩)
    · exact C40 _ (ty_wv_e I e)
    · rw [nI_1]; exact vp_in_nI (by omega) (by decide)
    · rw [nI_1, nI_clamp (show 4 * f + 1 < 2 ^ 31 by omega)]; exact C40 _ (ty_wv_n P.1 hf (by omega) e)
  refine nm_r (ty_m4 f) (pk_eq n 0 (fun e => ?_) (fun e => ⟨vp_in_nI (by omega) (by decide), ?_⟩))
  · exact C20 _ (ty_wv_e I e)
  · rw [nI_clamp (show 4 * f < 2 ^ 31 by omega)]; exact C20 _ (ty_wv_n P.1 hf (j := 0) (by omega) e)
end
section
variable {pf pl ac cc al st dp : Int32} {rn R kp pb ap sd cp wy na : Nat → Int32} {m0 : Nat} {K0 N0 I0 : Nat → Int32}
theorem ty_sc17 {post : SX → Prop} {r p t c : Nat} (P0 : ty_Po m0 K0 N0 I0) (hr : r < m0) (ht : t < 9) (hp : p < 84)
    (hw : ∀ j, j ≤ ty_lv p → wy j = nI (ty_an I0 r p j)) (hna : ∀ j, j < ty_lv p → na j = nI (ty_nm p j)) {M0 : Nat} (hM0 : M0 ≤ 1024)
    (h : ∀ m K N I T s, ty_Pl m K N I T → ty_Ex m0 K0 N0 I0 m K N I → m ≤ M0 → ty_Sq m K I I0 r p c 0 s → post (nI m, pf, pl, ac, cc, al, st, dp, K, N, I, T, rn, upd R t (nI (s 0)), kp, pb, ap, sd, cp, wy, na)) :
    ∀ k n m K N I T s, k ≤ ty_lv p → k < n → m + k ≤ M0 → ty_Pl m K N I T → ty_Ex m0 K0 N0 I0 m K N I → ty_Sq m K I I0 r p c k s → s k < m → wX_setContent_17 post (nI t) n (nI (s k)) (ty_dn k) (nI m) pf pl ac cc al st dp K N I T rn R kp pb ap sd cp wy na := by
  have hl := ty_lv_r p
  intro k
  induction k with
  | zero =>
    intro n m K N I T s _ hn hM P E hS _
    obtain ⟨n, rfl⟩ : ∃ j, n = j + 1 := ⟨n - 1, by omega⟩
    rw [ty_dn0]
    refine br_t (by decide) ⟨vp_in_nI ht (by decide), ?_⟩
    rw [nI_clamp (show t < 2 ^ 31 by omega)]
    exact nm_e (h m K N I T s P E (by omega) hS)
  | succ k ih =>
    intro n m K N I T s hk hn hM P E hS hs
    obtain ⟨n, rfl⟩ : ∃ j, n = j + 1 := ⟨n - 1, by omega⟩
    rw [ty_dnS]
    have ha := ty_an_lt P0 hr hp k
    have hE := E.1
    refine br_f (nI_pos (by omega)) ⟨vp_in_nI (by omega) (by decide), vp_in_nI (by omega) (by decide), ?_⟩
    rw [nI_clamp (show k < 2 ^ 31 by omega), hw k (by omega), hna k (by omega)]
    refine ty_with P (by omega) (by omega) (ty_nm_lt hp k) hs fun kk m' K' N' I' T' P' C => nm_e ?_
    have hm' : m' ≤ m + 1 := by rcases C.2.2.2.1 with z | z <;> omega
    have key := ih n m' K' N' I' T' (fun j => if j = k then kk else s j) (by omega) (by omega) (by omega) P' (ty_Ex_tr E C.1) ?_ ?_
    · have e : (if k = k then kk else s k) = kk := if_pos rfl
      rw [e] at key
      exact key
    · refine ⟨?_, fun j h1 h2 => ?_⟩
      · show (if ty_lv p = k then kk else s (ty_lv p)) = c
        rw [if_neg (by omega)]; exact hS.1
      · by_cases e : j = k
        · subst e
          show (if j = j then kk else s j) < m' ∧ K' (if j = j then kk else s j) = 2 ∧ ∀ i, i < 4 → ty_ch I' (if j = j then kk else s j) i = if i = ty_nm p j then (if j + 1 = j then kk else s (j + 1)) else ty_ch I0 (ty_an I0 r p j) i
          rw [if_pos rfl, if_neg (show ¬ j + 1 = j by omega)]
          refine ⟨C.2.2.1, C.2.2.2.2.1, fun i hi => ?_⟩
          have hv : ty_wv I (ty_an I0 r p j) (ty_nm p j) (s (j + 1)) i < 2 ^ 31 := by
            have := P.1.2.1
            unfold ty_wv
            split
            · omega
            · have := ty_po_lt P.1 (c := ty_an I0 r p j) (by omega) hi
              omega
          have e1 : ty_ch I' kk i = ty_wv I (ty_an I0 r p j) (ty_nm p j) (s (j + 1)) i := by
            show (I' (4 * kk + i)).toNatClampNeg = _
            rw [C.2.2.2.2.2.2 i hi]; exact nI_clamp hv
          rw [e1]
          unfold ty_wv
          split
          · rfl
          · exact ty_ex_ch E ha hi
        · show (if j = k then kk else s j) < m' ∧ K' (if j = k then kk else s j) = 2 ∧ ∀ i, i < 4 → ty_ch I' (if j = k then kk else s j) i = if i = ty_nm p j then (if j + 1 = k then kk else s (j + 1)) else ty_ch I0 (ty_an I0 r p j) i
          rw [if_neg e, if_neg (show ¬ j + 1 = k by omega)]
          have q := hS.2 j (by omega) h2
          have hq := C.1.1
          refine ⟨by omega, (ty_ex_K C.1 q.1).trans q.2.1, fun i hi => ?_⟩
          rw [ty_ex_ch C.1 q.1 hi]; exact q.2.2 i hi
    · show (if k = k then kk else s k) < m'
      rw [if_pos rfl]; exact C.2.2.1
end
section
variable {m : Nat} {pf pl ac cc al st dp : Int32} {K N I T rn R kp pb ap sd cp wy na : Nat → Int32}
theorem ty_setContent {post : SX → Prop} {r p t c : Nat} (P : ty_Pl m K N I T) (hm : m + 3 ≤ 1024) (hR : R t = nI r) (hr : r < m) (ht : t < 9) (hp : p < 84) (hc : c < m)
    (h : ∀ m' K' N' I' T' s dp' wy' na', ty_Pl m' K' N' I' T' → ty_Ex m K N I m' K' N' I' → m' ≤ m + 3 → ty_Sq m' K' I' I r p c 0 s → post (nI m', pf, pl, ac, cc, al, st, dp', K', N', I', T', rn, upd R t (nI (s 0)), kp, pb, ap, sd, cp, wy', na')) :
    wpX_setContent post (nI m, pf, pl, ac, cc, al, st, dp, K, N, I, T, rn, R, kp, pb, ap, sd, cp, wy, na) (nI t) (nI p) (nI c) := by
  have hl := ty_lv_r p
  unfold wpX_setContent
  refine ty_findWay P.1 hR hr ht hp fun wy' na' hw hn => nm_r (ty_dnP hl.1) ⟨ty_lv p + 1, ?_⟩
  exact ty_sc17 (M0 := m + 3) P.1 hr ht hp hw hn hm (fun m' K' N' I' T' s P' E hM hS => h m' K' N' I' T' s _ _ _ P' E hM hS) (ty_lv p) (ty_lv p + 1) m K N I T (fun _ => c) (Nat.le_refl _) (by omega) (by omega) P (ty_Ex_rf m K N I) ⟨rfl, fun j h1 h2 => by omega⟩ hc
end
end
section
/-! the reference: parts, kinds, the same, empty, put -/
/-- a path as an int; none is -1 -/
def ty_nP (x : Nat) : Int32 := if x < 84 then nI x else -1
theorem ty_nP_t {x : Nat} (h : x < 84) : ty_nP x = nI x := if_pos h
theorem ty_nP_f {x : Nat} (h : ¬ x < 84) : ty_nP x = -1 := if_neg h
/-- what stands at a path of a tree; 0 where there is none -/
def ty_kA (F : Nat → Int32) (t p : Nat) : Int32 := if p < 84 then F (84 * t + p) else 0
theorem ty_kA_t (F : Nat → Int32) (t : Nat) {p : Nat} (h : p < 84) : ty_kA F t p = F (84 * t + p) := if_pos h
theorem ty_kA_f (F : Nat → Int32) (t : Nat) {p : Nat} (h : ¬ p < 84) : ty_kA F t p = 0 := if_neg h
/-- the same contents, path by path -/
def ty_Sm (A B : Nat → Int32) (t p u q : Nat) : Prop := ∀ k, k < 21 → ty_kA A t (ty_pt p k) = ty_kA A u (ty_pt q k) ∧ (ty_kA A t (ty_pt p k) = 1 → ty_kA B t (ty_pt p k) = ty_kA B u (ty_pt q k))
def ty_eA (F : Nat → Int32) (t p : Nat) : Nat → Nat → Int32
  | 0 => F
  | k + 1 => if ty_pt p k < 84 then upd (ty_eA F t p k) (84 * t + ty_pt p k) 0 else ty_eA F t p k
def ty_pu (F : Nat → Int32) (t p u q : Nat) : Nat → Nat → Int32
  | 0 => F
  | k + 1 => if ty_pt q k < 84 then upd (ty_pu F t p u q k) (84 * u + ty_pt q k) (ty_kA (ty_pu F t p u q k) t (ty_pt p k)) else ty_pu F t p u q k
def ty_cp (F : Nat → Int32) (t u : Nat) : Nat → Nat → Int32
  | 0 => F
  | k + 1 => upd (ty_cp F t u k) (84 * u + k) (ty_cp F t u k (84 * t + k))
theorem ty_eA_o (F : Nat → Int32) {t p i : Nat} (k : Nat) (h : ∀ j, j < k → ty_pt p j < 84 → i ≠ 84 * t + ty_pt p j) : ty_eA F t p k i = F i := by
  induction k with
  | zero => rfl
  | succ k ih =>
    have e := ih (fun j hj => h j (by omega))
    show (if ty_pt p k < 84 then upd (ty_eA F t p k) (84 * t + ty_pt p k) 0 else ty_eA F t p k) i = F i
    split
    · rename_i hp
      rw [pk_un (h k (by omega) hp)]; exact e
    · exact e
theorem ty_eA_i (F : Nat → Int32) {t p : Nat} : ∀ k j, j < k → ty_pt p j < 84 → ty_eA F t p k (84 * t + ty_pt p j) = 0 := by
  intro k
  induction k with
  | zero => intro j hj; omega
  | succ k ih =>
    intro j hj hp
    show (if ty_pt p k < 84 then upd (ty_eA F t p k) (84 * t + ty_pt p k) 0 else ty_eA F t p k) _ = 0
    by_cases e : ty_pt p j = ty_pt p k
    · rw [if_pos (by omega), e, pk_us]
    · have jk : j ≠ k := fun z => e (by rw [z])
      split
      · rw [pk_un (by omega)]; exact ih j (by omega) hp
      · exact ih j (by omega) hp
theorem ty_pu_o (F : Nat → Int32) {t p u q i : Nat} (k : Nat) (h : ∀ j, j < k → ty_pt q j < 84 → i ≠ 84 * u + ty_pt q j) : ty_pu F t p u q k i = F i := by
  induction k with
  | zero => rfl
  | succ k ih =>
    have e := ih (fun j hj => h j (by omega))
    show (if ty_pt q k < 84 then upd (ty_pu F t p u q k) (84 * u + ty_pt q k) (ty_kA (ty_pu F t p u q k) t (ty_pt p k)) else ty_pu F t p u q k) i = F i
    split
    · rename_i hp
      rw [pk_un (h k (by omega) hp)]; exact e
    · exact e
theorem ty_pu_k (F : Nat → Int32) {t p u q : Nat} (htu : t ≠ u) (k x : Nat) : ty_kA (ty_pu F t p u q k) t x = ty_kA F t x := by
  unfold ty_kA
  split
  · exact ty_pu_o F k (fun j _ hj => by omega)
  · rfl
theorem ty_pu_i (F : Nat → Int32) {t p u q : Nat} (htu : t ≠ u) (hq : q < 84) : ∀ k j, k ≤ 21 → j < k → ty_pt q j < 84 → ty_pu F t p u q k (84 * u + ty_pt q j) = ty_kA F t (ty_pt p j) := by
  intro k
  induction k with
  | zero => intro j _ hj; omega
  | succ k ih =>
    intro j hk hj hp
    show (if ty_pt q k < 84 then upd (ty_pu F t p u q k) (84 * u + ty_pt q k) (ty_kA (ty_pu F t p u q k) t (ty_pt p k)) else ty_pu F t p u q k) _ = _
    by_cases e : j = k
    · subst e
      rw [if_pos hp, pk_us]; exact ty_pu_k F htu j _
    · have ne : ty_pt q j ≠ ty_pt q k := fun z => e (ty_pt_inj hq (by omega) (by omega) z hp)
      split
      · rw [pk_un (by omega)]; exact ih j (by omega) (by omega) hp
      · exact ih j (by omega) (by omega) hp
theorem ty_cp_o (F : Nat → Int32) {t u i : Nat} (k : Nat) (h : ∀ j, j < k → i ≠ 84 * u + j) : ty_cp F t u k i = F i := by
  induction k with
  | zero => rfl
  | succ k ih =>
    have e := ih (fun j hj => h j (by omega))
    show upd (ty_cp F t u k) (84 * u + k) (ty_cp F t u k (84 * t + k)) i = F i
    rw [pk_un (h k (by omega))]; exact e
theorem ty_cp_i (F : Nat → Int32) {t u : Nat} (htu : t ≠ u) : ∀ k j, k ≤ 84 → j < k → ty_cp F t u k (84 * u + j) = F (84 * t + j) := by
  intro k
  induction k with
  | zero => intro j _ hj; omega
  | succ k ih =>
    intro j hk hj
    show upd (ty_cp F t u k) (84 * u + k) (ty_cp F t u k (84 * t + k)) _ = _
    by_cases e : j = k
    · subst e
      rw [pk_us]; exact ty_cp_o F j (fun i hi => by omega)
    · rw [pk_un (by omega)]; exact ih j (by omega) (by omega)
theorem ty_m84 (k : Nat) : (84 : Int32) * nI k = nI (84 * k) := pk_mul 84 k
def ty_cnt (f : Nat → Nat) : Nat → Nat
  | 0 => 0
  | k + 1 => ty_cnt f k + f k
theorem ty_cnt_le (f : Nat → Nat) (h : ∀ k, f k ≤ 1) : ∀ n, ty_cnt f n ≤ n
  | 0 => Nat.le_refl _
  | n + 1 => by
    have := ty_cnt_le f h n
    have := h n
    show ty_cnt f n + f n ≤ n + 1
    omega
theorem ty_cnt_cg {f g : Nat → Nat} : ∀ n, (∀ k, k < n → f k = g k) → ty_cnt f n = ty_cnt g n
  | 0, _ => rfl
  | n + 1, h => by
    show ty_cnt f n + f n = ty_cnt g n + g n
    rw [ty_cnt_cg n (fun k hk => h k (by omega)), h n (by omega)]
/-- 1 for what isn't 0 -/
def ty_n0 (x : Int32) : Nat := if x = 0 then 0 else 1
theorem ty_n0_le (x : Int32) : ty_n0 x ≤ 1 := by unfold ty_n0; split <;> omega
section
variable {pf ya yc : Int32} {A B kp tk yp ys yq : Nat → Int32}
theorem ty_y_child {post : Int32 → Prop} {p n : Nat} (hp : p < 84 ∨ p = 1000) (hn : n < 4) (h : post (ty_nP (ty_cl p n))) : wpY_child post (pf, ya, yc, A, B, kp, tk, yp, ys, yq) (ty_nP p) (nI n) := by
  by_cases hp8 : p < 84
  · rw [ty_nP_t hp8]
    refine br_f (nI_pos (by omega)) ?_
    by_cases h2 : p < 20
    · refine br_t (nI_le (b := 19) (by omega) (by decide)) ?_
      by_cases h4 : p < 4
      · refine br_f (nI_ge (b := 4) h4 (by decide)) ?_
        have e : 4 + 4 * nI p + nI n = ty_nP (ty_cl p n) := by
          rw [ty_cl1 h4, ty_nP_t (by omega), ty_m4]
          have e1 : 4 + nI (4 * p) = nI (4 + 4 * p) := nI_add 4 _
          rw [e1, nI_add]
        rw [e]; exact h
      · refine br_t (nI_le (a := 4) (by omega) (by omega)) ?_
        have e : 20 + 4 * (nI p - 4) + nI n = ty_nP (ty_cl p n) := by
          have e0 : nI p - 4 = nI (p - 4) := pk_sub (b := 4) (by omega)
          have e1 : 20 + nI (4 * (p - 4)) = nI (20 + 4 * (p - 4)) := nI_add 20 _
          have e2 : ty_cl p n = 20 + 4 * (p - 4) + n := by unfold ty_cl; rw [if_neg h4, if_pos h2]
          rw [e2, ty_nP_t (by omega), e0, ty_m4, e1, nI_add]
        rw [e]; exact h
    · refine br_f (nI_ge (a := 19) (by omega) (by omega)) ?_
      rw [ty_cl3 h2, ty_nP_f (by omega)] at h; exact h
  · rw [ty_nP_f hp8]
    refine br_t (by decide) ?_
    rw [ty_cl3 (by omega), ty_nP_f (by omega)] at h; exact h
theorem ty_y_part {post : Int32 → Prop} {p k : Nat} (hp : p < 84) (hk : k < 21) (h : post (ty_nP (ty_pt p k))) : wpY_part post (pf, ya, yc, A, B, kp, tk, yp, ys, yq) (nI p) (nI k) := by
  unfold ty_pt at h
  by_cases k0 : k = 0
  · rw [if_pos k0, ty_nP_t hp] at h
    subst k0
    exact br_t rfl h
  · rw [if_neg k0] at h
    refine br_f (nI_ne0 (by omega) (by omega)) ?_
    by_cases k5 : k < 5
    · rw [if_pos k5] at h
      refine br_f (nI_ge (b := 5) k5 (by decide)) ?_
      have e : nI k - 1 = nI (k - 1) := pk_sub (b := 1) (by omega)
      rw [e]
      unfold wY_part_24
      rw [← ty_nP_t hp]
      exact ty_y_child (Or.inl hp) (by omega) (br_f (nI_ge (b := 5) k5 (by decide)) h)
    · rw [if_neg k5] at h
      refine br_t (nI_le (a := 5) (by omega) (by omega)) ⟨by decide, ?_⟩
      have e : nI k - 5 = nI (k - 5) := pk_sub (b := 5) (by omega)
      have e1 : nI (k - 5) / 4 = nI ((k - 5) / 4) := pk_div (d := 4) (by omega) (by omega) (by omega)
      have e2 : nI (k - 5) - nI (k - 5) / 4 * 4 = nI ((k - 5) % 4) := pk_rem (d := 4) (by omega) (by omega) (by omega)
      unfold wY_part_24
      rw [e, e2, e1, ← ty_nP_t hp]
      refine ty_y_child (Or.inl hp) (by omega) (br_t (nI_le (a := 5) (by omega) (by omega)) ⟨by decide, ?_⟩)
      exact ty_y_child (ty_cl_r (by omega)) (by omega) h
theorem ty_y_kindAt {post : Int32 → Prop} {t p : Nat} (ht : t < 10) (h : post (ty_kA A t p)) : wpY_kindAt post (pf, ya, yc, A, B, kp, tk, yp, ys, yq) (nI t) (ty_nP p) := by
  by_cases hp : p < 84
  · rw [ty_kA_t A t hp] at h
    rw [ty_nP_t hp]
    refine br_t (nI_pos' (by omega)) ?_
    rw [ty_m84, nI_add, nI_clamp (show 84 * t + p < 2 ^ 31 by omega)]
    exact ⟨vp_in_nI (by omega) (by decide), h⟩
  · rw [ty_kA_f A t hp] at h
    rw [ty_nP_f hp]
    exact br_f (by decide) h
theorem ty_y_ix {t p : Nat} (ht : t < 10) (hp : p < 84) : vp_in (84 * nI t + ty_nP p) 840 ∧ (84 * nI t + ty_nP p).toNatClampNeg = 84 * t + p := by
  rw [ty_nP_t hp, ty_m84, nI_add, nI_clamp (show 84 * t + p < 2 ^ 31 by omega)]
  exact ⟨vp_in_nI (by omega) (by decide), rfl⟩
theorem ty_y_same3 {post : Int32 → Prop} {t p u q : Nat} (ht : t < 10) (hu : u < 10) (hp : p < 84) (hq : q < 84) (h1 : ty_Sm A B t p u q → post 1) (h0 : ¬ ty_Sm A B t p u q → post 0) :
    ∀ n k, k ≤ 21 → 21 - k < n → (∀ j, j < k → ty_kA A t (ty_pt p j) = ty_kA A u (ty_pt q j) ∧ (ty_kA A t (ty_pt p j) = 1 → ty_kA B t (ty_pt p j) = ty_kA B u (ty_pt q j))) → wY_isSame_3 post (nI t) (nI p) (nI u) (nI q) pf ya yc A B kp tk yp ys yq n (nI k) := by
  intro n
  induction n with
  | zero => intro k _ h; omega
  | succ n ih =>
    intro k hk hn hj
    by_cases e : k = 21
    · subst e
      exact br_t (nI_le (a := 21) (by omega) (by decide)) (h1 hj)
    · refine br_f (nI_ge (b := 21) (by omega) (by decide)) ?_
      refine ty_y_part hp (by omega) (ty_y_part hq (by omega) (ty_y_kindAt ht (ty_y_kindAt hu ?_)))
      have next : (ty_kA A t (ty_pt p k) = ty_kA A u (ty_pt q k) ∧ (ty_kA A t (ty_pt p k) = 1 → ty_kA B t (ty_pt p k) = ty_kA B u (ty_pt q k))) → wY_isSame_3 post (nI t) (nI p) (nI u) (nI q) pf ya yc A B kp tk yp ys yq n (nI (k + 1)) := by
        intro z
        refine ih (k + 1) (by omega) (by omega) fun j hj' => ?_
        by_cases e2 : j = k
        · subst e2; exact z
        · exact hj j (by omega)
      refine br_c (fun e1 => br_c (fun e2 => ?_) (fun e2 => nm_r (nI_1 k) (next ⟨e1, fun z => absurd z e2⟩))) (fun e1 => h0 fun S => e1 (S k (by omega)).1)
      have a1 : ty_pt p k < 84 := by
        refine Classical.byContradiction fun z => ?_
        rw [ty_kA_f A t z] at e2; exact absurd e2 (by decide)
      have a2 : ty_pt q k < 84 := by
        refine Classical.byContradiction fun z => ?_
        rw [e1, ty_kA_f A u z] at e2; exact absurd e2 (by decide)
      have i1 := ty_y_ix ht a1
      have i2 := ty_y_ix hu a2
      rw [i1.2, i2.2]
      refine ⟨i1.1, i2.1, br_c (fun e3 => nm_r (nI_1 k) (next ⟨e1, fun _ => ?_⟩)) (fun e3 => h0 fun S => e3 ?_)⟩
      · rw [ty_kA_t B t a1, ty_kA_t B u a2]; exact e3
      · have := (S k (by omega)).2 e2
        rw [ty_kA_t B t a1, ty_kA_t B u a2] at this; exact this
theorem ty_y_same {post : Int32 → Prop} {t p u q : Nat} (ht : t < 10) (hu : u < 10) (hp : p < 84) (hq : q < 84) (h1 : ty_Sm A B t p u q → post 1) (h0 : ¬ ty_Sm A B t p u q → post 0) :
    wpY_isSame post (pf, ya, yc, A, B, kp, tk, yp, ys, yq) (nI t) (nI p) (nI u) (nI q) :=
  ⟨22, ty_y_same3 ht hu hp hq h1 h0 22 0 (by omega) (by omega) (fun j hj => by omega)⟩
theorem ty_y_empty2 {post : SY → Prop} {t p : Nat} {A0 : Nat → Int32} (ht : t < 10) (hp : p < 84) (h : post (pf, ya, yc, ty_eA A0 t p 21, B, kp, tk, yp, ys, yq)) :
    ∀ n k, k ≤ 21 → 21 - k < n → wY_empty_2 post (nI t) (nI p) pf ya yc n (nI k) (ty_eA A0 t p k) B kp tk yp ys yq := by
  intro n
  induction n with
  | zero => intro k _ h; omega
  | succ n ih =>
    intro k hk hn
    by_cases e : k = 21
    · subst e
      exact br_t (nI_le (a := 21) (by omega) (by decide)) h
    · refine br_f (nI_ge (b := 21) (by omega) (by decide)) (ty_y_part hp (by omega) ?_)
      have IH := ih (k + 1) (by omega) (by omega)
      by_cases hb : ty_pt p k < 84
      · have i1 := ty_y_ix ht hb
        have e2 : ty_eA A0 t p (k + 1) = upd (ty_eA A0 t p k) (84 * t + ty_pt p k) 0 := if_pos hb
        rw [e2] at IH
        refine br_f (by rw [ty_nP_t hb]; exact nI_pos (by omega)) ⟨i1.1, ?_⟩
        rw [i1.2]
        exact nm_e (nm_r (nI_1 k) IH)
      · have e2 : ty_eA A0 t p (k + 1) = ty_eA A0 t p k := if_neg hb
        rw [e2] at IH
        exact br_t (by rw [ty_nP_f hb]; decide) (nm_r (nI_1 k) IH)
theorem ty_y_empty {post : SY → Prop} {t p : Nat} (ht : t < 10) (hp : p < 84) (h : post (pf, ya, yc, ty_eA A t p 21, B, kp, tk, yp, ys, yq)) : wpY_empty post (pf, ya, yc, A, B, kp, tk, yp, ys, yq) (nI t) (nI p) :=
  ⟨22, ty_y_empty2 (A0 := A) ht hp h 22 0 (by omega) (by omega)⟩
theorem ty_y_put10 {post : SY → Prop} {t p u q : Nat} {A0 B0 : Nat → Int32} (ht : t < 10) (hu : u < 10) (hp : p < 84) (hq : q < 84) (h : post (pf, ya, yc, ty_pu A0 t p u q 21, ty_pu B0 t p u q 21, kp, tk, yp, ys, yq)) :
    ∀ n k, k ≤ 21 → 21 - k < n → wY_put_10 post (nI t) (nI p) (nI u) (nI q) pf ya yc n (nI k) (ty_pu A0 t p u q k) (ty_pu B0 t p u q k) kp tk yp ys yq := by
  intro n
  induction n with
  | zero => intro k _ h; omega
  | succ n ih =>
    intro k hk hn
    by_cases e : k = 21
    · subst e
      exact br_t (nI_le (a := 21) (by omega) (by decide)) h
    · refine br_f (nI_ge (b := 21) (by omega) (by decide)) (ty_y_part hp (by omega) (ty_y_part hq (by omega) ?_))
      have IH := ih (k + 1) (by omega) (by omega)
      by_cases hb : ty_pt q k < 84
      · have i1 := ty_y_ix hu hb
        have e2 : ty_pu A0 t p u q (k + 1) = upd (ty_pu A0 t p u q k) (84 * u + ty_pt q k) (ty_kA (ty_pu A0 t p u q k) t (ty_pt p k)) := if_pos hb
        have e3 : ty_pu B0 t p u q (k + 1) = upd (ty_pu B0 t p u q k) (84 * u + ty_pt q k) (ty_kA (ty_pu B0 t p u q k) t (ty_pt p k)) := if_pos hb
        rw [e2, e3] at IH
        refine br_f (by rw [ty_nP_t hb]; exact nI_pos (by omega)) (ty_y_kindAt ht ⟨i1.1, ?_⟩)
        rw [i1.2]
        refine nm_e ?_
        by_cases ha : ty_pt p k < 84
        · have i2 := ty_y_ix ht ha
          rw [ty_kA_t (ty_pu B0 t p u q k) t ha] at IH
          rw [i2.2]
          exact br_t (by rw [ty_nP_t ha]; exact nI_pos' (by omega)) ⟨i2.1, i1.1, nm_e (nm_r (nI_1 k) IH)⟩
        · rw [ty_kA_f (ty_pu B0 t p u q k) t ha] at IH
          exact br_f (by rw [ty_nP_f ha]; decide) ⟨i1.1, nm_e (nm_r (nI_1 k) IH)⟩
      · have e2 : ty_pu A0 t p u q (k + 1) = ty_pu A0 t p u q k := if_neg hb
        have e3 : ty_pu B0 t p u q (k + 1) = ty_pu B0 t p u q k := if_neg hb
        rw [e2, e3] at IH
        exact br_t (by rw [ty_nP_f hb]; decide) (nm_r (nI_1 k) IH)
theorem ty_y_put {post : SY → Prop} {t p u q : Nat} (ht : t < 10) (hu : u < 10) (hp : p < 84) (hq : q < 84) (h : post (pf, ya, yc, ty_pu (ty_eA A u q 21) t p u q 21, ty_pu B t p u q 21, kp, tk, yp, ys, yq)) :
    wpY_put post (pf, ya, yc, A, B, kp, tk, yp, ys, yq) (nI t) (nI p) (nI u) (nI q) := by
  unfold wpY_put
  refine ty_y_empty hu hq ⟨22, ?_⟩
  exact ty_y_put10 (A0 := ty_eA A u q 21) (B0 := B) ht hu hp hq h 22 0 (by omega) (by omega)
theorem ty_y_copy2 {post : SY → Prop} {t u : Nat} {A0 B0 : Nat → Int32} (ht : t < 10) (hu : u < 10) (h : post (pf, ya, yc, ty_cp A0 t u 84, ty_cp B0 t u 84, kp, tk, yp, ys, yq)) :
    ∀ n k, k ≤ 84 → 84 - k < n → wY_copyTree_2 post (nI t) (nI u) pf ya yc n (nI k) (ty_cp A0 t u k) (ty_cp B0 t u k) kp tk yp ys yq := by
  intro n
  induction n with
  | zero => intro k _ h; omega
  | succ n ih =>
    intro k hk hn
    by_cases e : k = 84
    · subst e
      exact br_t (nI_le (a := 84) (by omega) (by decide)) h
    · have IH := ih (k + 1) (by omega) (by omega)
      have i1 := ty_y_ix ht (p := k) (by omega)
      have i2 := ty_y_ix hu (p := k) (by omega)
      rw [ty_nP_t (show k < 84 by omega)] at i1 i2
      refine br_f (nI_ge (b := 84) (by omega) (by decide)) ?_
      rw [i1.2, i2.2]
      exact ⟨i1.1, i2.1, nm_e ⟨i1.1, i2.1, nm_e (nm_r (nI_1 k) IH)⟩⟩
theorem ty_y_copyTree {post : SY → Prop} {t u : Nat} (ht : t < 10) (hu : u < 10) (h : post (pf, ya, yc, ty_cp A t u 84, ty_cp B t u 84, kp, tk, yp, ys, yq)) : wpY_copyTree post (pf, ya, yc, A, B, kp, tk, yp, ys, yq) (nI t) (nI u) :=
  ⟨85, ty_y_copy2 (A0 := A) (B0 := B) ht hu h 85 0 (by omega) (by omega)⟩
end
end
section
/-! tidy: what trees have is kept, and there is room behind it -/
def ty_ar (I : Nat → Int32) (r p : Nat) : Nat := if p < 84 then ty_at I r p else r
def ty_Lv (I R : Nat → Int32) (c : Nat) : Prop := ∃ t, t < 9 ∧ ∃ p, p < 85 ∧ c = ty_ar I (ty_rt R t) p
def ty_Mk (m : Nat) (I R rn : Nat → Int32) : Prop := rn 0 = 0 ∧ ∀ c, c < m → rn c = 0 ∨ (rn c = 1 ∧ ty_Lv I R c)
def ty_Cz (m : Nat) (I : Nat → Int32) (c : Nat) (rn : Nat → Int32) : Prop := ∀ d, c ≤ d → d < m → rn d = 1 → ∀ n, n < 4 → ty_ch I d n = 0 ∨ rn (ty_ch I d n) = 1
theorem ty_Lv_ch {m : Nat} {K N I R A B : Nat → Int32} (P : ty_Po m K N I) (Z : ty_Tr m K N I R A B) {c n : Nat} (h : ty_Lv I R c) (hn : n < 4) : ty_ch I c n = 0 ∨ ty_Lv I R (ty_ch I c n) := by
  obtain ⟨t, ht, p, hp, e⟩ := h
  have h3 := (Z t ht).2.2.2.1
  by_cases h8 : p < 84
  · have e1 : c = ty_at I (ty_rt R t) p := by rw [e]; exact if_pos h8
    by_cases h2 : p < 20
    · refine Or.inr ⟨t, ht, ty_cl p n, ?_, ?_⟩
      · unfold ty_cl; split
        · omega
        · omega
      · have hl : ty_cl p n < 84 := by
          unfold ty_cl; split
          · omega
          · omega
        show _ = ty_ar I (ty_rt R t) (ty_cl p n)
        unfold ty_ar
        rw [if_pos hl, ty_at_cl P h3 (Or.inl h8) hn, e1]
    · refine Or.inl ?_
      rw [e1, ← ty_at_cl P h3 (Or.inl h8) hn, ty_cl3 h2]
      exact ty_atB I _ (by omega)
  · refine Or.inr ⟨t, ht, n, by omega, ?_⟩
    have e1 : c = ty_rt R t := by rw [e]; exact if_neg h8
    unfold ty_ar
    rw [if_pos (by omega), ty_at1 I _ hn, e1]
/-- the renaming pass in front of content c -/
def ty_Rn (K0 N0 I0 q : Nat → Int32) (c m : Nat) (K N I T rn : Nat → Int32) : Prop :=
  ty_Pl m K N I T ∧ m ≤ c ∧
  (∀ i, m ≤ i → K i = K0 i ∧ N i = N0 i ∧ ∀ n, n < 4 → I (4 * i + n) = I0 (4 * i + n)) ∧
  (∀ d, c ≤ d → rn d = q d) ∧ rn 0 = 0 ∧
  (∀ d, 1 ≤ d → d < c → q d = 1 → ∃ k, rn d = nI k ∧ 1 ≤ k ∧ k < m ∧ K k = K0 d ∧ N k = N0 d ∧ ∀ n, n < 4 → I (4 * k + n) = rn (ty_ch I0 d n)) ∧
  (∀ j, 1 ≤ j → j < m → ∃ d, 1 ≤ d ∧ d < c ∧ q d = 1 ∧ rn d = nI j)
theorem ty_choose (n : Nat) (Q : Nat → Nat → Prop) (h : ∀ i, i < n → ∃ j, Q i j) : ∃ g : Nat → Nat, ∀ i, i < n → Q i (g i) :=
  ⟨fun i => if hi : i < n then (h i hi).choose else 0, fun i hi => by
    show Q i (if hi : i < n then (h i hi).choose else 0)
    rw [dif_pos hi]; exact (h i hi).choose_spec⟩
section
variable {m0 : Nat} {K0 N0 I0 q : Nat → Int32} {m : Nat} {K N I T rn R A B : Nat → Int32}
theorem ty_tidyF (P0 : ty_Po m0 K0 N0 I0) (Z : ty_Tr m0 K0 N0 I0 R A B) (M : ty_Mk m0 I0 R q) (C : ty_Cz m0 I0 1 q) (hr : ∀ t, t < 9 → q (ty_rt R t) = 1)
    (H : ty_Rn K0 N0 I0 q m0 m K N I T rn) {R' : Nat → Int32} (hR' : ∀ t, t < 9 → R' t = rn (ty_rt R t)) : m ≤ 766 ∧ ty_Tr m K N I R' A B := by
  have hm0 := P0.2.1
  have P := H.1.1
  have hm := P.2.1
  have hm1 := P.1
  obtain ⟨f, ef⟩ : ∃ f : Nat → Nat, f = fun d => (rn d).toNatClampNeg := ⟨_, rfl⟩
  have f0 : f 0 = 0 := by rw [ef]; show (rn 0).toNatClampNeg = 0; rw [H.2.2.2.2.1]; exact ty_c0
  have q1 : ∀ d, q d = 1 → 1 ≤ d := by
    intro d h
    by_cases e : d = 0
    · rw [e, M.1] at h; exact absurd h (by decide)
    · omega
  have hq : ∀ d, d < m0 → q d = 1 → rn d = nI (f d) ∧ 1 ≤ f d ∧ f d < m ∧ K (f d) = K0 d ∧ N (f d) = N0 d ∧ ∀ n, n < 4 → I (4 * f d + n) = rn (ty_ch I0 d n) := by
    intro d hd h
    obtain ⟨k, e, k1, k2, r⟩ := H.2.2.2.2.2.1 d (q1 d h) hd h
    have e2 : f d = k := by rw [ef]; show (rn d).toNatClampNeg = k; rw [e]; exact nI_clamp (by omega)
    rw [e2]; exact ⟨e, k1, k2, r⟩
  have hG : ∀ d, d < m0 → (d = 0 ∨ q d = 1) → rn d = nI (f d) ∧ f d < m ∧ K (f d) = K0 d ∧ (K0 d = 1 → N (f d) = N0 d) ∧ ∀ n, n < 4 → ty_ch I (f d) n = f (ty_ch I0 d n) ∧ ty_ch I0 d n < m0 ∧ (ty_ch I0 d n = 0 ∨ q (ty_ch I0 d n) = 1) := by
    intro d hd h
    rcases h with h | h
    · subst h
      rw [f0]
      refine ⟨by rw [H.2.2.2.2.1]; rfl, by omega, by rw [P.2.2.1, P0.2.2.1], fun z => ?_, fun n hn => ?_⟩
      · rw [P0.2.2.1] at z; exact absurd z (by decide)
      · rw [ty_po_ch0 P hn, ty_po_ch0 P0 hn, f0]
        exact ⟨rfl, hd, Or.inl rfl⟩
    · have r := hq d hd h
      refine ⟨r.1, r.2.2.1, r.2.2.2.1, fun _ => r.2.2.2.2.1, fun n hn => ⟨?_, ty_po_lt P0 hd hn, C d (q1 d h) hd h n hn⟩⟩
      show (I (4 * f d + n)).toNatClampNeg = _
      rw [r.2.2.2.2.2 n hn, ef]
  have hAn : ∀ r p, r < m0 → (r = 0 ∨ q r = 1) → p < 84 → ∀ k, ty_an I0 r p k < m0 ∧ (ty_an I0 r p k = 0 ∨ q (ty_an I0 r p k) = 1) ∧ ty_an I (f r) p k = f (ty_an I0 r p k) := by
    intro r p hr1 hr2 hp k
    induction k with
    | zero => exact ⟨hr1, hr2, rfl⟩
    | succ k ih =>
      have g := (hG _ ih.1 ih.2.1).2.2.2.2 (ty_nm p k) (ty_nm_lt hp k)
      refine ⟨g.2.1, g.2.2, ?_⟩
      show ty_ch I (ty_an I (f r) p k) (ty_nm p k) = _
      rw [ih.2.2]; exact g.1
  have hHd : ∀ d c, c < m0 → (c = 0 ∨ q c = 1) → ty_Hd I0 d c → ty_Hd I d (f c) := by
    intro d
    induction d with
    | zero =>
      intro c h1 h2 h n hn
      rw [((hG c h1 h2).2.2.2.2 n hn).1, h n hn, f0]
    | succ d ih =>
      intro c h1 h2 h n hn
      have g := (hG c h1 h2).2.2.2.2 n hn
      rw [g.1]
      exact ih _ g.2.1 g.2.2 (h n hn)
  constructor
  · have hx : ∀ i, i < m - 1 → ∃ j, j < 765 ∧ f (ty_ar I0 (ty_rt R (j / 85)) (j % 85)) = i + 1 := by
      intro i hi
      obtain ⟨d, d1, d2, d3, e⟩ := H.2.2.2.2.2.2 (i + 1) (by omega) (by omega)
      rcases M.2 d d2 with z | z
      · rw [d3] at z; exact absurd z (by decide)
      · obtain ⟨t, ht, p, hp, e2⟩ := z.2
        refine ⟨85 * t + p, by omega, ?_⟩
        have a1 : (85 * t + p) / 85 = t := by omega
        have a2 : (85 * t + p) % 85 = p := by omega
        rw [a1, a2, ← e2]
        have r := (hq d d2 d3).1
        have r2 := (hq d d2 d3).2.2.1
        rw [e, nI_eq (by omega) (by omega)] at r
        exact r.symm
    obtain ⟨g, hg⟩ := ty_choose (m - 1) _ hx
    have := ty_pig 765 (m - 1) g (fun i hi => (hg i hi).1) (fun i j hi hj e => by
      have a := (hg i hi).2
      have b := (hg j hj).2
      rw [e] at a
      omega)
    omega
  · intro t ht
    have zt := Z t ht
    have hrm := zt.2.1
    have g := hG _ hrm (Or.inr (hr t ht))
    have e1 : R' t = nI (f (ty_rt R t)) := by rw [hR' t ht]; exact g.1
    have e2 : ty_rt R' t = f (ty_rt R t) := by
      show (R' t).toNatClampNeg = _
      rw [e1]; exact nI_clamp (by omega)
    rw [e2]
    refine ⟨e1, g.2.1, g.2.2.1.trans zt.2.2.1, hHd _ _ hrm (Or.inr (hr t ht)) zt.2.2.2.1, fun p hp => ?_⟩
    have a := hAn _ p hrm (Or.inr (hr t ht)) hp (ty_lv p)
    have e3 : ty_at I (f (ty_rt R t)) p = f (ty_at I0 (ty_rt R t) p) := by
      unfold ty_at
      rw [if_pos hp, if_pos hp]; exact a.2.2
    have e4 : ty_at I0 (ty_rt R t) p = ty_an I0 (ty_rt R t) p (ty_lv p) := if_pos hp
    have g2 := hG _ a.1 a.2.1
    have w := zt.2.2.2.2 p hp
    rw [e3]
    rw [e4] at w ⊢
    refine ⟨w.1.trans g2.2.2.1.symm, fun z => ?_⟩
    rw [g2.2.2.2.1 (w.1.symm.trans z)]
    exact w.2 z
theorem ty_rnS {c : Nat} (P0 : ty_Po m0 K0 N0 I0) (C : ty_Cz m0 I0 1 q) (hc1 : 1 ≤ c) (hc : c < m0) (H : ty_Rn K0 N0 I0 q c m K N I T rn) (hq : q c = 1) :
    ∃ v : Nat → Nat, (∀ n, n < 4 → v n < m ∧ rn (ty_ch I0 c n) = nI (v n)) ∧ ((K0 c = 1 ∧ ∀ n, n < 4 → v n = 0) ∨ (K0 c = 2 ∧ N0 c = 0)) ∧
      ∀ k m' K' N' I' T', ty_Pl m' K' N' I' T' → ty_Cn m K N I m' K' N' I' k (K0 c) (N0 c) v → ty_Rn K0 N0 I0 q (c + 1) m' K' N' I' T' (upd rn c (nI k)) := by
  have hm := H.1.1.2.1
  have hm1 := H.1.1.1
  have hlt : ∀ n, n < 4 → ty_ch I0 c n < c := fun n hn => (ty_po_ch P0 hc hn).2.2.2 hc1
  have hv : ∀ n, n < 4 → ∃ j, j < m ∧ rn (ty_ch I0 c n) = nI j := by
    intro n hn
    rcases C c hc1 hc hq n hn with z | z
    · rw [z, H.2.2.2.2.1]; exact ⟨0, by omega, rfl⟩
    · by_cases e : ty_ch I0 c n = 0
      · rw [e, H.2.2.2.2.1]; exact ⟨0, by omega, rfl⟩
      · obtain ⟨k, e, k1, k2, r⟩ := H.2.2.2.2.2.1 (ty_ch I0 c n) (by omega) (hlt n hn) z
        exact ⟨k, k2, e⟩
  obtain ⟨v, hv⟩ := ty_choose 4 _ hv
  refine ⟨v, hv, ?_, ?_⟩
  · rcases P0.2.2.2.2.1 c hc1 hc with z | z
    · refine Or.inl ⟨z.1, fun n hn => ?_⟩
      have e : ty_ch I0 c n = 0 := by
        show (I0 (4 * c + n)).toNatClampNeg = 0
        rw [z.2 n hn]; exact ty_c0
      have w := hv n hn
      rw [e, H.2.2.2.2.1] at w
      have w2 : nI 0 = nI (v n) := w.2
      rw [nI_eq (by omega) (by omega)] at w2
      omega
    · exact Or.inr z
  · intro k m' K' N' I' T' P' D
    have hm' : m ≤ m' ∧ m' ≤ m + 1 := by rcases D.2.2.2.1 with z | z <;> omega
    have hmc := H.2.1
    refine ⟨P', by omega, fun i hi => ?_, fun d hd => ?_, ?_, fun d d1 d2 hd => ?_, fun j j1 j2 => ?_⟩
    · have a := D.1.2 i (Or.inr hi)
      have b := H.2.2.1 i (by omega)
      exact ⟨a.1.trans b.1, a.2.1.trans b.2.1, fun n hn => (a.2.2 n hn).trans (b.2.2 n hn)⟩
    · rw [pk_un (by omega)]; exact H.2.2.2.1 d (by omega)
    · rw [pk_un (by omega)]; exact H.2.2.2.2.1
    · by_cases e : d = c
      · subst e
        rw [pk_us]
        refine ⟨k, rfl, D.2.1, D.2.2.1, D.2.2.2.2.1, D.2.2.2.2.2.1, fun n hn => ?_⟩
        have := hlt n hn
        rw [pk_un (by omega), D.2.2.2.2.2.2 n hn]; exact (hv n hn).2.symm
      · obtain ⟨k2, a1, a2, a3, a4, a5, a6⟩ := H.2.2.2.2.2.1 d d1 (by omega) hd
        rw [pk_un e]
        refine ⟨k2, a1, a2, by omega, (ty_ex_K D.1 a3).trans a4, (ty_ex_N D.1 a3).trans a5, fun n hn => ?_⟩
        have := (ty_po_ch P0 (c := d) (by omega) hn).2.1
        rw [pk_un (by omega), (D.1.2 k2 (Or.inl a3)).2.2 n hn]; exact a6 n hn
    · by_cases e : j < m
      · obtain ⟨d, d1, d2, d3, d4⟩ := H.2.2.2.2.2.2 j j1 e
        exact ⟨d, d1, by omega, d3, by rw [pk_un (by omega)]; exact d4⟩
      · rcases D.2.2.2.1 with z | z
        · omega
        · have : j = k := by omega
          exact ⟨c, hc1, by omega, hq, by rw [pk_us, this]⟩
theorem ty_rnN {c : Nat} (hc1 : 1 ≤ c) (H : ty_Rn K0 N0 I0 q c m K N I T rn) (hq : q c ≠ 1) : ty_Rn K0 N0 I0 q (c + 1) m K N I T rn := by
  refine ⟨H.1, by have := H.2.1; omega, H.2.2.1, fun d hd => H.2.2.2.1 d (by omega), H.2.2.2.2.1, fun d d1 d2 hd => ?_, fun j j1 j2 => ?_⟩
  · by_cases e : d = c
    · rw [e] at hd; exact absurd hd hq
    · exact H.2.2.2.2.2.1 d d1 (by omega) hd
  · obtain ⟨d, d1, d2, d3, d4⟩ := H.2.2.2.2.2.2 j j1 j2
    exact ⟨d, d1, by omega, d3, d4⟩
theorem ty_rn0 (P0 : ty_Po m0 K0 N0 I0) (M : ty_Mk m0 I0 R q) (hT : ∀ h, h < 2048 → T h = -1) : ty_Rn K0 N0 I0 q 1 1 K0 N0 I0 T q := by
  refine ⟨⟨⟨by omega, by omega, P0.2.2.1, P0.2.2.2.1, fun c h1 h2 => by omega, fun c h1 h2 => by omega, fun c d h1 h2 => by omega⟩, fun h hh => Or.inl (hT h hh), fun h g hh hg z => absurd (hT h hh) z, fun k k1 k2 => by omega⟩, by omega, fun i _ => ⟨rfl, rfl, fun _ _ => rfl⟩, fun d _ => rfl, M.1, fun d d1 d2 => by omega, fun j j1 j2 => by omega⟩
end
/-- a mark -/
def ty_mk (rn : Nat → Int32) (c : Nat) : Nat → Int32 := if c = 0 then rn else upd rn c 1
theorem ty_mk_1 {rn : Nat → Int32} {c d : Nat} (h : rn d = 1) : ty_mk rn c d = 1 := by
  unfold ty_mk
  split
  · exact h
  · by_cases e : d = c
    · rw [e, pk_us]
    · rw [pk_un e]; exact h
theorem ty_mk_s {rn : Nat → Int32} {c : Nat} (h : c ≠ 0) : ty_mk rn c c = 1 := by
  unfold ty_mk; rw [if_neg h, pk_us]
theorem ty_mk_n {rn : Nat → Int32} {c d : Nat} (h : d ≠ c) : ty_mk rn c d = rn d := by
  unfold ty_mk
  split
  · rfl
  · exact pk_un h
theorem ty_mk_M {m : Nat} {I R rn : Nat → Int32} {c : Nat} (M : ty_Mk m I R rn) (h : c = 0 ∨ ty_Lv I R c) : ty_Mk m I R (ty_mk rn c) := by
  by_cases e : c = 0
  · unfold ty_mk; rw [if_pos e]; exact M
  · refine ⟨by rw [ty_mk_n (by omega)]; exact M.1, fun d hd => ?_⟩
    by_cases e2 : d = c
    · subst e2
      exact Or.inr ⟨ty_mk_s e, h.resolve_left e⟩
    · rw [ty_mk_n e2]; exact M.2 d hd
section
variable {m : Nat} {pf pl ac cc al st dp : Int32} {K N I T rn R kp pb ap sd cp wy na : Nat → Int32}
theorem ty_mark {post : SX → Prop} {c : Nat} (hc : c < 1024) (h : post (nI m, pf, pl, ac, cc, al, st, dp, K, N, I, T, ty_mk rn c, R, kp, pb, ap, sd, cp, wy, na)) : wpX_mark post (nI m, pf, pl, ac, cc, al, st, dp, K, N, I, T, rn, R, kp, pb, ap, sd, cp, wy, na) (nI c) := by
  unfold ty_mk at h
  by_cases e : c = 0
  · rw [if_pos e] at h
    subst e
    exact br_t rfl h
  · rw [if_neg e] at h
    refine br_f (nI_ne0 (by omega) (by omega)) ⟨vp_in_nI hc (by decide), ?_⟩
    rw [nI_clamp (show c < 2 ^ 31 by omega)]
    exact nm_e h
theorem ty_td246 {post : SX → Prop} {R0 : Nat → Int32} (hR : ∀ t, t < 9 → R0 t = nI (ty_rt R0 t) ∧ ty_rt R0 t < 1024) (h : ∀ R', (∀ t, t < 9 → R' t = rn (ty_rt R0 t)) → post (nI m, pf, pl, ac, cc, al, st, dp, K, N, I, T, rn, R', kp, pb, ap, sd, cp, wy, na)) :
    ∀ n i R, i ≤ 9 → 9 - i < n → (∀ t, t < i → R t = rn (ty_rt R0 t)) → (∀ t, i ≤ t → t < 9 → R t = R0 t) → wX_tidy_246 post (nI m) pf pl ac cc al st dp n (nI i) K N I T rn R kp pb ap sd cp wy na := by
  intro n
  induction n with
  | zero => intro i R _ h; omega
  | succ n ih =>
    intro i R hi hn h1 h2
    by_cases e : i = 9
    · subst e
      exact br_t (nI_le (a := 9) (by omega) (by decide)) (h R h1)
    · have hr := hR i (by omega)
      have e1 : R i = nI (ty_rt R0 i) := (h2 i (Nat.le_refl _) (by omega)).trans hr.1
      refine br_f (nI_ge (b := 9) (by omega) (by decide)) ?_
      rw [nI_clamp (show i < 2 ^ 31 by omega), e1, nI_clamp (show ty_rt R0 i < 2 ^ 31 by omega)]
      refine ⟨vp_in_nI (by omega) (by decide), vp_in_nI hr.2 (by decide), vp_in_nI (by omega) (by decide), nm_e (nm_r (nI_1 i) ?_)⟩
      refine ih (i + 1) _ (by omega) (by omega) (fun t ht => ?_) (fun t h3 h4 => ?_)
      · by_cases e2 : t = i
        · subst e2; rw [pk_us]
        · rw [pk_un e2]; exact h1 t (by omega)
      · rw [pk_un (by omega)]; exact h2 t (by omega) h4
end
section
variable {pf pl ac cc al st dp : Int32} {kp pb ap sd cp wy na R A B : Nat → Int32} {m0 : Nat} {K0 N0 I0 q : Nat → Int32}
theorem ty_td135 {post : SX → Prop} (P0 : ty_Po m0 K0 N0 I0) (Z : ty_Tr m0 K0 N0 I0 R A B) (M : ty_Mk m0 I0 R q) (C : ty_Cz m0 I0 1 q) (hr : ∀ t, t < 9 → q (ty_rt R t) = 1)
    (h : ∀ m K N I T rn R', ty_Pl m K N I T → m ≤ 766 → ty_Tr m K N I R' A B → post (nI m, pf, pl, ac, cc, al, st, dp, K, N, I, T, rn, R', kp, pb, ap, sd, cp, wy, na)) :
    ∀ n c m K N I T rn, 1 ≤ c → c ≤ m0 → m0 - c < n → ty_Rn K0 N0 I0 q c m K N I T rn → wX_tidy_135 post (nI m0) n (nI c) (nI m) pf pl ac cc al st dp K N I T rn R kp pb ap sd cp wy na := by
  have hm0 := P0.2.1
  intro n
  induction n with
  | zero => intro c m K N I T rn _ _ h; omega
  | succ n ih =>
    intro c m K N I T rn hc1 hc hn H
    by_cases e : c = m0
    · subst e
      refine br_t (nI_le (Nat.le_refl _) (by omega)) ⟨10, ?_⟩
      refine ty_td246 (R0 := R) (fun t ht => ⟨(Z t ht).1, by have := (Z t ht).2.1; omega⟩) (fun R' hR' => ?_) 10 0 R (by omega) (by omega) (fun t ht => by omega) (fun t _ _ => rfl)
      have w := ty_tidyF P0 Z M C hr H hR'
      exact h m K N I T rn R' H.1 w.1 w.2
    · refine br_f (nI_ge (by omega) (by omega)) ⟨vp_in_nI (by omega) (by decide), ?_⟩
      have hmc := H.2.1
      rw [nI_clamp (show c < 2 ^ 31 by omega)]
      have eq : rn c = q c := H.2.2.2.1 c (Nat.le_refl _)
      by_cases hq : rn c = 1
      · refine br_t hq ?_
        rw [eq] at hq
        obtain ⟨v, hv, hk, hS⟩ := ty_rnS P0 C hc1 (by omega) H hq
        have hi : ∀ j, j < 4 → I (4 * c + j) = nI (ty_ch I0 c j) ∧ ty_ch I0 c j < 1024 ∧ rn (ty_ch I0 c j) = nI (v j) := by
          intro j hj
          have a := (H.2.2.1 c hmc).2.2 j hj
          have b := ty_po_ch P0 (c := c) (by omega) hj
          exact ⟨a.trans b.1, by omega, (hv j hj).2⟩
        have i0 := hi 0 (by omega)
        rw [Nat.add_zero] at i0
        have i1 := hi 1 (by omega)
        have i2 := hi 2 (by omega)
        have i3 := hi 3 (by omega)
        have kk := H.2.2.1 c hmc
        refine nm_r (ty_m4 c) ?_
        rw [nI_1, ty_a2, ty_a3, nI_clamp (show 4 * c < 2 ^ 31 by omega), nI_clamp (show 4 * c + 1 < 2 ^ 31 by omega), nI_clamp (show 4 * c + 2 < 2 ^ 31 by omega), nI_clamp (show 4 * c + 3 < 2 ^ 31 by omega),
          i0.1, i1.1, i2.1, i3.1, nI_clamp (show ty_ch I0 c 0 < 2 ^ 31 by omega), nI_clamp (show ty_ch I0 c 1 < 2 ^ 31 by omega), nI_clamp (show ty_ch I0 c 2 < 2 ^ 31 by omega), nI_clamp (show ty_ch I0 c 3 < 2 ^ 31 by omega)]
        refine ⟨vp_in_nI (by omega) (by decide), vp_in_nI i0.2.1 (by decide), nm_r i0.2.2 ⟨vp_in_nI (by omega) (by decide), vp_in_nI i1.2.1 (by decide), nm_r i1.2.2 ⟨vp_in_nI (by omega) (by decide), vp_in_nI i2.2.1 (by decide), nm_r i2.2.2 ⟨vp_in_nI (by omega) (by decide), vp_in_nI (by omega) (by decide), vp_in_nI (by omega) (by decide), vp_in_nI i3.2.1 (by decide), ?_⟩⟩⟩⟩
        rw [i3.2.2, kk.1, kk.2.1]
        refine ty_content H.1 (by omega) (K0 c) (N0 c) v (fun j hj => (hv j hj).1) hk fun k m' K' N' I' T' P' D => ⟨vp_in_nI (by omega) (by decide), nm_e (nm_r (nI_1 c) ?_)⟩
        exact ih (c + 1) m' K' N' I' T' _ (by omega) (by omega) (by omega) (hS k m' K' N' I' T' P' D)
      · refine br_f hq (nm_r (nI_1 c) ?_)
        rw [eq] at hq
        exact ih (c + 1) m K N I T rn (by omega) (by omega) (by omega) (ty_rnN hc1 H hq)
end
section
variable {m : Nat} {pf pl ac cc al st dp : Int32} {K N I T rn R kp pb ap sd cp wy na : Nat → Int32} {A B : Nat → Int32}
theorem ty_td103 {post : SX → Prop} (P0 : ty_Po m K N I) (Z : ty_Tr m K N I R A B) (M : ty_Mk m I R rn) (C : ty_Cz m I 1 rn) (hr : ∀ t, t < 9 → rn (ty_rt R t) = 1)
    (h : ∀ m K N I T rn R', ty_Pl m K N I T → m ≤ 766 → ty_Tr m K N I R' A B → post (nI m, pf, pl, ac, cc, al, st, dp, K, N, I, T, rn, R', kp, pb, ap, sd, cp, wy, na)) :
    ∀ n i T, i ≤ 2048 → 2048 - i < n → (∀ h, h < i → T h = -1) → wX_tidy_103 post (nI m) pf pl ac cc al st dp n (nI i) K N I T rn R kp pb ap sd cp wy na := by
  intro n
  induction n with
  | zero => intro i T _ h; omega
  | succ n ih =>
    intro i T hi hn h1
    by_cases e : i = 2048
    · subst e
      refine br_t (nI_le (a := 2048) (by omega) (by decide)) ⟨m + 1, ?_⟩
      exact ty_td135 P0 Z M C hr h (m + 1) 1 1 K N I T rn (by omega) P0.1 (by omega) (ty_rn0 P0 M h1)
    · refine br_f (nI_ge (b := 2048) (by omega) (by decide)) ⟨vp_in_nI (by omega) (by decide), ?_⟩
      rw [nI_clamp (show i < 2 ^ 31 by omega)]
      refine nm_e (nm_r (nI_1 i) (ih (i + 1) _ (by omega) (by omega) fun t ht => ?_))
      by_cases e2 : t = i
      · subst e2; rw [pk_us]
      · rw [pk_un e2]; exact h1 t (by omega)
theorem ty_td60 {post : SX → Prop} {J : Int32 → Int32 → Int32 → Int32 → Int32 → Int32 → Int32 → Int32 → Int32 → (Nat → Int32) → (Nat → Int32) → (Nat → Int32) → (Nat → Int32) → (Nat → Int32) → (Nat → Int32) → (Nat → Int32) → (Nat → Int32) → (Nat → Int32) → (Nat → Int32) → (Nat → Int32) → (Nat → Int32) → (Nat → Int32) → Prop} {c : Nat} (P0 : ty_Po m K N I) (Z : ty_Tr m K N I R A B) (hc1 : 1 ≤ c) (hc : c < m)
    (h : ∀ rn, ty_Mk m I R rn → ty_Cz m I c rn → (∀ t, t < 9 → rn (ty_rt R t) = 1) → J (ty_dn c) (nI m) pf pl ac cc al st dp K N I T rn R kp pb ap sd cp wy na) :
    ∀ n i rn, i ≤ 4 → 4 - i < n → ty_Mk m I R rn → ty_Cz m I (c + 1) rn → (∀ t, t < 9 → rn (ty_rt R t) = 1) → (rn c = 1 → ∀ j, j < i → ty_ch I c j = 0 ∨ rn (ty_ch I c j) = 1) → wX_tidy_60 post J (nI c) n (nI i) (nI m) pf pl ac cc al st dp K N I T rn R kp pb ap sd cp wy na := by
  have hm := P0.2.1
  intro n
  induction n with
  | zero => intro i rn _ h; omega
  | succ n ih =>
    intro i rn hi hn M C hr hj
    have fin : (rn c = 1 → ∀ j, j < 4 → ty_ch I c j = 0 ∨ rn (ty_ch I c j) = 1) → J (ty_dn c) (nI m) pf pl ac cc al st dp K N I T rn R kp pb ap sd cp wy na := by
      intro w
      refine h rn M (fun d d1 d2 hd => ?_) hr
      by_cases e : d = c
      · subst e; exact w hd
      · exact C d (by omega) d2 hd
    by_cases e : i = 4
    · subst e
      exact br_t (nI_le (a := 4) (by omega) (by decide)) (nm_e (fin hj))
    · refine br_f (nI_ge (b := 4) (by omega) (by decide)) ⟨vp_in_nI (by omega) (by decide), ?_⟩
      have hch := ty_po_ch P0 hc (n := i) (by omega)
      have hlt := hch.2.2.2 hc1
      rw [nI_clamp (show c < 2 ^ 31 by omega), ty_m4, nI_add, nI_clamp (show 4 * c + i < 2 ^ 31 by omega), hch.1]
      by_cases hq : rn c = 1
      · refine br_t hq ⟨vp_in_nI (by omega) (by decide), ty_mark (by omega) (nm_r (nI_1 i) ?_)⟩
        have hLv : ty_ch I c i = 0 ∨ ty_Lv I R (ty_ch I c i) := by
          rcases M.2 c hc with z | z
          · rw [hq] at z; exact absurd z (by decide)
          · exact ty_Lv_ch P0 Z z.2 (by omega)
        refine ih (i + 1) _ (by omega) (by omega) (ty_mk_M M hLv) (fun d d1 d2 hd k hk => ?_) (fun t ht => ty_mk_1 (hr t ht)) (fun _ j h2 => ?_)
        · rw [ty_mk_n (by omega)] at hd
          rcases C d d1 d2 hd k hk with z | z
          · exact Or.inl z
          · exact Or.inr (ty_mk_1 z)
        · by_cases e2 : j = i
          · subst e2
            by_cases e3 : ty_ch I c j = 0
            · exact Or.inl e3
            · exact Or.inr (ty_mk_s e3)
          · rcases hj hq j (by omega) with z | z
            · exact Or.inl z
            · exact Or.inr (ty_mk_1 z)
      · exact br_f hq (nm_e (fin fun z => absurd z hq))
theorem ty_td54 {post : SX → Prop} (P0 : ty_Po m K N I) (Z : ty_Tr m K N I R A B)
    (h : ∀ m K N I T rn R', ty_Pl m K N I T → m ≤ 766 → ty_Tr m K N I R' A B → post (nI m, pf, pl, ac, cc, al, st, dp, K, N, I, T, rn, R', kp, pb, ap, sd, cp, wy, na)) :
    ∀ n c rn, c < m → c < n → ty_Mk m I R rn → ty_Cz m I (c + 1) rn → (∀ t, t < 9 → rn (ty_rt R t) = 1) → wX_tidy_54 post n (nI c) (nI m) pf pl ac cc al st dp K N I T rn R kp pb ap sd cp wy na := by
  have hm := P0.2.1
  intro n
  induction n with
  | zero => intro c rn _ h; omega
  | succ n ih =>
    intro c rn hc hn M C hr
    by_cases e : c = 0
    · subst e
      refine br_t (nI_le (b := 0) (Nat.le_refl _) (by decide)) ⟨2049, ?_⟩
      exact ty_td103 P0 Z M C hr h 2049 0 T (by omega) (by omega) (fun h hh => by omega)
    · obtain ⟨c, rfl⟩ : ∃ j, c = j + 1 := ⟨c - 1, by omega⟩
      refine br_f (nI_nle (by omega) (by omega)) ⟨5, ?_⟩
      refine ty_td60 P0 Z (by omega) hc (fun rn M C hr => ?_) 5 0 rn (by omega) (by omega) M C hr (fun _ j hj => by omega)
      rw [ty_dnS]
      exact ih c rn (by omega) (by omega) M C hr
theorem ty_td25 {post : SX → Prop} (P0 : ty_Po m K N I) (Z : ty_Tr m K N I R A B)
    (h : ∀ m K N I T rn R', ty_Pl m K N I T → m ≤ 766 → ty_Tr m K N I R' A B → post (nI m, pf, pl, ac, cc, al, st, dp, K, N, I, T, rn, R', kp, pb, ap, sd, cp, wy, na)) :
    ∀ n i rn, i ≤ 9 → 9 - i < n → ty_Mk m I R rn → (∀ t, t < i → rn (ty_rt R t) = 1) → wX_tidy_25 post n (nI i) (nI m) pf pl ac cc al st dp K N I T rn R kp pb ap sd cp wy na := by
  have hm := P0.2.1
  have hm1 := P0.1
  intro n
  induction n with
  | zero => intro i rn _ h; omega
  | succ n ih =>
    intro i rn hi hn M hr
    by_cases e : i = 9
    · subst e
      refine br_t (nI_le (a := 9) (by omega) (by decide)) ?_
      have e1 : nI m - 1 = nI (m - 1) := pk_sub (b := 1) hm1
      refine nm_r e1 ⟨m, ?_⟩
      exact ty_td54 P0 Z h m (m - 1) rn (by omega) (by omega) M (fun d d1 d2 => by omega) hr
    · have z := Z i (by omega)
      have zr := z.2.1
      have hne : ty_rt R i ≠ 0 := fun w => by
        have := z.2.2.1
        rw [w, P0.2.2.1] at this; exact absurd this (by decide)
      refine br_f (nI_ge (b := 9) (by omega) (by decide)) ⟨vp_in_nI (by omega) (by decide), ?_⟩
      rw [nI_clamp (show i < 2 ^ 31 by omega), z.1]
      refine ty_mark (by omega) (nm_r (nI_1 i) (ih (i + 1) _ (by omega) (by omega) (ty_mk_M M (Or.inr ⟨i, by omega, 84, by omega, ?_⟩)) fun t ht => ?_))
      · exact (if_neg (by omega)).symm
      · by_cases e2 : t = i
        · subst e2; exact ty_mk_s hne
        · exact ty_mk_1 (hr t (by omega))
theorem ty_td2 {post : SX → Prop} (P0 : ty_Po m K N I) (Z : ty_Tr m K N I R A B)
    (h : ∀ m K N I T rn R', ty_Pl m K N I T → m ≤ 766 → ty_Tr m K N I R' A B → post (nI m, pf, pl, ac, cc, al, st, dp, K, N, I, T, rn, R', kp, pb, ap, sd, cp, wy, na)) :
    ∀ n i rn, i ≤ m → m - i < n → (∀ c, c < i → rn c = 0) → wX_tidy_2 post (nI m) pf pl ac cc al st dp n (nI i) K N I T rn R kp pb ap sd cp wy na := by
  have hm := P0.2.1
  have hm1 := P0.1
  intro n
  induction n with
  | zero => intro i rn _ h; omega
  | succ n ih =>
    intro i rn hi hn hr
    by_cases e : i = m
    · subst e
      refine br_t (nI_le (Nat.le_refl _) (by omega)) ⟨10, ?_⟩
      exact ty_td25 P0 Z h 10 0 rn (by omega) (by omega) ⟨hr 0 (by omega), fun c hc => Or.inl (hr c hc)⟩ (fun t ht => by omega)
    · refine br_f (nI_ge (by omega) (by omega)) ⟨vp_in_nI (by omega) (by decide), ?_⟩
      rw [nI_clamp (show i < 2 ^ 31 by omega)]
      refine nm_e (nm_r (nI_1 i) (ih (i + 1) _ (by omega) (by omega) fun t ht => ?_))
      by_cases e2 : t = i
      · subst e2; rw [pk_us]
      · rw [pk_un e2]; exact hr t (by omega)
theorem ty_tidy {post : SX → Prop} (P0 : ty_Po m K N I) (Z : ty_Tr m K N I R A B)
    (h : ∀ m K N I T rn R', ty_Pl m K N I T → m ≤ 766 → ty_Tr m K N I R' A B → post (nI m, pf, pl, ac, cc, al, st, dp, K, N, I, T, rn, R', kp, pb, ap, sd, cp, wy, na)) : wpX_tidy post (nI m, pf, pl, ac, cc, al, st, dp, K, N, I, T, rn, R, kp, pb, ap, sd, cp, wy, na) :=
  ⟨m + 1, ty_td2 P0 Z h (m + 1) 0 rn (by omega) (by omega) (fun c hc => by omega)⟩
theorem ty_makeRoom {post : SX → Prop} {k : Nat} (hk : k ≤ 16) (P0 : ty_Pl m K N I T) (Z : ty_Tr m K N I R A B)
    (h : ∀ m K N I T rn R', ty_Pl m K N I T → m + k ≤ 1024 → ty_Tr m K N I R' A B → post (nI m, pf, pl, ac, cc, al, st, dp, K, N, I, T, rn, R', kp, pb, ap, sd, cp, wy, na)) : wpX_makeRoom post (nI m, pf, pl, ac, cc, al, st, dp, K, N, I, T, rn, R, kp, pb, ap, sd, cp, wy, na) (nI k) := by
  have hm := P0.1.2.1
  refine pk_le (m + k) 1024 (fun z => h m K N I T rn R P0 z Z) (fun z => ?_) (hx := nI_add m k)
  exact ty_tidy P0.1 Z fun m K N I T rn R' P hm Z => h m K N I T rn R' P (by omega) Z
end
end
section
/-! the component's tests and counts -/
noncomputable def ty_b01 (P : Prop) : Nat := @ite Nat P (Classical.propDecidable P) 1 0
theorem ty_b01_t {P : Prop} (h : P) : ty_b01 P = 1 := by unfold ty_b01; rw [if_pos h]
theorem ty_b01_f {P : Prop} (h : ¬ P) : ty_b01 P = 0 := by unfold ty_b01; rw [if_neg h]
theorem ty_b01_le (P : Prop) : ty_b01 P ≤ 1 := by
  rcases Classical.em P with h | h
  · rw [ty_b01_t h]; omega
  · rw [ty_b01_f h]; omega
theorem ty_b01_cg {P Q : Prop} (h : P ↔ Q) : ty_b01 P = ty_b01 Q := by
  rcases Classical.em P with z | z
  · rw [ty_b01_t z, ty_b01_t (h.mp z)]
  · rw [ty_b01_f z, ty_b01_f (fun w => z (h.mpr w))]
/-- 1 for what isn't nothing -/
def ty_nz (x : Nat) : Nat := if x = 0 then 0 else 1
theorem ty_nz_le (x : Nat) : ty_nz x ≤ 1 := by unfold ty_nz; split <;> omega
theorem ty_nz0 : ty_nz 0 = 0 := rfl
theorem ty_nz1 {x : Nat} (h : x ≠ 0) : ty_nz x = 1 := if_neg h
def ty_wk (I : Nat → Int32) (c k : Nat) : Nat := (if k % 4 = 0 then ty_nz (ty_ch I c (k / 4)) else 0) + ty_nz (ty_ch I (ty_ch I c (k / 4)) (k % 4))
/-- the weight of a content -/
def ty_wt (I : Nat → Int32) (c : Nat) : Nat := ty_nz c + ty_cnt (ty_wk I c) 16
theorem ty_cnt2_le (f : Nat → Nat) (h : ∀ k, f k ≤ 2) : ∀ n, ty_cnt f n ≤ 2 * n
  | 0 => Nat.le_refl _
  | n + 1 => by
    have := ty_cnt2_le f h n
    have := h n
    show ty_cnt f n + f n ≤ 2 * (n + 1)
    omega
theorem ty_wk_le (I : Nat → Int32) (c k : Nat) : ty_wk I c k ≤ 2 := by
  unfold ty_wk
  have a := ty_nz_le (ty_ch I c (k / 4))
  have b := ty_nz_le (ty_ch I (ty_ch I c (k / 4)) (k % 4))
  split <;> omega
theorem ty_wt_le (I : Nat → Int32) (c : Nat) : ty_wt I c ≤ 33 := by
  have a := ty_nz_le c
  have b := ty_cnt2_le (ty_wk I c) (ty_wk_le I c) 16
  unfold ty_wt
  omega
theorem ty_sum21 (a : Nat) (b : Nat → Nat) (d : Nat → Nat → Nat) : a + ty_cnt (fun k => (if k % 4 = 0 then b (k / 4) else 0) + d (k / 4) (k % 4)) 16 = ty_cnt (fun k => if k = 0 then a else if k < 5 then b (k - 1) else d ((k - 5) / 4) ((k - 5) % 4)) 21 := by
  simp [ty_cnt]
  omega
theorem ty_wt21 (I : Nat → Int32) (c : Nat) : ty_wt I c = ty_cnt (fun k => ty_nz (ty_pr I c k)) 21 := by
  have h := ty_sum21 (ty_nz c) (fun n => ty_nz (ty_ch I c n)) (fun n j => ty_nz (ty_ch I (ty_ch I c n) j))
  refine Eq.trans h (ty_cnt_cg 21 fun k hk => ?_)
  show (if k = 0 then ty_nz c else if k < 5 then ty_nz (ty_ch I c (k - 1)) else ty_nz (ty_ch I (ty_ch I c ((k - 5) / 4)) ((k - 5) % 4))) = ty_nz (ty_pr I c k)
  unfold ty_pr
  split
  · rfl
  · split <;> rfl
theorem ty_sum84 (a : Nat → Nat) (b : Nat → Nat → Nat) (d : Nat → Nat → Nat → Nat) : ty_cnt (fun n => ty_cnt (fun k => if k = 0 then a n else if k < 5 then b n (k - 1) else d n ((k - 5) / 4) ((k - 5) % 4)) 21) 4 = ty_cnt (fun p => if p < 4 then a p else if p < 20 then b ((p - 4) / 4) ((p - 4) % 4) else d ((p - 20) / 16) ((p - 20) / 4 % 4) ((p - 20) % 4)) 84 := by
  simp [ty_cnt]
  omega
theorem ty_wt84 (I : Nat → Int32) (r : Nat) : ty_cnt (fun n => ty_wt I (ty_ch I r n)) 4 = ty_cnt (fun p => ty_nz (ty_at I r p)) 84 := by
  have h := ty_sum84 (fun x => ty_nz (ty_ch I r x)) (fun x y => ty_nz (ty_ch I (ty_ch I r x) y)) (fun x y z => ty_nz (ty_ch I (ty_ch I (ty_ch I r x) y) z))
  have h1 : ty_cnt (fun n => ty_wt I (ty_ch I r n)) 4 = ty_cnt (fun n => ty_cnt (fun k => if k = 0 then ty_nz (ty_ch I r n) else if k < 5 then ty_nz (ty_ch I (ty_ch I r n) (k - 1)) else ty_nz (ty_ch I (ty_ch I (ty_ch I r n) ((k - 5) / 4)) ((k - 5) % 4))) 21) 4 :=
    ty_cnt_cg 4 fun n _ => ty_sum21 (ty_nz (ty_ch I r n)) (fun j => ty_nz (ty_ch I (ty_ch I r n) j)) (fun j i => ty_nz (ty_ch I (ty_ch I (ty_ch I r n) j) i))
  rw [h1]
  refine Eq.trans h (ty_cnt_cg 84 fun p hp => ?_)
  revert p
  refine ty_cases ?_ ?_ ?_
  · intro x hx
    show (if x < 4 then ty_nz (ty_ch I r x) else _) = _
    rw [if_pos hx, ty_at1 I r hx]
  · intro x y hx hy
    show (if 4 + 4 * x + y < 4 then _ else if 4 + 4 * x + y < 20 then ty_nz (ty_ch I (ty_ch I r ((4 + 4 * x + y - 4) / 4)) ((4 + 4 * x + y - 4) % 4)) else _) = _
    have e1 : (4 + 4 * x + y - 4) / 4 = x := by omega
    have e2 : (4 + 4 * x + y - 4) % 4 = y := by omega
    rw [if_neg (by omega), if_pos (by omega), e1, e2, ty_at2 I r hx hy]
  · intro x y z hx hy hz
    show (if 20 + 16 * x + 4 * y + z < 4 then _ else if 20 + 16 * x + 4 * y + z < 20 then _ else ty_nz (ty_ch I (ty_ch I (ty_ch I r ((20 + 16 * x + 4 * y + z - 20) / 16)) ((20 + 16 * x + 4 * y + z - 20) / 4 % 4)) ((20 + 16 * x + 4 * y + z - 20) % 4))) = _
    have e1 : (20 + 16 * x + 4 * y + z - 20) / 16 = x := by omega
    have e2 : (20 + 16 * x + 4 * y + z - 20) / 4 % 4 = y := by omega
    have e3 : (20 + 16 * x + 4 * y + z - 20) % 4 = z := by omega
    rw [if_neg (by omega), if_neg (by omega), e1, e2, e3, ty_at3 I r hx hy hz]
theorem ty_cases_side (x : Int32) : (x < 0 ∨ ¬ x ≤ 1) ∨ x = nI 0 ∨ x = nI 1 := by
  by_cases h : x < 0
  · exact Or.inl (Or.inl h)
  · by_cases h2 : x ≤ 1
    · obtain ⟨j, hj, e⟩ := nI_of2 (M := 1) (n := 1) (by decide) h h2
      have : j = 0 ∨ j = 1 := by omega
      rcases this with z | z
      · subst z; exact Or.inr (Or.inl e)
      · subst z; exact Or.inr (Or.inr e)
    · exact Or.inl (Or.inr h2)
theorem ty_side (x : Int32) : (x < 0 ∨ ¬ x ≤ 1) ∨ ∃ s, s < 2 ∧ x = nI s := by
  rcases ty_cases_side x with z | z | z
  · exact Or.inl z
  · exact Or.inr ⟨0, by omega, z⟩
  · exact Or.inr ⟨1, by omega, z⟩
theorem ty_path (x : Int32) : (x < 0 ∨ ¬ x < 84) ∨ ∃ p, p < 84 ∧ x = nI p := by
  by_cases h : x < 0
  · exact Or.inl (Or.inl h)
  · by_cases h2 : x < 84
    · obtain ⟨j, hj, e⟩ := nI_of h
      subst e
      have : j < 84 := (nI_ltI (b := 84) hj (by decide)).mp h2
      exact Or.inr ⟨j, this, rfl⟩
    · exact Or.inl (Or.inr h2)
section
variable {m : Nat} {pf pl ac cc al st dp : Int32} {K N I T rn R kp pb ap sd cp wy na : Nat → Int32}
theorem ty_badSide1 {post : Int32 → Prop} {x : Int32} (hx : x < 0 ∨ ¬ x ≤ 1) (h : post 1) : wpX_badSide post (nI m, pf, pl, ac, cc, al, st, dp, K, N, I, T, rn, R, kp, pb, ap, sd, cp, wy, na) x := by
  by_cases z : x < 0
  · exact br_t z h
  · exact br_f z (br_f (hx.resolve_left z) h)
theorem ty_badSide0 {post : Int32 → Prop} {s : Nat} (hs : s < 2) (h : post 0) : wpX_badSide post (nI m, pf, pl, ac, cc, al, st, dp, K, N, I, T, rn, R, kp, pb, ap, sd, cp, wy, na) (nI s) :=
  br_f (nI_pos (by omega)) (br_t (nI_le (b := 1) (by omega) (by decide)) h)
theorem ty_badPath1 {post : Int32 → Prop} {x : Int32} (hx : x < 0 ∨ ¬ x < 84) (h : post 1) : wpX_badPath post (nI m, pf, pl, ac, cc, al, st, dp, K, N, I, T, rn, R, kp, pb, ap, sd, cp, wy, na) x := by
  by_cases z : x < 0
  · exact br_t z h
  · exact br_f z (br_f (hx.resolve_left z) h)
theorem ty_badPath0 {post : Int32 → Prop} {p : Nat} (hp : p < 84) (h : post 0) : wpX_badPath post (nI m, pf, pl, ac, cc, al, st, dp, K, N, I, T, rn, R, kp, pb, ap, sd, cp, wy, na) (nI p) :=
  br_f (nI_pos (by omega)) (br_t (nI_lt (b := 84) hp (by decide)) h)
/-- a path whose parent is a folder -/
def ty_Hp (K I : Nat → Int32) (r p : Nat) : Prop := p < 4 ∨ K (ty_at I r (ty_par p)) = 2
theorem ty_par_lt {p : Nat} (h4 : ¬ p < 4) (hp : p < 84) : ty_par p < 20 := by
  unfold ty_par; split <;> omega
theorem ty_hasParent {post : Int32 → SX → Prop} {r p t : Nat} (P : ty_Po m K N I) (hR : R t = nI r) (hr : r < m) (ht : t < 9) (hp : p < 84)
    (h1 : ty_Hp K I r p → ∀ dp wy na, post 1 (nI m, pf, pl, ac, cc, al, st, dp, K, N, I, T, rn, R, kp, pb, ap, sd, cp, wy, na)) (h0 : ¬ ty_Hp K I r p → ∀ dp wy na, post 0 (nI m, pf, pl, ac, cc, al, st, dp, K, N, I, T, rn, R, kp, pb, ap, sd, cp, wy, na)) : wpX_hasParent post (nI m, pf, pl, ac, cc, al, st, dp, K, N, I, T, rn, R, kp, pb, ap, sd, cp, wy, na) (nI t) (nI p) := by
  have hm := P.2.1
  unfold wpX_hasParent
  by_cases h4 : p < 4
  · exact ty_parentOf0 h4 (br_t rfl (h1 (Or.inl h4) dp wy na))
  · have hq := ty_par_lt h4 hp
    refine ty_parentOf hp h4 (br_f (ty_nm1' (by omega)) ?_)
    refine ty_contentAt P hR hr ht (by omega) fun dp' wy' na' => ?_
    have hl := ty_at_lt P hr (ty_par p)
    refine ⟨vp_in_nI (by omega) (by decide), ?_⟩
    rw [nI_clamp (show ty_at I r (ty_par p) < 2 ^ 31 by omega)]
    exact br_c (fun e => h1 (Or.inr e) _ _ _) (fun e => h0 (fun z => z.elim (fun w => h4 w) e) _ _ _)
theorem ty_wt12 {post : Int32 → Prop} {c : Nat} (P : ty_Po m K N I) (hc : c < m) (hc0 : c ≠ 0) (h : post (nI (ty_wt I c))) :
    ∀ n k, k ≤ 16 → 16 - k < n → wX_weight_12 post (nI c) (nI m) pf pl ac cc al st dp K N I T rn R kp pb ap sd cp wy na n (nI (1 + ty_cnt (ty_wk I c) k)) (nI k) := by
  have hm := P.2.1
  intro n
  induction n with
  | zero => intro k _ h; omega
  | succ n ih =>
    intro k hk hn
    by_cases e : k = 16
    · subst e
      refine br_t (nI_le (a := 16) (by omega) (by decide)) ?_
      unfold ty_wt at h
      rw [ty_nz1 hc0] at h
      exact h
    · have IH := ih (k + 1) (by omega) (by omega)
      have e1 : nI k / 4 = nI (k / 4) := pk_div (d := 4) (by omega) (by omega) (by omega)
      have e2 : nI k - nI k / 4 * 4 = nI (k % 4) := pk_rem (d := 4) (by omega) (by omega) (by omega)
      have a := ty_po_ch P hc (n := k / 4) (by omega)
      have b := ty_po_ch P a.2.2.1 (n := k % 4) (by omega)
      have hn0 : ∀ x, wX_weight_12 post (nI c) (nI m) pf pl ac cc al st dp K N I T rn R kp pb ap sd cp wy na n (nI x + nI (ty_nz (ty_ch I (ty_ch I c (k / 4)) (k % 4)))) (nI (k + 1)) → wX_weight_69 post (wX_weight_12 post (nI c) (nI m) pf pl ac cc al st dp K N I T rn R kp pb ap sd cp wy na n) (nI c) (nI k) (nI (ty_ch I (ty_ch I c (k / 4)) (k % 4))) (nI x) (nI m) pf pl ac cc al st dp K N I T rn R kp pb ap sd cp wy na := by
        intro x hx
        by_cases z : ty_ch I (ty_ch I c (k / 4)) (k % 4) = 0
        · rw [z] at hx ⊢
          refine br_t rfl (nm_r (nI_1 k) ?_)
          rw [ty_nz0, nI_add, Nat.add_zero] at hx; exact hx
        · rw [ty_nz1 z] at hx
          exact br_f (nI_ne0 (by omega) (by omega)) (nm_e (nm_r (nI_1 k) hx))
      refine br_f (nI_ge (b := 16) (by omega) (by decide)) (br_f (nI_ne0 (by omega) (by omega)) ⟨by decide, ?_⟩)
      rw [e2, e1, ty_m4, nI_add, nI_clamp (show 4 * c + k / 4 < 2 ^ 31 by omega), a.1]
      refine ⟨vp_in_nI (by omega) (by decide), nm_e ⟨by decide, ?_⟩⟩
      rw [ty_m4, nI_add, nI_clamp (show 4 * ty_ch I c (k / 4) + k % 4 < 2 ^ 31 by omega), b.1]
      refine ⟨vp_in_nI (by omega) (by decide), nm_e ⟨by decide, ?_⟩⟩
      have eS : ty_cnt (ty_wk I c) (k + 1) = ty_cnt (ty_wk I c) k + ty_wk I c k := rfl
      unfold ty_wk at eS
      by_cases k4 : k % 4 = 0
      · rw [if_pos k4] at eS
        rw [k4]
        rw [k4] at hn0 eS
        refine br_t rfl ?_
        by_cases f0 : ty_ch I c (k / 4) = 0
        · rw [f0, ty_nz0, Nat.zero_add] at eS
          rw [f0]
          rw [f0] at hn0
          refine br_t rfl (hn0 _ ?_)
          rw [nI_add]
          have e3 : 1 + ty_cnt (ty_wk I c) (k + 1) = 1 + ty_cnt (ty_wk I c) k + ty_nz (ty_ch I 0 0) := by rw [Nat.add_assoc]; exact congrArg (1 + ·) eS
          rw [← e3]; exact IH
        · rw [ty_nz1 f0] at eS
          refine br_f (nI_ne0 (by omega) (by omega)) ?_
          rw [nI_1]
          refine hn0 _ ?_
          rw [nI_add]
          have e3 : 1 + ty_cnt (ty_wk I c) (k + 1) = 1 + ty_cnt (ty_wk I c) k + 1 + ty_nz (ty_ch I (ty_ch I c (k / 4)) 0) := by
            have e4 : ty_cnt (ty_wk I c) (k + 1) = ty_cnt (ty_wk I c) k + (1 + ty_nz (ty_ch I (ty_ch I c (k / 4)) 0)) := eS
            omega
          rw [← e3]; exact IH
      · rw [if_neg k4, Nat.zero_add] at eS
        refine br_f (nI_ne0 (by omega) (by omega)) (hn0 _ ?_)
        rw [nI_add]
        have e3 : 1 + ty_cnt (ty_wk I c) (k + 1) = 1 + ty_cnt (ty_wk I c) k + ty_nz (ty_ch I (ty_ch I c (k / 4)) (k % 4)) := by
          have e4 : ty_cnt (ty_wk I c) (k + 1) = ty_cnt (ty_wk I c) k + ty_nz (ty_ch I (ty_ch I c (k / 4)) (k % 4)) := eS
          omega
        rw [← e3]; exact IH
theorem ty_wt0 (P : ty_Po m K N I) : ty_wt I 0 = 0 := by
  rw [ty_wt21]
  have h : ∀ k, k < 21 → ty_nz (ty_pr I 0 k) = 0 := by
    refine ty_kcases ?_ ?_ ?_
    · rfl
    · intro n hn; rw [ty_pr1 _ _ hn, ty_po_ch0 P hn]; rfl
    · intro n j hn hj; rw [ty_pr2 _ _ hn hj, ty_po_ch0 P hn, ty_po_ch0 P hj]; rfl
  have e := ty_cnt_cg (f := fun k => ty_nz (ty_pr I 0 k)) (g := fun _ => 0) 21 h
  rw [e]; rfl
theorem ty_weight {post : Int32 → Prop} {c : Nat} (P : ty_Po m K N I) (hc : c < m) (h : post (nI (ty_wt I c))) : wpX_weight post (nI m, pf, pl, ac, cc, al, st, dp, K, N, I, T, rn, R, kp, pb, ap, sd, cp, wy, na) (nI c) := by
  have hm := P.2.1
  by_cases e : c = 0
  · subst e
    rw [ty_wt0 P] at h
    exact br_t rfl ⟨1, br_f (by decide) (br_t rfl h)⟩
  · exact br_f (nI_ne0 (by omega) (by omega)) ⟨17, ty_wt12 P hc e h 17 0 (by omega) (by omega)⟩
theorem ty_wot4 {post : Int32 → Prop} {r t : Nat} (P : ty_Po m K N I) (hR : R t = nI r) (hr : r < m) (ht : t < 9) (h : post (nI (ty_cnt (fun n => ty_wt I (ty_ch I r n)) 4))) :
    ∀ n k, k ≤ 4 → 4 - k < n → wX_weightOfTree_4 post (nI t) (nI m) pf pl ac cc al st dp K N I T rn R kp pb ap sd cp wy na n (nI (ty_cnt (fun n => ty_wt I (ty_ch I r n)) k)) (nI k) := by
  have hm := P.2.1
  intro n
  induction n with
  | zero => intro k _ h; omega
  | succ n ih =>
    intro k hk hn
    by_cases e : k = 4
    · subst e
      exact br_t (nI_le (a := 4) (by omega) (by decide)) h
    · have IH := ih (k + 1) (by omega) (by omega)
      have a := ty_po_ch P hr (n := k) (by omega)
      refine br_f (nI_ge (b := 4) (by omega) (by decide)) ⟨vp_in_nI ht (by decide), ?_⟩
      rw [nI_clamp (show t < 2 ^ 31 by omega), hR, ty_m4, nI_add, nI_clamp (show 4 * r + k < 2 ^ 31 by omega), a.1]
      refine ⟨vp_in_nI (by omega) (by decide), ty_weight P a.2.2.1 (nm_r (nI_add _ _) (nm_r (nI_1 k) IH))⟩
theorem ty_weightOfTree {post : Int32 → Prop} {r t : Nat} (P : ty_Po m K N I) (hR : R t = nI r) (hr : r < m) (ht : t < 9) (h : post (nI (ty_cnt (fun p => ty_nz (ty_at I r p)) 84))) : wpX_weightOfTree post (nI m, pf, pl, ac, cc, al, st, dp, K, N, I, T, rn, R, kp, pb, ap, sd, cp, wy, na) (nI t) := by
  rw [← ty_wt84] at h
  exact ⟨5, ty_wot4 P hR hr ht h 5 0 (by omega) (by omega)⟩
end
end
section
/-! the reference's tests and counts; the component's heights -/
theorem ty_par_i {p : Nat} (hp : p < 84) (h4 : ¬ p < 4) {post : Int32 → Prop} (h : post (nI (ty_par p))) : ((20 ≤ nI p → (¬ (4 : Int32) = 0 ∧ (post (4 + ((nI p - 20) / 4))))) ∧ (¬ 20 ≤ nI p → (¬ (4 : Int32) = 0 ∧ (post ((nI p - 4) / 4))))) := by
  by_cases h2 : p < 20
  · refine br_f (nI_ge (b := 20) h2 (by decide)) ⟨by decide, ?_⟩
    rw [ty_sd4 (by omega) hp]
    unfold ty_par at h; rw [if_pos h2] at h; exact h
  · refine br_t (nI_le (a := 20) (by omega) (by omega)) ⟨by decide, ?_⟩
    rw [ty_sd20 (by omega) hp]
    unfold ty_par at h; rw [if_neg h2] at h; exact h
def ty_Hq (A : Nat → Int32) (t p : Nat) : Prop := p < 4 ∨ A (84 * t + ty_par p) = 2
def ty_Lk (A B : Nat → Int32) (t u p : Nat) : Prop := A (84 * t + p) = A (84 * u + p) ∧ (A (84 * t + p) = 1 → B (84 * t + p) = B (84 * u + p))
/-- two levels, one level or none in it -/
def ty_Ht (C1 C2 : Prop) (h : Nat) : Prop := (C2 ∧ h = 2) ∨ (¬ C2 ∧ C1 ∧ h = 1) ∨ (¬ C2 ∧ ¬ C1 ∧ h = 0)
theorem ty_Ht_u {C1 C2 : Prop} {h g : Nat} (a : ty_Ht C1 C2 h) (b : ty_Ht C1 C2 g) : h = g := by
  rcases a with a | a | a <;> rcases b with b | b | b
  · omega
  · exact absurd a.1 b.1
  · exact absurd a.1 b.1
  · exact absurd b.1 a.1
  · omega
  · exact absurd a.2.1 b.2.1
  · exact absurd b.1 a.1
  · exact absurd b.2.1 a.2.1
  · omega
theorem ty_Ht_cg {C1 C2 D1 D2 : Prop} {h : Nat} (e1 : C1 ↔ D1) (e2 : C2 ↔ D2) (a : ty_Ht C1 C2 h) : ty_Ht D1 D2 h := by
  rcases a with a | a | a
  · exact Or.inl ⟨e2.mp a.1, a.2⟩
  · exact Or.inr (Or.inl ⟨fun z => a.1 (e2.mpr z), e1.mp a.2.1, a.2.2⟩)
  · exact Or.inr (Or.inr ⟨fun z => a.1 (e2.mpr z), fun z => a.2.1 (e1.mpr z), a.2.2⟩)
def ty_D1 (A : Nat → Int32) (t p k : Nat) : Prop := ∃ j, 1 ≤ j ∧ j < k ∧ j < 5 ∧ ty_kA A t (ty_pt p j) ≠ 0
def ty_D2 (A : Nat → Int32) (t p k : Nat) : Prop := ∃ j, 5 ≤ j ∧ j < k ∧ ty_kA A t (ty_pt p j) ≠ 0
def ty_C1 (I : Nat → Int32) (c : Nat) : Prop := ∃ n, n < 4 ∧ ty_ch I c n ≠ 0
def ty_C2 (I : Nat → Int32) (c i : Nat) : Prop := ∃ n, n < i ∧ ty_C1 I (ty_ch I c n)
/-- q stands in p -/
def ty_Sb (q p : Nat) : Prop := (¬ q < 4 ∧ ty_par q = p) ∨ (¬ q < 20 ∧ ty_par (ty_par q) = p)
section
variable {pf ya yc : Int32} {A B kp tk yp ys yq : Nat → Int32}
theorem ty_y_isSide0 {post : Int32 → Prop} {x : Int32} (hx : x < 0 ∨ ¬ x ≤ 1) (h : post 0) : wpY_isSide post (pf, ya, yc, A, B, kp, tk, yp, ys, yq) x := by
  refine br_f (fun e => ?_) (br_f (fun e => ?_) h)
  · subst e; exact hx.elim (by decide) (by decide)
  · subst e; exact hx.elim (by decide) (by decide)
theorem ty_y_isSide1 {post : Int32 → Prop} {s : Nat} (hs : s < 2) (h : post 1) : wpY_isSide post (pf, ya, yc, A, B, kp, tk, yp, ys, yq) (nI s) := by
  by_cases e : s = 0
  · subst e; exact br_t rfl h
  · have : s = 1 := by omega
    subst this
    exact br_f (by decide) (br_t rfl h)
theorem ty_y_isPath0 {post : Int32 → Prop} {x : Int32} (hx : x < 0 ∨ ¬ x < 84) (h : post 0) : wpY_isPath post (pf, ya, yc, A, B, kp, tk, yp, ys, yq) x := by
  by_cases z : x < 0
  · exact br_t z h
  · have hx := hx.resolve_left z
    obtain ⟨j, hj, e⟩ := nI_of z
    subst e
    have : ¬ j < 84 := fun w => hx (nI_lt (b := 84) w (by decide))
    exact br_f z (br_t (nI_lt (a := 83) (by omega) hj) h)
theorem ty_y_isPath1 {post : Int32 → Prop} {p : Nat} (hp : p < 84) (h : post 1) : wpY_isPath post (pf, ya, yc, A, B, kp, tk, yp, ys, yq) (nI p) :=
  br_f (nI_pos (by omega)) (br_f (nI_nlt (a := 83) (b := p) (by omega) (by decide)) h)
theorem ty_y_parent {post : Int32 → Prop} {p : Nat} (hp : p < 84) (h4 : ¬ p < 4) (h : post (nI (ty_par p))) : wpY_parent post (pf, ya, yc, A, B, kp, tk, yp, ys, yq) (nI p) :=
  br_t (nI_le (a := 4) (by omega) (by omega)) (ty_par_i hp h4 h)
theorem ty_y_hasParent {post : Int32 → Prop} {t p : Nat} (ht : t < 10) (hp : p < 84) (h1 : ty_Hq A t p → post 1) (h0 : ¬ ty_Hq A t p → post 0) : wpY_hasParent post (pf, ya, yc, A, B, kp, tk, yp, ys, yq) (nI t) (nI p) := by
  by_cases h4 : p < 4
  · exact br_t (nI_lt (b := 4) h4 (by decide)) (h1 (Or.inl h4))
  · have hl := ty_par_lt h4 hp
    refine br_f (nI_nlt (b := 4) (by omega) (by omega)) (ty_y_parent hp h4 ?_)
    rw [← ty_nP_t (show ty_par p < 84 by omega)]
    refine ty_y_kindAt ht ?_
    rw [ty_kA_t A t (show ty_par p < 84 by omega)]
    exact br_c (fun e => h1 (Or.inr e)) (fun e => h0 (fun z => z.elim (fun w => h4 w) e))
theorem ty_y_countIn5 {post : Int32 → Prop} {t p : Nat} (ht : t < 10) (hp : p < 84) (h : post (nI (ty_cnt (fun k => ty_n0 (ty_kA A t (ty_pt p k))) 21))) :
    ∀ n k, k ≤ 21 → 21 - k < n → wY_countIn_5 post (nI t) (nI p) pf ya yc A B kp tk yp ys yq n (nI (ty_cnt (fun k => ty_n0 (ty_kA A t (ty_pt p k))) k)) (nI k) := by
  intro n
  induction n with
  | zero => intro k _ h; omega
  | succ n ih =>
    intro k hk hn
    by_cases e : k = 21
    · subst e
      exact br_t (nI_le (a := 21) (by omega) (by decide)) h
    · have IH := ih (k + 1) (by omega) (by omega)
      have eS : ty_cnt (fun k => ty_n0 (ty_kA A t (ty_pt p k))) (k + 1) = ty_cnt (fun k => ty_n0 (ty_kA A t (ty_pt p k))) k + ty_n0 (ty_kA A t (ty_pt p k)) := rfl
      rw [eS] at IH
      refine br_f (nI_ge (b := 21) (by omega) (by decide)) (ty_y_part hp (by omega) (ty_y_kindAt ht ?_))
      by_cases z : ty_kA A t (ty_pt p k) = 0
      · have e2 : ty_n0 (ty_kA A t (ty_pt p k)) = 0 := if_pos z
        rw [e2, Nat.add_zero] at IH
        exact br_t z (nm_r (nI_1 k) IH)
      · have e2 : ty_n0 (ty_kA A t (ty_pt p k)) = 1 := if_neg z
        rw [e2] at IH
        exact br_f z (nm_r (nI_1 _) (nm_r (nI_1 k) IH))
theorem ty_y_countIn {post : Int32 → Prop} {t p : Nat} (ht : t < 10) (hp : p < 84) (h : post (nI (ty_cnt (fun k => ty_n0 (ty_kA A t (ty_pt p k))) 21))) : wpY_countIn post (pf, ya, yc, A, B, kp, tk, yp, ys, yq) (nI t) (nI p) :=
  ⟨22, ty_y_countIn5 ht hp h 22 0 (by omega) (by omega)⟩
theorem ty_y_count4 {post : Int32 → Prop} {t : Nat} (ht : t < 10) (h : post (nI (ty_cnt (fun p => ty_n0 (A (84 * t + p))) 84))) :
    ∀ n k, k ≤ 84 → 84 - k < n → wY_count_4 post (nI t) pf ya yc A B kp tk yp ys yq n (nI (ty_cnt (fun p => ty_n0 (A (84 * t + p))) k)) (nI k) := by
  intro n
  induction n with
  | zero => intro k _ h; omega
  | succ n ih =>
    intro k hk hn
    by_cases e : k = 84
    · subst e
      exact br_t (nI_le (a := 84) (by omega) (by decide)) h
    · have IH := ih (k + 1) (by omega) (by omega)
      have eS : ty_cnt (fun p => ty_n0 (A (84 * t + p))) (k + 1) = ty_cnt (fun p => ty_n0 (A (84 * t + p))) k + ty_n0 (A (84 * t + k)) := rfl
      rw [eS] at IH
      refine br_f (nI_ge (b := 84) (by omega) (by decide)) ?_
      rw [← ty_nP_t (show k < 84 by omega)]
      refine ty_y_kindAt ht ?_
      rw [ty_kA_t A t (show k < 84 by omega), ty_nP_t (show k < 84 by omega)]
      by_cases z : A (84 * t + k) = 0
      · have e2 : ty_n0 (A (84 * t + k)) = 0 := if_pos z
        rw [e2, Nat.add_zero] at IH
        exact br_t z (nm_r (nI_1 k) IH)
      · have e2 : ty_n0 (A (84 * t + k)) = 1 := if_neg z
        rw [e2] at IH
        exact br_f z (nm_r (nI_1 _) (nm_r (nI_1 k) IH))
theorem ty_y_count {post : Int32 → Prop} {t : Nat} (ht : t < 10) (h : post (nI (ty_cnt (fun p => ty_n0 (A (84 * t + p))) 84))) : wpY_count post (pf, ya, yc, A, B, kp, tk, yp, ys, yq) (nI t) :=
  ⟨85, ty_y_count4 ht h 85 0 (by omega) (by omega)⟩
theorem ty_y_isIn {post : Int32 → Prop} {q p : Nat} (hq : q < 84) (hp : p < 84) (h1 : ty_Sb q p → post 1) (h0 : ¬ ty_Sb q p → post 0) : wpY_isIn post (pf, ya, yc, A, B, kp, tk, yp, ys, yq) (nI q) (nI p) := by
  by_cases h4 : q < 4
  · refine br_t (nI_le (b := 3) (by omega) (by decide)) (h0 fun z => ?_)
    rcases z with z | z
    · exact z.1 h4
    · exact z.1 (by omega)
  · have hl := ty_par_lt h4 hq
    refine br_f (nI_ge (a := 3) (by omega) (by omega)) (ty_y_parent hq h4 (pk_eq (ty_par q) p (fun e => h1 (Or.inl ⟨h4, e⟩)) (fun e => ?_)))
    by_cases h2 : q < 20
    · refine br_t (nI_le (b := 19) (by omega) (by decide)) (br_t rfl (h0 fun z => ?_))
      rcases z with z | z
      · exact e z.2
      · exact z.1 h2
    · have g4 : ¬ ty_par q < 4 := by unfold ty_par; rw [if_neg h2]; omega
      have hl2 := ty_par_lt g4 (show ty_par q < 84 by omega)
      refine br_f (nI_ge (a := 19) (by omega) (by omega)) (ty_y_parent hq h4 (ty_y_parent (by omega) g4 (pk_eq (ty_par (ty_par q)) p (fun e2 => br_f (by decide) (h1 (Or.inr ⟨h2, e2⟩))) (fun e2 => br_t rfl (h0 fun z => ?_)))))
      rcases z with z | z
      · exact e z.2
      · exact e2 z.2
theorem ty_y_levels23 {post : Int32 → Prop} {J : Int32 → Int32 → Prop} {t p k x z : Nat} (ht : t < 10) (hp : p < 84) (hk : k < 21) (hx : x < 3) (hz : z < 3)
    (h : ∀ y, (ty_kA A t (ty_pt p k) = 0 ∧ y = x) ∨ (ty_kA A t (ty_pt p k) ≠ 0 ∧ z ≤ x ∧ y = x) ∨ (ty_kA A t (ty_pt p k) ≠ 0 ∧ x < z ∧ y = z) → J (nI y) (nI (k + 1))) :
    wY_levels_23 post J (nI t) (nI p) (nI x) (nI k) (nI z) pf ya yc A B kp tk yp ys yq := by
  unfold wY_levels_23
  refine ty_y_part hp hk (ty_y_kindAt ht (br_c (fun e => nm_r (nI_1 k) (h x (Or.inl ⟨e, rfl⟩))) (fun e => pk_le z x (fun w => nm_r (nI_1 k) (h x (Or.inr (Or.inl ⟨e, w, rfl⟩)))) (fun w => nm_r (nI_1 k) (h z (Or.inr (Or.inr ⟨e, w, rfl⟩)))))))
theorem ty_y_levels5 {post : Int32 → Prop} {t p : Nat} (ht : t < 10) (hp : p < 84) (h : ∀ x, ty_Ht (ty_D1 A t p 21) (ty_D2 A t p 21) x → post (nI x)) :
    ∀ n k x, 1 ≤ k → k ≤ 21 → 21 - k < n → ty_Ht (ty_D1 A t p k) (ty_D2 A t p k) x → wY_levels_5 post (nI t) (nI p) pf ya yc A B kp tk yp ys yq n (nI x) (nI k) := by
  intro n
  induction n with
  | zero => intro k x _ _ h; omega
  | succ n ih =>
    intro k x hk1 hk hn H
    by_cases e : k = 21
    · subst e
      exact br_t (nI_le (a := 21) (by omega) (by decide)) (h x H)
    · have hx : x < 3 := by rcases H with z | z | z <;> omega
      have s1 : ty_D1 A t p k → ty_D1 A t p (k + 1) := fun ⟨j, a, b, c⟩ => ⟨j, a, by omega, c⟩
      have s2 : ty_D2 A t p k → ty_D2 A t p (k + 1) := fun ⟨j, a, b, c⟩ => ⟨j, a, by omega, c⟩
      refine br_f (nI_ge (b := 21) (by omega) (by decide)) ?_
      by_cases k5 : k < 5
      · have n2 : ¬ ty_D2 A t p (k + 1) := fun ⟨j, a, b, c⟩ => by omega
        refine br_f (nI_ge (b := 5) k5 (by decide)) (ty_y_levels23 (z := 1) ht hp (by omega) hx (by omega) fun y hy => ih (k + 1) y (by omega) (by omega) (by omega) ?_)
        have x2 : x < 2 := by
          rcases H with z | z | z
          · exact absurd (s2 z.1) n2
          · omega
          · omega
        rcases hy with w | w | w
        · obtain ⟨w, rfl⟩ := w
          rcases H with z | z | z
          · exact absurd (s2 z.1) n2
          · exact Or.inr (Or.inl ⟨n2, s1 z.2.1, z.2.2⟩)
          · refine Or.inr (Or.inr ⟨n2, fun ⟨j, a, b, c, d⟩ => ?_, z.2.2⟩)
            by_cases ej : j = k
            · subst ej; exact d w
            · exact z.2.1 ⟨j, a, by omega, c, d⟩
        · exact Or.inr (Or.inl ⟨n2, ⟨k, hk1, by omega, k5, w.1⟩, by omega⟩)
        · exact Or.inr (Or.inl ⟨n2, ⟨k, hk1, by omega, k5, w.1⟩, by omega⟩)
      · have r1 : ty_D1 A t p (k + 1) → ty_D1 A t p k := fun ⟨j, a, b, c, d⟩ => ⟨j, a, by omega, c, d⟩
        refine br_t (nI_le (a := 5) (by omega) (by omega)) (ty_y_levels23 (z := 2) ht hp (by omega) hx (by omega) fun y hy => ih (k + 1) y (by omega) (by omega) (by omega) ?_)
        rcases hy with w | w | w
        · obtain ⟨w, rfl⟩ := w
          have r2 : ty_D2 A t p (k + 1) → ty_D2 A t p k := fun ⟨j, a, b, d⟩ => by
            by_cases ej : j = k
            · subst ej; exact absurd w d
            · exact ⟨j, a, by omega, d⟩
          exact ty_Ht_cg ⟨s1, r1⟩ ⟨s2, r2⟩ H
        · exact Or.inl ⟨⟨k, by omega, by omega, w.1⟩, by omega⟩
        · exact Or.inl ⟨⟨k, by omega, by omega, w.1⟩, by omega⟩
theorem ty_y_levels {post : Int32 → Prop} {t p : Nat} (ht : t < 10) (hp : p < 84) (h : ∀ x, ty_Ht (ty_D1 A t p 21) (ty_D2 A t p 21) x → post (nI x)) : wpY_levels post (pf, ya, yc, A, B, kp, tk, yp, ys, yq) (nI t) (nI p) :=
  ⟨21, ty_y_levels5 ht hp h 21 1 0 (by omega) (by omega) (by omega) (Or.inr (Or.inr ⟨fun ⟨j, a, b, c⟩ => by omega, fun ⟨j, a, b, c, d⟩ => by omega, rfl⟩))⟩
theorem ty_y_isLike {post : Int32 → Prop} {t u p : Nat} (ht : t < 10) (hu : u < 10) (hp : p < 84) (h1 : ty_Lk A B t u p → post 1) (h0 : ¬ ty_Lk A B t u p → post 0) : wpY_isLike post (pf, ya, yc, A, B, kp, tk, yp, ys, yq) (nI t) (nI u) (nI p) := by
  have i1 := ty_y_ix ht hp
  have i2 := ty_y_ix hu hp
  rw [ty_nP_t hp] at i1 i2
  unfold wpY_isLike
  have g : ∀ {post : Int32 → Prop} {w : Nat}, w < 10 → post (A (84 * w + p)) → wpY_kindAt post (pf, ya, yc, A, B, kp, tk, yp, ys, yq) (nI w) (nI p) := by
    intro post w hw z
    rw [← ty_nP_t hp]
    refine ty_y_kindAt hw ?_
    rw [ty_kA_t A w hp]; exact z
  refine g ht (g hu (br_c (fun e1 => br_c (fun e2 => ⟨i1.1, i2.1, ?_⟩) (fun e2 => h1 ⟨e1, fun z => absurd z e2⟩)) (fun e1 => h0 fun z => e1 z.1)))
  rw [i1.2, i2.2]
  exact br_c (fun e3 => h1 ⟨e1, fun _ => e3⟩) (fun e3 => h0 fun z => e3 (z.2 e2))
end
section
variable {m : Nat} {pf pl ac cc al st dp : Int32} {K N I T rn R kp pb ap sd cp wy na : Nat → Int32}
theorem ty_hasSomething {post : Int32 → Prop} {c : Nat} (P : ty_Po m K N I) (hc : c < m) (h1 : ty_C1 I c → post 1) (h0 : ¬ ty_C1 I c → post 0) : wpX_hasSomething post (nI m, pf, pl, ac, cc, al, st, dp, K, N, I, T, rn, R, kp, pb, ap, sd, cp, wy, na) (nI c) := by
  have hm := P.2.1
  have a0 := ty_po_ch P hc (n := 0) (by omega)
  rw [Nat.add_zero] at a0
  have a1 := ty_po_ch P hc (n := 1) (by omega)
  have a2 := ty_po_ch P hc (n := 2) (by omega)
  have a3 := ty_po_ch P hc (n := 3) (by omega)
  refine nm_r (ty_m4 c) ?_
  rw [nI_1, ty_a2, ty_a3, nI_clamp (show 4 * c < 2 ^ 31 by omega), nI_clamp (show 4 * c + 1 < 2 ^ 31 by omega), nI_clamp (show 4 * c + 2 < 2 ^ 31 by omega), nI_clamp (show 4 * c + 3 < 2 ^ 31 by omega), a0.1, a1.1, a2.1, a3.1]
  refine ⟨vp_in_nI (by omega) (by decide), pk_eq _ 0 (fun e0 => ⟨vp_in_nI (by omega) (by decide), pk_eq _ 0 (fun e1 => ⟨vp_in_nI (by omega) (by decide), pk_eq _ 0 (fun e2 => ⟨vp_in_nI (by omega) (by decide), pk_eq _ 0 (fun e3 => h0 ?_) (fun e => h1 ⟨3, by omega, e⟩)⟩) (fun e => h1 ⟨2, by omega, e⟩)⟩) (fun e => h1 ⟨1, by omega, e⟩)⟩) (fun e => h1 ⟨0, by omega, e⟩)⟩
  intro ⟨n, hn, z⟩
  exact z (ty_lt4 (P := fun n => ty_ch I c n = 0) e0 e1 e2 e3 n hn)
theorem ty_ho16 {post : Int32 → Prop} {c b : Nat} (P : ty_Po m K N I) (hc : c < m) (h1 : ty_C2 I c 4 → post (nI 3)) (h0 : ¬ ty_C2 I c 4 → post (nI b)) :
    ∀ n i x, i ≤ 4 → 4 - i < n → (ty_C2 I c i ∧ x = 3 ∨ ¬ ty_C2 I c i ∧ x = b) → wX_heightOf_16 post (nI c) (nI m) pf pl ac cc al st dp K N I T rn R kp pb ap sd cp wy na n (nI x) (nI i) := by
  have hm := P.2.1
  intro n
  induction n with
  | zero => intro i x _ h; omega
  | succ n ih =>
    intro i x hi hn H
    by_cases e : i = 4
    · subst e
      refine br_t (nI_le (a := 4) (by omega) (by decide)) ?_
      rcases H with z | z
      · rw [z.2]; exact h1 z.1
      · rw [z.2]; exact h0 z.1
    · have a := ty_po_ch P hc (n := i) (by omega)
      refine br_f (nI_ge (b := 4) (by omega) (by decide)) ?_
      rw [ty_m4, nI_add, nI_clamp (show 4 * c + i < 2 ^ 31 by omega), a.1]
      refine ⟨vp_in_nI (by omega) (by decide), ty_hasSomething P a.2.2.1 (fun w => br_f (by decide) (nm_r (nI_1 i) ?_)) (fun w => br_t rfl (nm_r (nI_1 i) ?_))⟩
      · exact ih (i + 1) 3 (by omega) (by omega) (Or.inl ⟨⟨i, by omega, w⟩, rfl⟩)
      · refine ih (i + 1) x (by omega) (by omega) ?_
        rcases H with z | z
        · obtain ⟨⟨j, hj, r⟩, z2⟩ := z
          exact Or.inl ⟨⟨j, by omega, r⟩, z2⟩
        · refine Or.inr ⟨fun ⟨j, hj, r⟩ => ?_, z.2⟩
          by_cases ej : j = i
          · subst ej; exact w r
          · exact z.1 ⟨j, by omega, r⟩
theorem ty_heightOf {post : Int32 → Prop} {c : Nat} (P : ty_Po m K N I) (hc : c < m) (h : ∀ x, ty_Ht (ty_C1 I c) (ty_C2 I c 4) x → post (nI (x + 1))) : wpX_heightOf post (nI m, pf, pl, ac, cc, al, st, dp, K, N, I, T, rn, R, kp, pb, ap, sd, cp, wy, na) (nI c) := by
  unfold wpX_heightOf
  refine ty_hasSomething P hc (fun w => br_f (by decide) ⟨5, ?_⟩) (fun w => br_t rfl ⟨5, ?_⟩)
  · exact ty_ho16 (b := 2) P hc (fun z => h 2 (Or.inl ⟨z, rfl⟩)) (fun z => h 1 (Or.inr (Or.inl ⟨z, w, rfl⟩))) 5 0 2 (by omega) (by omega) (Or.inr ⟨fun ⟨j, hj, _⟩ => by omega, rfl⟩)
  · exact ty_ho16 (b := 1) P hc (fun z => h 2 (Or.inl ⟨z, rfl⟩)) (fun z => h 0 (Or.inr (Or.inr ⟨z, w, rfl⟩))) 5 0 1 (by omega) (by omega) (Or.inr ⟨fun ⟨j, hj, _⟩ => by omega, rfl⟩)
theorem ty_standsIn {post : Int32 → Prop} {q p : Nat} (hq : q < 84) (hp : p < 84) (hne : q ≠ p) (h1 : ty_Sb q p → post 1) (h0 : ¬ ty_Sb q p → post 0) : wpX_standsIn post (nI m, pf, pl, ac, cc, al, st, dp, K, N, I, T, rn, R, kp, pb, ap, sd, cp, wy, na) (nI q) (nI p) := by
  have hm1 : ¬ (-1 : Int32) = nI p := fun e => ty_nm1' (k := p) (by omega) e.symm
  refine ⟨5, br_f (by decide) (br_f (ty_nm1' (by omega)) (pk_eq q p (fun e => absurd e hne) (fun _ => ?_)))⟩
  by_cases h4 : q < 4
  · refine ty_parentOf0 h4 (nm_e (br_f (by decide) (br_t rfl (br_f hm1 (h0 fun z => ?_)))))
    rcases z with z | z
    · exact z.1 h4
    · exact z.1 (by omega)
  · have hl := ty_par_lt h4 hq
    refine ty_parentOf hq h4 (nm_e (br_f (by decide) (br_f (ty_nm1' (by omega)) (pk_eq (ty_par q) p (fun e => ?_) (fun e => ?_)))))
    · exact pk_eq (ty_par q) p (fun _ => h1 (Or.inl ⟨h4, e⟩)) (fun z => absurd e z)
    · by_cases h2 : q < 20
      · have g4 : ty_par q < 4 := by unfold ty_par; rw [if_pos h2]; omega
        refine ty_parentOf0 g4 (nm_e (br_f (by decide) (br_t rfl (br_f hm1 (h0 fun z => ?_)))))
        rcases z with z | z
        · exact e z.2
        · exact z.1 h2
      · have g4 : ¬ ty_par q < 4 := by unfold ty_par; rw [if_neg h2]; omega
        have g20 : ty_par q < 20 := hl
        have hl2 := ty_par_lt g4 (show ty_par q < 84 by omega)
        have g5 : ty_par (ty_par q) < 4 := by
          have : ty_par (ty_par q) = (ty_par q - 4) / 4 := if_pos g20
          rw [this]; omega
        refine ty_parentOf (by omega) g4 (nm_e (br_f (by decide) (br_f (ty_nm1' (by omega)) (pk_eq (ty_par (ty_par q)) p (fun e2 => ?_) (fun e2 => ?_)))))
        · exact pk_eq (ty_par (ty_par q)) p (fun _ => h1 (Or.inr ⟨h2, e2⟩)) (fun z => absurd e2 z)
        · refine ty_parentOf0 g5 (nm_e (br_t (by decide) (br_f hm1 (h0 fun z => ?_))))
          rcases z with z | z
          · exact e z.2
          · exact e2 z.2
end
end
section
/-! what the two pictures have in common -/
theorem ty_Tr_cg {m : Nat} {K N I R A B A' B' : Nat → Int32} (Z : ty_Tr m K N I R A B) (ha : ∀ i, i < 756 → A' i = A i) (hb : ∀ i, i < 756 → B' i = B i) : ty_Tr m K N I R A' B' :=
  fun t ht => ⟨(Z t ht).1, ty_T1_cg (Z t ht).2 (fun p hp => ha _ (by omega)) (fun p hp => hb _ (by omega))⟩
/-- the rows of a tree from a path on are those of content c -/
def ty_Src (K N I A B : Nat → Int32) (t p c : Nat) : Prop := ∀ k, k < 21 → ty_kA A t (ty_pt p k) = K (ty_pr I c k) ∧ (ty_kA A t (ty_pt p k) = 1 → ty_kA B t (ty_pt p k) = N (ty_pr I c k))
section
variable {m : Nat} {K N I R A B : Nat → Int32}
theorem ty_tr_src (P : ty_Po m K N I) (Z : ty_Tr m K N I R A B) {t p : Nat} (ht : t < 9) (hp : p < 84) : ty_Src K N I A B t p (ty_at I (ty_rt R t) p) := by
  intro k hk
  have z := (Z t ht).2
  rw [← ty_at_pt P z.2.2.1 hp k hk]
  by_cases h : ty_pt p k < 84
  · rw [ty_kA_t A t h, ty_kA_t B t h]; exact z.2.2.2 _ h
  · rw [ty_kA_f A t h, ty_atB I _ (by omega)]
    exact ⟨P.2.2.1.symm, fun w => absurd w (by decide)⟩
theorem ty_tr_Sm (P : ty_Po m K N I) (Z : ty_Tr m K N I R A B) {t p u q : Nat} (ht : t < 9) (hu : u < 9) (hp : p < 84) (hq : q < 84) : ty_Sm A B t p u q ↔ ty_at I (ty_rt R t) p = ty_at I (ty_rt R u) q := by
  have a := ty_tr_src P Z ht hp
  have b := ty_tr_src P Z hu hq
  constructor
  · intro h
    refine ty_eqp P (ty_at_lt P (Z t ht).2.1 p) (ty_at_lt P (Z u hu).2.1 q) (ty_Hd2 P (Z t ht).2.2.2.1 p hp) (ty_Hd2 P (Z u hu).2.2.2.1 q hq) fun k hk => ?_
    have h1 := h k hk
    have a1 := a k hk
    have b1 := b k hk
    refine ⟨a1.1.symm.trans (h1.1.trans b1.1), fun e => ?_⟩
    have e1 := a1.1.trans e
    exact (a1.2 e1).symm.trans ((h1.2 e1).trans (b1.2 (h1.1.symm.trans e1)))
  · intro h k hk
    have a1 := a k hk
    have b1 := b k hk
    rw [← h] at b1
    refine ⟨a1.1.trans b1.1.symm, fun e => (a1.2 e).trans (b1.2 ?_).symm⟩
    rw [b1.1, ← a1.1]; exact e
theorem ty_tr_A (Z : ty_Tr m K N I R A B) {t p : Nat} (ht : t < 9) (hp : p < 84) : A (84 * t + p) = K (ty_at I (ty_rt R t) p) := ((Z t ht).2.2.2.2 p hp).1
theorem ty_tr_B (Z : ty_Tr m K N I R A B) {t p : Nat} (ht : t < 9) (hp : p < 84) (h : K (ty_at I (ty_rt R t) p) = 1) : B (84 * t + p) = N (ty_at I (ty_rt R t) p) := ((Z t ht).2.2.2.2 p hp).2 ((ty_tr_A Z ht hp).trans h)
theorem ty_tr_lt (P : ty_Po m K N I) (Z : ty_Tr m K N I R A B) {t : Nat} (ht : t < 9) (p : Nat) : ty_at I (ty_rt R t) p < m := ty_at_lt P (Z t ht).2.1 p
theorem ty_tr_Lk (P : ty_Po m K N I) (Z : ty_Tr m K N I R A B) {t u p : Nat} (ht : t < 9) (hu : u < 9) (hp : p < 84) : ty_Lk A B t u p ↔ (ty_at I (ty_rt R t) p = ty_at I (ty_rt R u) p ∨ (K (ty_at I (ty_rt R t) p) = 2 ∧ K (ty_at I (ty_rt R u) p) = 2)) := by
  have hl1 := ty_tr_lt P Z ht p
  have hl2 := ty_tr_lt P Z hu p
  have a1 := ty_tr_A Z ht hp
  have a2 := ty_tr_A Z hu hp
  unfold ty_Lk
  rw [a1, a2]
  constructor
  · intro h
    by_cases h2 : K (ty_at I (ty_rt R t) p) = 2
    · exact Or.inr ⟨h2, h.1.symm.trans h2⟩
    · refine Or.inl (ty_eqc P hl1 hl2 h.1 (fun e => ?_) (fun n hn => ?_))
      · rw [← ty_tr_B Z ht hp e, ← ty_tr_B Z hu hp (h.1.symm.trans e)]; exact h.2 e
      · rw [ty_nof P hl1 hn h2, ty_nof P hl2 hn (fun e => h2 (h.1.trans e))]
  · intro h
    rcases h with h | h
    · rw [h]
      refine ⟨rfl, fun e => ?_⟩
      have b1 := ty_tr_B Z ht hp (by rw [h]; exact e)
      have b2 := ty_tr_B Z hu hp e
      rw [b1, b2, h]
    · exact ⟨h.1.trans h.2.symm, fun e => absurd (h.1.symm.trans e) (by decide)⟩
theorem ty_tr_same (P : ty_Po m K N I) (Z : ty_Tr m K N I R A B) {t u : Nat} (ht : t < 9) (hu : u < 9) : (∀ p, p < 84 → ty_Lk A B t u p) ↔ ty_rt R t = ty_rt R u := by
  constructor
  · intro h
    refine ty_eqc P (Z t ht).2.1 (Z u hu).2.1 ((Z t ht).2.2.1.trans (Z u hu).2.2.1.symm) (fun e => ?_) (fun n hn => ?_)
    · exact absurd (((Z t ht).2.2.1).symm.trans e) (by decide)
    · rw [← ty_at1 I _ hn, ← ty_at1 I _ hn]
      refine (ty_tr_Sm P Z ht hu (by omega) (by omega)).mp fun k hk => ?_
      by_cases hb : ty_pt n k < 84
      · rw [ty_kA_t A t hb, ty_kA_t A u hb, ty_kA_t B t hb, ty_kA_t B u hb]; exact h _ hb
      · rw [ty_kA_f A t hb, ty_kA_f A u hb, ty_kA_f B t hb, ty_kA_f B u hb]; exact ⟨rfl, fun _ => rfl⟩
  · intro h p hp
    exact (ty_tr_Lk P Z ht hu hp).mpr (Or.inl (by rw [h]))
theorem ty_tr_Hp (Z : ty_Tr m K N I R A B) {t p : Nat} (ht : t < 9) (hp : p < 84) : ty_Hq A t p ↔ ty_Hp K I (ty_rt R t) p := by
  unfold ty_Hq ty_Hp
  by_cases h4 : p < 4
  · exact ⟨fun _ => Or.inl h4, fun _ => Or.inl h4⟩
  · rw [ty_tr_A Z ht (show ty_par p < 84 by have := ty_par_lt h4 hp; omega)]
theorem ty_n0K (P : ty_Po m K N I) {c : Nat} (hc : c < m) : ty_n0 (K c) = ty_nz c := by
  unfold ty_n0 ty_nz
  by_cases h : c = 0
  · rw [if_pos ((ty_K0 P hc).mpr h), if_pos h]
  · rw [if_neg (fun e => h ((ty_K0 P hc).mp e)), if_neg h]
theorem ty_tr_cnt (P : ty_Po m K N I) (Z : ty_Tr m K N I R A B) {t p : Nat} (ht : t < 9) (hp : p < 84) : ty_cnt (fun k => ty_n0 (ty_kA A t (ty_pt p k))) 21 = ty_wt I (ty_at I (ty_rt R t) p) := by
  rw [ty_wt21]
  refine ty_cnt_cg 21 fun k hk => ?_
  show ty_n0 (ty_kA A t (ty_pt p k)) = ty_nz (ty_pr I (ty_at I (ty_rt R t) p) k)
  rw [(ty_tr_src P Z ht hp k hk).1]
  exact ty_n0K P (ty_pr_lt P (ty_tr_lt P Z ht p) k hk)
theorem ty_tr_cnt84 (P : ty_Po m K N I) (Z : ty_Tr m K N I R A B) {t : Nat} (ht : t < 9) : ty_cnt (fun p => ty_n0 (A (84 * t + p))) 84 = ty_cnt (fun p => ty_nz (ty_at I (ty_rt R t) p)) 84 := by
  refine ty_cnt_cg 84 fun p hp => ?_
  show ty_n0 (A (84 * t + p)) = ty_nz (ty_at I (ty_rt R t) p)
  rw [ty_tr_A Z ht hp]
  exact ty_n0K P (ty_tr_lt P Z ht p)
theorem ty_tr_D (P : ty_Po m K N I) (Z : ty_Tr m K N I R A B) {t p : Nat} (ht : t < 9) (hp : p < 84) : (ty_D1 A t p 21 ↔ ty_C1 I (ty_at I (ty_rt R t) p)) ∧ (ty_D2 A t p 21 ↔ ty_C2 I (ty_at I (ty_rt R t) p) 4) := by
  have hl := ty_tr_lt P Z ht p
  have hs : ∀ k, k < 21 → (ty_kA A t (ty_pt p k) ≠ 0 ↔ ty_pr I (ty_at I (ty_rt R t) p) k ≠ 0) := by
    intro k hk
    rw [(ty_tr_src P Z ht hp k hk).1]
    exact not_congr (ty_K0 P (ty_pr_lt P hl k hk))
  constructor
  · constructor
    · rintro ⟨j, a, b, c, d⟩
      have w := (hs j b).mp d
      obtain ⟨n, rfl⟩ : ∃ n, j = 1 + n := ⟨j - 1, by omega⟩
      rw [ty_pr1 _ _ (show n < 4 by omega)] at w
      exact ⟨n, by omega, w⟩
    · rintro ⟨n, a, d⟩
      refine ⟨1 + n, by omega, by omega, by omega, (hs _ (by omega)).mpr ?_⟩
      rw [ty_pr1 _ _ a]; exact d
  · constructor
    · rintro ⟨j, a, b, d⟩
      have w := (hs j b).mp d
      have e : j = 5 + 4 * ((j - 5) / 4) + (j - 5) % 4 := by omega
      rw [e, ty_pr2 _ _ (show (j - 5) / 4 < 4 by omega) (show (j - 5) % 4 < 4 by omega)] at w
      exact ⟨(j - 5) / 4, by omega, (j - 5) % 4, by omega, w⟩
    · rintro ⟨n, a, i, b, d⟩
      refine ⟨5 + 4 * n + i, by omega, by omega, (hs _ (by omega)).mpr ?_⟩
      rw [ty_pr2 _ _ a b]; exact d
theorem ty_Fo_of (P : ty_Po m K N I) {r : Nat} (hr : r < m) : ∀ p, p < 84 → ty_Hp K I r p → ty_Fo K I r p := by
  refine ty_cases ?_ ?_ ?_
  · intro a ha _ j h1 h2
    rw [ty_lv1 ha] at h2; omega
  · intro a b ha hb h j h1 h2
    rw [ty_lv2 (by omega) (by omega)] at h2
    have : j = 1 := by omega
    subst this
    have e : ty_par (4 + 4 * a + b) = a := by unfold ty_par; rw [if_pos (by omega)]; omega
    have h := h.resolve_left (by omega)
    rw [e, ty_at1 I r ha] at h
    show K (ty_ch I r (ty_nm _ 0)) = 2
    rw [ty_nm20 ha hb]; exact h
  · intro a b c ha hb hc h j h1 h2
    rw [ty_lv3 (by omega)] at h2
    have e : ty_par (20 + 16 * a + 4 * b + c) = 4 + 4 * a + b := by unfold ty_par; rw [if_neg (by omega)]; omega
    have h := h.resolve_left (by omega)
    rw [e, ty_at2 I r ha hb] at h
    have h1' : K (ty_ch I r a) = 2 := by
      refine Classical.byContradiction fun z => ?_
      rw [ty_nof P (ty_po_lt P hr ha) hb z, P.2.2.1] at h
      exact absurd h (by decide)
    have a1 : ty_an I r (20 + 16 * a + 4 * b + c) 1 = ty_ch I r a := by
      show ty_ch I r (ty_nm _ 0) = _
      rw [ty_nm30 ha hb hc]
    have : j = 1 ∨ j = 2 := by omega
    rcases this with z | z
    · subst z; rw [a1]; exact h1'
    · subst z
      show K (ty_ch I (ty_an I r _ 1) (ty_nm _ 1)) = 2
      rw [a1, ty_nm31 ha hb hc]; exact h
theorem ty_rt_us {R : Nat → Int32} {t s : Nat} (hs : s < 2 ^ 31) : ty_rt (upd R t (nI s)) t = s := by
  unfold ty_rt; rw [pk_us]; exact nI_clamp hs
theorem ty_rt_un {R : Nat → Int32} {t u : Nat} {x : Int32} (h : u ≠ t) : ty_rt (upd R t x) u = ty_rt R u := by
  unfold ty_rt; rw [pk_un h]
/-- the trees behind a change of one -/
theorem ty_Tr_set {m' : Nat} {K' N' I' A' B' : Nat → Int32} (P : ty_Po m K N I) (P' : ty_Po m' K' N' I') (E : ty_Ex m K N I m' K' N' I') (Z : ty_Tr m K N I R A B) {t p c : Nat} {s : Nat → Nat} (ht : t < 9) (hp : p < 84)
    (hc : ty_Hd I' (3 - ty_lv p) c) (hF : ty_Hp K I (ty_rt R t) p) (hS : ty_Sq m' K' I' I (ty_rt R t) p c 0 s)
    (h1 : ∀ k, k < 21 → ty_pt p k < 84 → A' (84 * t + ty_pt p k) = K' (ty_pr I' c k) ∧ (A' (84 * t + ty_pt p k) = 1 → B' (84 * t + ty_pt p k) = N' (ty_pr I' c k)))
    (h2 : ∀ u q, u < 9 → q < 84 → (u = t → ∀ k, k < 21 → q ≠ ty_pt p k) → A' (84 * u + q) = A (84 * u + q) ∧ B' (84 * u + q) = B (84 * u + q)) :
    ty_Tr m' K' N' I' (upd R t (nI (s 0))) A' B' := by
  have T := ty_T1_set P P' E (Z t ht).2 hp hc (ty_Fo_of P (Z t ht).2.1 p hp hF) hS (a' := fun q => A' (84 * t + q)) (b' := fun q => B' (84 * t + q)) h1 (fun q hq hk => h2 t q ht hq (fun _ => hk))
  have hm := P'.2.1
  have ts := T.1
  intro u hu
  by_cases e : u = t
  · subst e
    rw [ty_rt_us (by omega), pk_us]
    exact ⟨rfl, T⟩
  · rw [ty_rt_un e, pk_un e]
    refine ⟨(Z u hu).1, ty_T1_cg (ty_T1_ex P E (Z u hu).2) (fun q hq => (h2 u q hu hq (fun w => absurd w e)).1) (fun q hq => (h2 u q hu hq (fun w => absurd w e)).2)⟩
theorem ty_pr_0 (P : ty_Po m K N I) : ∀ k, k < 21 → ty_pr I 0 k = 0 := by
  refine ty_kcases ?_ ?_ ?_
  · rw [ty_pr0]
  · intro n hn; rw [ty_pr1 _ _ hn, ty_po_ch0 P hn]
  · intro n j hn hj; rw [ty_pr2 _ _ hn hj, ty_po_ch0 P hn, ty_po_ch0 P hj]
theorem ty_pr_leaf (P : ty_Po m K N I) {c : Nat} (h : ∀ n, n < 4 → ty_ch I c n = 0) : ∀ k, 1 ≤ k → k < 21 → ty_pr I c k = 0 := by
  have : ∀ k, k < 21 → 1 ≤ k → ty_pr I c k = 0 := by
    refine ty_kcases ?_ ?_ ?_
    · intro h; omega
    · intro n hn _; rw [ty_pr1 _ _ hn, h n hn]
    · intro n j hn hj _; rw [ty_pr2 _ _ hn hj, h n hn, ty_po_ch0 P hj]
  exact fun k h1 h2 => this k h2 h1
/-- a content without others in it comes to a path that is no folder -/
theorem ty_Tr_leaf {m' : Nat} {K' N' I' A' B' : Nat → Int32} (P : ty_Po m K N I) (P' : ty_Po m' K' N' I') (E : ty_Ex m K N I m' K' N' I') (Z : ty_Tr m K N I R A B) {t p c : Nat} {s : Nat → Nat} (ht : t < 9) (hp : p < 84)
    (hc : ∀ n, n < 4 → ty_ch I' c n = 0) (hF : ty_Hp K I (ty_rt R t) p) (hS : ty_Sq m' K' I' I (ty_rt R t) p c 0 s) (hk : K (ty_at I (ty_rt R t) p) ≠ 2)
    (h1 : A' (84 * t + p) = K' c ∧ (A' (84 * t + p) = 1 → B' (84 * t + p) = N' c))
    (h2 : ∀ i, i ≠ 84 * t + p → A' i = A i ∧ B' i = B i) :
    ty_Tr m' K' N' I' (upd R t (nI (s 0))) A' B' := by
  have hd : ∀ d, ty_Hd I' d c := by
    intro d
    induction d with
    | zero => exact hc
    | succ d ih => exact ty_HdS P' d c ih
  refine ty_Tr_set P P' E Z ht hp (hd _) hF hS (fun k hk21 hb => ?_) (fun u q hu hq hn => ?_)
  · by_cases k0 : k = 0
    · subst k0
      rw [ty_pt0, ty_pr0]; exact h1
    · have ne : ty_pt p k ≠ p := fun e => k0 (ty_pt_inj hp hk21 (by omega) (j := 0) (by rw [ty_pt0]; exact e) hb)
      have g := h2 (84 * t + ty_pt p k) (by omega)
      rw [g.1, g.2, ty_tr_A Z ht hb, ty_at_pt P (Z t ht).2.2.2.1 hp k hk21, ty_pr_leaf P' hc k (by omega) hk21,
        ty_pr_leaf P (c := ty_at I (ty_rt R t) p) (fun n hn => ty_nof P (ty_tr_lt P Z ht p) hn hk) k (by omega) hk21, P.2.2.1, P'.2.2.1]
      exact ⟨rfl, fun w => absurd w (by decide)⟩
  · refine h2 _ fun e => ?_
    have : u = t := by omega
    exact hn this 0 (by omega) (by rw [ty_pt0]; omega)
theorem ty_Tr_empty {m' : Nat} {K' N' I' : Nat → Int32} (P : ty_Po m K N I) (P' : ty_Po m' K' N' I') (E : ty_Ex m K N I m' K' N' I') (Z : ty_Tr m K N I R A B) {t p : Nat} {s : Nat → Nat} (ht : t < 9) (hp : p < 84)
    (hF : ty_Hp K I (ty_rt R t) p) (hS : ty_Sq m' K' I' I (ty_rt R t) p 0 0 s) :
    ty_Tr m' K' N' I' (upd R t (nI (s 0))) (ty_eA A t p 21) B := by
  refine ty_Tr_set P P' E Z ht hp (ty_Hd0 P' _) hF hS (fun k hk hb => ?_) (fun u q hu hq hn => ⟨ty_eA_o A 21 fun j hj hb e => ?_, rfl⟩)
  · rw [ty_eA_i A 21 k hk hb, ty_pr_0 P' k hk, P'.2.2.1]
    exact ⟨rfl, fun w => absurd w (by decide)⟩
  · have : u = t := by omega
    exact hn this j hj (by omega)
theorem ty_eA_k (A : Nat → Int32) {t u p : Nat} (h : t ≠ u) (k x : Nat) : ty_kA (ty_eA A u p k) t x = ty_kA A t x := by
  unfold ty_kA
  split
  · exact ty_eA_o A k (fun j _ hj => by omega)
  · rfl
theorem ty_Tr_put {m' : Nat} {K' N' I' : Nat → Int32} (P : ty_Po m K N I) (P' : ty_Po m' K' N' I') (E : ty_Ex m K N I m' K' N' I') (Z : ty_Tr m K N I R A B) {t p u q c : Nat} {s : Nat → Nat} (htu : t ≠ u) (hu : u < 9) (hq : q < 84) (hcm : c < m)
    (hc : ty_Hd I (3 - ty_lv q) c) (hF : ty_Hp K I (ty_rt R u) q) (hS : ty_Sq m' K' I' I (ty_rt R u) q c 0 s) (hX : ty_Src K N I A B t p c) :
    ty_Tr m' K' N' I' (upd R u (nI (s 0))) (ty_pu (ty_eA A u q 21) t p u q 21) (ty_pu B t p u q 21) := by
  refine ty_Tr_set P P' E Z hu hq (ty_ex_Hd P E _ _ hcm hc) hF hS (fun k hk hb => ?_) (fun w x hw hx hn => ?_)
  · rw [ty_pu_i _ htu hq 21 k (by omega) hk hb, ty_pu_i _ htu hq 21 k (by omega) hk hb, ty_eA_k A htu, ty_ex_pr P E hcm k hk]
    have hl := ty_pr_lt P hcm k hk
    rw [ty_ex_K E hl, ty_ex_N E hl]
    exact hX k hk
  · have ne : ∀ j, j < 21 → ty_pt q j < 84 → 84 * w + x ≠ 84 * u + ty_pt q j := by
      intro j hj hb e
      have : w = u := by omega
      exact hn this j hj (by omega)
    rw [ty_pu_o _ 21 ne, ty_pu_o _ 21 ne, ty_eA_o A 21 ne]
    exact ⟨rfl, rfl⟩
theorem ty_Src_ex {m' : Nat} {K' N' I' : Nat → Int32} (P : ty_Po m K N I) (E : ty_Ex m K N I m' K' N' I') {t p c : Nat} (hc : c < m) (h : ty_Src K N I A B t p c) : ty_Src K' N' I' A B t p c := by
  intro k hk
  have hl := ty_pr_lt P hc k hk
  rw [ty_ex_pr P E hc k hk, ty_ex_K E hl, ty_ex_N E hl]; exact h k hk
/-- into the tree for a while -/
theorem ty_put9 (Z : ty_Tr m K N I R A B) {t p c : Nat} (ht : t < 9) (hX : ty_Src K N I A B t p c) :
    ty_Tr m K N I R (ty_pu (ty_eA A 9 0 21) t p 9 0 21) (ty_pu B t p 9 0 21) ∧ ty_Src K N I (ty_pu (ty_eA A 9 0 21) t p 9 0 21) (ty_pu B t p 9 0 21) 9 0 c := by
  constructor
  · refine ty_Tr_cg Z (fun i hi => ?_) (fun i hi => ?_)
    · rw [ty_pu_o _ 21 (fun j _ hb => by omega), ty_eA_o A 21 (fun j _ hb => by omega)]
    · rw [ty_pu_o _ 21 (fun j _ hb => by omega)]
  · intro k hk
    have hb : ty_pt 0 k < 84 := by
      unfold ty_pt ty_cl
      repeat' split
      all_goals omega
    rw [ty_kA_t _ 9 hb, ty_kA_t _ 9 hb, ty_pu_i _ (by omega) (by omega) 21 k (by omega) hk hb, ty_pu_i _ (by omega) (by omega) 21 k (by omega) hk hb, ty_eA_k A (by omega)]
    exact hX k hk
theorem ty_Src_eA {t p u q c : Nat} (h : t ≠ u) (hX : ty_Src K N I A B t p c) : ty_Src K N I (ty_eA A u q 21) B t p c := by
  intro k hk
  rw [ty_eA_k A h]; exact hX k hk
theorem ty_Tr_copy (Z : ty_Tr m K N I R A B) {t u : Nat} (htu : t ≠ u) (ht : t < 9) (hu : u < 9) : ty_Tr m K N I (upd R u (R t)) (ty_cp A t u 84) (ty_cp B t u 84) := by
  intro w hw
  by_cases e : w = u
  · subst e
    have e1 : ty_rt (upd R w (R t)) w = ty_rt R t := by unfold ty_rt; rw [pk_us]
    rw [e1, pk_us]
    exact ⟨(Z t ht).1, ty_T1_cg (Z t ht).2 (fun p hp => ty_cp_i A htu 84 p (by omega) hp) (fun p hp => ty_cp_i B htu 84 p (by omega) hp)⟩
  · rw [ty_rt_un e, pk_un e]
    exact ⟨(Z w hw).1, ty_T1_cg (Z w hw).2 (fun p hp => ty_cp_o A 84 (fun j hj => by omega)) (fun p hp => ty_cp_o B 84 (fun j hj => by omega))⟩
end
end
section
/-! the relation; the constructors; questions -/
def ty_Pf (pf : Int32) : Prop := pf = -1 ∨ pf = 0 ∨ pf = 1
/-- the relation: the pool's facts, the nine trees look as the reference's rows; the preferred side and the kept marks are the same -/
def i_Rel (k : Nat) (u : SX) (v : SY) : Prop := ∃ (m : Nat) (pf pl ac cc al st dp ya yc : Int32) (K N I T rn R kp pb ap sd cp wy na A B tk yp ys yq : Nat → Int32), u = (nI m, pf, pl, ac, cc, al, st, dp, K, N, I, T, rn, R, kp, pb, ap, sd, cp, wy, na) ∧ v = (pf, ya, yc, A, B, kp, tk, yp, ys, yq) ∧ ty_Pl m K N I T ∧ ty_Tr m K N I R A B ∧ ty_Pf pf
theorem i_up {k : Nat} {u : SX} {v : SY} (h : i_Rel k u v) : i_Rel (k + 4) u v := h
theorem ty_el {k : Nat} {u : SX} {v : SY} {Q : SX → SY → Prop} (h : ∀ (m : Nat) (pf pl ac cc al st dp ya yc : Int32) (K N I T rn R kp pb ap sd cp wy na A B tk yp ys yq : Nat → Int32), ty_Pl m K N I T → ty_Tr m K N I R A B → ty_Pf pf → Q (nI m, pf, pl, ac, cc, al, st, dp, K, N, I, T, rn, R, kp, pb, ap, sd, cp, wy, na) (pf, ya, yc, A, B, kp, tk, yp, ys, yq)) (H : i_Rel k u v) : Q u v :=
  Exists.elim H fun m H => Exists.elim H fun pf H => Exists.elim H fun pl H => Exists.elim H fun ac H => Exists.elim H fun cc H => Exists.elim H fun al H => Exists.elim H fun st H => Exists.elim H fun dp H => Exists.elim H fun ya H => Exists.elim H fun yc H => Exists.elim H fun K H => Exists.elim H fun N H => Exists.elim H fun I H => Exists.elim H fun T H => Exists.elim H fun rn H => Exists.elim H fun R H => Exists.elim H fun kp H => Exists.elim H fun pb H => Exists.elim H fun ap H => Exists.elim H fun sd H => Exists.elim H fun cp H => Exists.elim H fun wy H => Exists.elim H fun na H => Exists.elim H fun A H => Exists.elim H fun B H => Exists.elim H fun tk H => Exists.elim H fun yp H => Exists.elim H fun ys H => Exists.elim H fun yq H => by
    rw [H.1, H.2.1]
    exact h m pf pl ac cc al st dp ya yc K N I T rn R kp pb ap sd cp wy na A B tk yp ys yq H.2.2.1 H.2.2.2.1 H.2.2.2.2
section
variable {m : Nat} {pf pl ac cc al st dp ya yc : Int32} {K N I T rn R kp pb ap sd cp wy na A B tk yp ys yq : Nat → Int32}
theorem ty_in {k : Nat} (P : ty_Pl m K N I T) (Z : ty_Tr m K N I R A B) (F : ty_Pf pf) : i_Rel k (nI m, pf, pl, ac, cc, al, st, dp, K, N, I, T, rn, R, kp, pb, ap, sd, cp, wy, na) (pf, ya, yc, A, B, kp, tk, yp, ys, yq) :=
  ⟨m, pf, pl, ac, cc, al, st, dp, ya, yc, K, N, I, T, rn, R, kp, pb, ap, sd, cp, wy, na, A, B, tk, yp, ys, yq, rfl, rfl, P, Z, F⟩
end
theorem ty_Pl0 {K N I T : Nat → Int32} (hK : K 0 = 0) (hI : ∀ n, n < 4 → I n = 0) (hT : ∀ h, h < 2048 → T h = -1) : ty_Pl 1 K N I T :=
  ⟨⟨by omega, by omega, hK, hI, fun c h1 h2 => by omega, fun c h1 h2 => by omega, fun c d h1 h2 => by omega⟩, fun h hh => Or.inl (hT h hh), fun h g hh hg z => absurd (hT h hh) z, fun k k1 k2 => by omega⟩
theorem ty_Tr0 {m : Nat} {K N I R : Nat → Int32} (P : ty_Po m K N I) {c : Nat} (hc : c < m) (hK : K c = 2) (hI : ∀ n, n < 4 → ty_ch I c n = 0) (hR : ∀ t, t < 9 → R t = nI c) : ty_Tr m K N I R (fun _ => 0) (fun _ => 0) := by
  have hm := P.2.1
  intro t ht
  have e : ty_rt R t = c := by unfold ty_rt; rw [hR t ht]; exact nI_clamp (by omega)
  rw [e]
  have hd : ∀ d, ty_Hd I d c := by
    intro d
    induction d with
    | zero => exact hI
    | succ d ih => exact ty_HdS P d c ih
  refine ⟨hR t ht, hc, hK, hd 3, fun p hp => ?_⟩
  have e2 : ty_at I c p = 0 := by
    refine ty_cases (P := fun p => ty_at I c p = 0) ?_ ?_ ?_ p hp
    · intro a ha; rw [ty_at1 I c ha, hI a ha]
    · intro a b ha hb; rw [ty_at2 I c ha hb, hI a ha, ty_po_ch0 P hb]
    · intro a b d ha hb hd; rw [ty_at3 I c ha hb hd, hI a ha, ty_po_ch0 P hb, ty_po_ch0 P hd]
  rw [e2, P.2.2.1]
  exact ⟨rfl, fun w => absurd (show (0 : Int32) = 1 from w) (by decide)⟩
section
variable {m : Nat} {pf pl ac cc al st dp : Int32} {K N I T rn R kp pb ap sd cp wy na : Nat → Int32}
theorem ty_st40 {post : SX → Prop} {c : Int32} (h : ∀ R', (∀ t, t < 9 → R' t = c) → post (nI m, pf, pl, ac, cc, al, st, dp, K, N, I, T, rn, R', kp, pb, ap, sd, cp, wy, na)) :
    ∀ n i R, i ≤ 9 → 9 - i < n → (∀ t, t < i → R t = c) → wX_start_40 post c (nI m) pf pl ac cc al st dp n (nI i) K N I T rn R kp pb ap sd cp wy na := by
  intro n
  induction n with
  | zero => intro i R _ h; omega
  | succ n ih =>
    intro i R hi hn h1
    by_cases e : i = 9
    · subst e
      exact br_t (nI_le (a := 9) (by omega) (by decide)) (h R h1)
    · refine br_f (nI_ge (b := 9) (by omega) (by decide)) ⟨vp_in_nI (by omega) (by decide), ?_⟩
      rw [nI_clamp (show i < 2 ^ 31 by omega)]
      refine nm_e (nm_r (nI_1 i) (ih (i + 1) _ (by omega) (by omega) fun t ht => ?_))
      by_cases e2 : t = i
      · subst e2; rw [pk_us]
      · rw [pk_un e2]; exact h1 t (by omega)
theorem ty_st7 {post : SX → Prop} (hK : K 0 = 0) (hI : ∀ n, n < 4 → I n = 0)
    (h : ∀ m K N I T R, ty_Pl m K N I T → ty_Tr m K N I R (fun _ => 0) (fun _ => 0) → post (nI m, pf, pl, ac, cc, al, st, dp, K, N, I, T, rn, R, kp, pb, ap, sd, cp, wy, na)) :
    ∀ n i T, i ≤ 2048 → 2048 - i < n → (∀ t, t < i → T t = -1) → wX_start_7 post (nI 1) pf pl ac cc al st dp n (nI i) K N I T rn R kp pb ap sd cp wy na := by
  intro n
  induction n with
  | zero => intro i T _ h; omega
  | succ n ih =>
    intro i T hi hn h1
    by_cases e : i = 2048
    · subst e
      refine br_t (nI_le (a := 2048) (by omega) (by decide)) ?_
      refine ty_content (ty_Pl0 hK hI h1) (by omega) 2 0 (fun _ => 0) (fun n _ => by omega) (Or.inr ⟨rfl, rfl⟩) fun k m' K' N' I' T' P' C => ⟨10, ?_⟩
      refine ty_st40 (fun R' hR' => ?_) 10 0 _ (by omega) (by omega) (fun t ht => by omega)
      refine h m' K' N' I' T' R' P' (ty_Tr0 P'.1 C.2.2.1 C.2.2.2.2.1 (fun n hn => ?_) hR')
      show (I' (4 * k + n)).toNatClampNeg = 0
      rw [C.2.2.2.2.2.2 n hn]; exact ty_c0
    · refine br_f (nI_ge (b := 2048) (by omega) (by decide)) ⟨vp_in_nI (by omega) (by decide), ?_⟩
      rw [nI_clamp (show i < 2 ^ 31 by omega)]
      refine nm_e (nm_r (nI_1 i) (ih (i + 1) _ (by omega) (by omega) fun t ht => ?_))
      by_cases e2 : t = i
      · subst e2; rw [pk_us]
      · rw [pk_un e2]; exact h1 t (by omega)
end
theorem i_vc0 : wpX_init (fun u => wpY_init (fun v => i_Rel 0 u v)) := by
  unfold wpX_init
  refine ⟨2049, ?_⟩
  refine ty_st7 rfl (fun _ _ => rfl) (fun m K N I T R P Z => ?_) 2049 0 _ (by omega) (by omega) (fun t ht => by omega)
  exact ty_in (k := 0) P Z (Or.inl rfl)
theorem i_vc_kind {k : Nat} {u : SX} {v : SY} (I : i_Rel k u v) (hk : k + 4 ≤ 2048) (v1 : Int32) (v2 : Int32) : wpX_kind (fun r u' => wpY_kind (fun r' => r' = r ∧ i_Rel (k + 4) u' v) v v1 v2) u v1 v2 := by
  refine ty_el (Q := fun u v => wpX_kind (fun r u' => wpY_kind (fun r' => r' = r ∧ i_Rel (k + 4) u' v) v v1 v2) u v1 v2) ?_ I
  intro m pf pl ac cc al st dp ya yc K N I T rn R kp pb ap sd cp wy na A B tk yp ys yq P Z F
  have hm := P.1.2.1
  unfold wpX_kind wpY_kind
  rcases ty_side v1 with hs | ⟨s, hs, rfl⟩
  · exact ty_badSide1 hs (br_f (by decide) (ty_y_isSide0 hs (br_t rfl ⟨rfl, ty_in P Z F⟩)))
  · refine ty_badSide0 hs (br_t rfl ?_)
    rcases ty_path v2 with hp | ⟨p, hp, rfl⟩
    · exact ty_badPath1 hp (br_f (by decide) (ty_y_isSide1 hs (br_f (by decide) (ty_y_isPath0 hp (br_t rfl ⟨rfl, ty_in P Z F⟩)))))
    · refine ty_badPath0 hp (br_t rfl ?_)
      have z := Z s (by omega)
      have hl := ty_tr_lt P.1 Z (show s < 9 by omega) p
      refine ty_contentAt P.1 z.1 z.2.1 (by omega) hp fun dp' wy' na' => ⟨vp_in_nI (by omega) (by decide), ?_⟩
      rw [nI_clamp (show ty_at I (ty_rt R s) p < 2 ^ 31 by omega)]
      refine ty_y_isSide1 hs (br_f (by decide) (ty_y_isPath1 hp (br_f (by decide) ?_)))
      rw [← ty_nP_t hp]
      refine ty_y_kindAt (by omega) ⟨?_, ty_in P Z F⟩
      rw [ty_kA_t A s hp]; exact ty_tr_A Z (by omega) hp
theorem i_vc_number {k : Nat} {u : SX} {v : SY} (I : i_Rel k u v) (hk : k + 4 ≤ 2048) (v1 : Int32) (v2 : Int32) : wpX_number (fun r u' => wpY_number (fun r' => r' = r ∧ i_Rel (k + 4) u' v) v v1 v2) u v1 v2 := by
  refine ty_el (Q := fun u v => wpX_number (fun r u' => wpY_number (fun r' => r' = r ∧ i_Rel (k + 4) u' v) v v1 v2) u v1 v2) ?_ I
  intro m pf pl ac cc al st dp ya yc K N I T rn R kp pb ap sd cp wy na A B tk yp ys yq P Z F
  have hm := P.1.2.1
  unfold wpX_number wpY_number
  rcases ty_side v1 with hs | ⟨s, hs, rfl⟩
  · exact ty_badSide1 hs (br_f (by decide) (ty_y_isSide0 hs (br_t rfl ⟨rfl, ty_in P Z F⟩)))
  · refine ty_badSide0 hs (br_t rfl ?_)
    rcases ty_path v2 with hp | ⟨p, hp, rfl⟩
    · exact ty_badPath1 hp (br_f (by decide) (ty_y_isSide1 hs (br_f (by decide) (ty_y_isPath0 hp (br_t rfl ⟨rfl, ty_in P Z F⟩)))))
    · refine ty_badPath0 hp (br_t rfl ?_)
      have z := Z s (by omega)
      have hl := ty_tr_lt P.1 Z (show s < 9 by omega) p
      have hA := ty_tr_A Z (show s < 9 by omega) hp
      have i1 := ty_y_ix (show s < 10 by omega) hp
      refine ty_contentAt P.1 z.1 z.2.1 (by omega) hp fun dp' wy' na' => ⟨vp_in_nI (by omega) (by decide), ?_⟩
      rw [nI_clamp (show ty_at I (ty_rt R s) p < 2 ^ 31 by omega)]
      rw [ty_nP_t hp] at i1
      refine br_c (fun e => ⟨vp_in_nI (by omega) (by decide), ?_⟩) (fun e => ?_)
      · refine ty_y_isSide1 hs (br_f (by decide) (ty_y_isPath1 hp (br_f (by decide) ?_)))
        rw [i1.2, ← ty_nP_t hp]
        refine ty_y_kindAt (by omega) ?_
        rw [ty_kA_t A s hp, hA]
        refine br_t e ⟨?_, ?_, ty_in P Z F⟩
        · rw [ty_nP_t hp]; exact i1.1
        · exact ty_tr_B Z (by omega) hp e
      · refine ty_y_isSide1 hs (br_f (by decide) (ty_y_isPath1 hp (br_f (by decide) ?_)))
        rw [← ty_nP_t hp]
        refine ty_y_kindAt (by omega) ?_
        rw [ty_kA_t A s hp, hA]
        exact br_f e ⟨rfl, ty_in P Z F⟩
theorem i_vc_lastKind {k : Nat} {u : SX} {v : SY} (I : i_Rel k u v) (hk : k + 4 ≤ 2048) (v1 : Int32) : wpX_lastKind (fun r u' => wpY_lastKind (fun r' => r' = r ∧ i_Rel (k + 4) u' v) v v1) u v1 := by
  refine ty_el (Q := fun u v => wpX_lastKind (fun r u' => wpY_lastKind (fun r' => r' = r ∧ i_Rel (k + 4) u' v) v v1) u v1) ?_ I
  intro m pf pl ac cc al st dp ya yc K N I T rn R kp pb ap sd cp wy na A B tk yp ys yq P Z F
  have hm := P.1.2.1
  unfold wpX_lastKind wpY_lastKind
  rcases ty_path v1 with hp | ⟨p, hp, rfl⟩
  · exact ty_badPath1 hp (br_f (by decide) (ty_y_isPath0 hp (br_t rfl ⟨rfl, ty_in P Z F⟩)))
  · refine ty_badPath0 hp (br_t rfl ?_)
    have z := Z 2 (by omega)
    have hl := ty_tr_lt P.1 Z (show 2 < 9 by omega) p
    refine ty_contentAt (t := 2) P.1 z.1 z.2.1 (by omega) hp fun dp' wy' na' => ⟨vp_in_nI (by omega) (by decide), ?_⟩
    rw [nI_clamp (show ty_at I (ty_rt R 2) p < 2 ^ 31 by omega)]
    refine ty_y_isPath1 hp (br_f (by decide) ?_)
    rw [← ty_nP_t hp]
    refine ty_y_kindAt (t := 2) (by omega) ⟨?_, ty_in P Z F⟩
    rw [ty_kA_t A 2 hp]; exact ty_tr_A Z (by omega) hp
theorem i_vc_size {k : Nat} {u : SX} {v : SY} (I : i_Rel k u v) (hk : k + 4 ≤ 2048) (v1 : Int32) : wpX_size (fun r => wpY_size (fun r' => r' = r ∧ i_Rel (k + 4) u v) v v1) u v1 := by
  refine ty_el (Q := fun u v => wpX_size (fun r => wpY_size (fun r' => r' = r ∧ i_Rel (k + 4) u v) v v1) u v1) ?_ I
  intro m pf pl ac cc al st dp ya yc K N I T rn R kp pb ap sd cp wy na A B tk yp ys yq P Z F
  unfold wpX_size wpY_size
  rcases ty_side v1 with hs | ⟨s, hs, rfl⟩
  · exact ty_badSide1 hs (br_f (by decide) (ty_y_isSide0 hs (br_t rfl ⟨rfl, ty_in P Z F⟩)))
  · refine ty_badSide0 hs (br_t rfl ?_)
    have z := Z s (by omega)
    refine ty_weightOfTree P.1 z.1 z.2.1 (by omega) ?_
    refine ty_y_isSide1 hs (br_f (by decide) (ty_y_count (by omega) ⟨?_, ty_in P Z F⟩))
    rw [ty_tr_cnt84 P.1 Z (by omega)]
theorem i_vc_prefer {k : Nat} {u : SX} {v : SY} (I : i_Rel k u v) (hk : k + 4 ≤ 2048) (v1 : Int32) : wpX_prefer (fun r u' => wpY_prefer (fun r' v' => r' = r ∧ i_Rel (k + 4) u' v') v v1) u v1 := by
  refine ty_el (Q := fun u v => wpX_prefer (fun r u' => wpY_prefer (fun r' v' => r' = r ∧ i_Rel (k + 4) u' v') v v1) u v1) ?_ I
  intro m pf pl ac cc al st dp ya yc K N I T rn R kp pb ap sd cp wy na A B tk yp ys yq P Z F
  by_cases e : v1 = -1
  · subst e
    exact br_t rfl (br_f (by decide) (br_t (by decide) ⟨rfl, ty_in P Z (Or.inl rfl)⟩))
  · refine br_f e ?_
    rcases ty_cases_side v1 with hs | hs | hs
    · refine ty_badSide1 hs (br_f (by decide) ?_)
      by_cases h1 : v1 < -1
      · exact br_t h1 ⟨rfl, ty_in P Z F⟩
      · refine br_f h1 (br_f ?_ ⟨rfl, ty_in P Z F⟩)
        refine hs.resolve_left fun h0 => ?_
        have a1 : ¬ v1.toInt < (-1 : Int32).toInt := fun w => h1 (Int32.lt_iff_toInt_lt.mpr w)
        have a2 := Int32.lt_iff_toInt_lt.mp h0
        have b1 : (-1 : Int32).toInt = -1 := by decide
        have b2 : (0 : Int32).toInt = 0 := by decide
        rw [b1] at a1
        rw [b2] at a2
        have : v1.toInt = -1 := by omega
        exact e (Int32.toInt_inj.mp (this.trans b1.symm))
    · subst hs
      exact ty_badSide0 (s := 0) (by omega) (br_t rfl (br_f (by decide) (br_t (by decide) ⟨rfl, ty_in P Z (Or.inr (Or.inl rfl))⟩)))
    · subst hs
      exact ty_badSide0 (s := 1) (by omega) (br_t rfl (br_f (by decide) (br_t (by decide) ⟨rfl, ty_in P Z (Or.inr (Or.inr rfl))⟩)))
section
variable {pf ya yc : Int32} {A B kp tk yp ys yq : Nat → Int32}
theorem ty_y_same2 {post : Int32 → Prop} (h1 : (∀ p, p < 84 → ty_Lk A B 0 1 p) → post 1) (h0 : ¬ (∀ p, p < 84 → ty_Lk A B 0 1 p) → post 0) :
    ∀ n i, i ≤ 84 → 84 - i < n → (∀ p, p < i → ty_Lk A B 0 1 p) → wY_same_2 post pf ya yc A B kp tk yp ys yq n (nI i) := by
  intro n
  induction n with
  | zero => intro i _ h; omega
  | succ n ih =>
    intro i hi hn H
    by_cases e : i = 84
    · subst e
      exact br_t (nI_le (a := 84) (by omega) (by decide)) (h1 H)
    · refine br_f (nI_ge (b := 84) (by omega) (by decide)) (ty_y_isLike (t := 0) (u := 1) (by omega) (by omega) (show i < 84 by omega) (fun w => br_f (by decide) (nm_r (nI_1 i) (ih (i + 1) (by omega) (by omega) fun p hp => ?_))) (fun w => br_t rfl (h0 fun z => w (z i (by omega)))))
      by_cases e2 : p = i
      · subst e2; exact w
      · exact H p (by omega)
end
theorem i_vc_same {k : Nat} {u : SX} {v : SY} (I : i_Rel k u v) (hk : k + 4 ≤ 2048) : wpX_same (fun r => wpY_same (fun r' => r' = r ∧ i_Rel (k + 4) u v) v) u := by
  refine ty_el (Q := fun u v => wpX_same (fun r => wpY_same (fun r' => r' = r ∧ i_Rel (k + 4) u v) v) u) ?_ I
  intro m pf pl ac cc al st dp ya yc K N I T rn R kp pb ap sd cp wy na A B tk yp ys yq P Z F
  have hm := P.1.2.1
  have z0 := Z 0 (by omega)
  have z1 := Z 1 (by omega)
  have l0 := z0.2.1
  have l1 := z1.2.1
  have w := ty_tr_same P.1 Z (show 0 < 9 by omega) (show 1 < 9 by omega)
  have hR : R 0 = R 1 ↔ ty_rt R 0 = ty_rt R 1 := by
    rw [z0.1, z1.1]
    exact nI_eq (by omega) (by omega)
  refine br_c (fun e => ⟨85, ?_⟩) (fun e => ⟨85, ?_⟩)
  · exact ty_y_same2 (fun _ => ⟨rfl, ty_in P Z F⟩) (fun y => absurd (w.mpr (hR.mp e)) y) 85 0 (by omega) (by omega) (fun p hp => by omega)
  · exact ty_y_same2 (fun y => absurd (hR.mpr (w.mp y)) e) (fun _ => ⟨rfl, ty_in P Z F⟩) 85 0 (by omega) (by omega) (fun p hp => by omega)
end
section
/-! keep, restore, changed, twins -/
theorem ty_place (x : Int32) : (x < 0 ∨ ¬ x ≤ 2) ∨ ∃ j, j < 3 ∧ x = nI j := by
  by_cases h : x < 0
  · exact Or.inl (Or.inl h)
  · by_cases h2 : x ≤ 2
    · obtain ⟨j, hj, e⟩ := nI_of2 (M := 2) (n := 2) (by decide) h h2
      exact Or.inr ⟨j, by omega, e⟩
    · exact Or.inl (Or.inr h2)
theorem ty_3a (j : Nat) : (3 : Int32) + nI j = nI (3 + j) := nI_add 3 j
section
variable {m : Nat} {pf pl ac cc al st dp : Int32} {K N I T rn R kp pb ap sd cp wy na : Nat → Int32}
theorem ty_badPlace1 {post : Int32 → Prop} {x : Int32} (hx : x < 0 ∨ ¬ x ≤ 2) (h : post 1) : wpX_badPlace post (nI m, pf, pl, ac, cc, al, st, dp, K, N, I, T, rn, R, kp, pb, ap, sd, cp, wy, na) x := by
  by_cases z : x < 0
  · exact br_t z h
  · exact br_f z (br_f (hx.resolve_left z) h)
theorem ty_badPlace0 {post : Int32 → Prop} {j : Nat} (hj : j < 3) (h : post 0) : wpX_badPlace post (nI m, pf, pl, ac, cc, al, st, dp, K, N, I, T, rn, R, kp, pb, ap, sd, cp, wy, na) (nI j) :=
  br_f (nI_pos (by omega)) (br_t (nI_le (b := 2) (by omega) (by decide)) h)
end
theorem i_vc_keep {k : Nat} {u : SX} {v : SY} (I : i_Rel k u v) (hk : k + 4 ≤ 2048) (v1 : Int32) (v2 : Int32) : wpX_keep (fun r u' => wpY_keep (fun r' v' => r' = r ∧ i_Rel (k + 4) u' v') v v1 v2) u v1 v2 := by
  refine ty_el (Q := fun u v => wpX_keep (fun r u' => wpY_keep (fun r' v' => r' = r ∧ i_Rel (k + 4) u' v') v v1 v2) u v1 v2) ?_ I
  intro m pf pl ac cc al st dp ya yc K N I T rn R kp pb ap sd cp wy na A B tk yp ys yq P Z F
  unfold wpX_keep wpY_keep
  rcases ty_side v1 with hs | ⟨s, hs, rfl⟩
  · exact ty_badSide1 hs (br_f (by decide) (ty_y_isSide0 hs (br_t rfl ⟨rfl, ty_in P Z F⟩)))
  · refine ty_badSide0 hs (br_t rfl ?_)
    rcases ty_place v2 with hp | ⟨j, hj, rfl⟩
    · refine ty_badPlace1 hp (br_f (by decide) (ty_y_isSide1 hs (br_f (by decide) ?_)))
      by_cases z : v2 < 0
      · exact br_t z ⟨rfl, ty_in P Z F⟩
      · exact br_f z (br_f (hp.resolve_left z) ⟨rfl, ty_in P Z F⟩)
    · refine ty_badPlace0 hj (br_t rfl ?_)
      have Z' := ty_Tr_copy Z (show s ≠ 3 + j by omega) (by omega) (by omega)
      have z := Z' s (by omega)
      rw [ty_3a, nI_clamp (show s < 2 ^ 31 by omega), nI_clamp (show 3 + j < 2 ^ 31 by omega), nI_clamp (show j < 2 ^ 31 by omega)]
      refine ⟨vp_in_nI (by omega) (by decide), vp_in_nI (by omega) (by decide), nm_e ⟨vp_in_nI (by omega) (by decide), nm_e ?_⟩⟩
      refine ty_weightOfTree P.1 z.1 z.2.1 (by omega) ?_
      refine ty_y_isSide1 hs (br_f (by decide) (br_f (nI_pos (by omega)) (br_t (nI_le (b := 2) (by omega) (by decide)) ?_)))
      refine ty_y_copyTree (by omega) (by omega) ⟨vp_in_nI (by omega) (by decide), nm_e (ty_y_count (by omega) ⟨?_, ty_in P Z' F⟩)⟩
      rw [ty_tr_cnt84 P.1 Z' (by omega)]
theorem i_vc_restore {k : Nat} {u : SX} {v : SY} (I : i_Rel k u v) (hk : k + 4 ≤ 2048) (v1 : Int32) (v2 : Int32) : wpX_restore (fun r u' => wpY_restore (fun r' v' => r' = r ∧ i_Rel (k + 4) u' v') v v1 v2) u v1 v2 := by
  refine ty_el (Q := fun u v => wpX_restore (fun r u' => wpY_restore (fun r' v' => r' = r ∧ i_Rel (k + 4) u' v') v v1 v2) u v1 v2) ?_ I
  intro m pf pl ac cc al st dp ya yc K N I T rn R kp pb ap sd cp wy na A B tk yp ys yq P Z F
  unfold wpX_restore
  have hb : ∀ {post : Int32 → SY → Prop}, (v1 < 0 ∨ ¬ v1 ≤ 1) → post (-1000000001) (pf, ya, yc, A, B, kp, tk, yp, ys, yq) → wpY_restore post (pf, ya, yc, A, B, kp, tk, yp, ys, yq) v1 v2 := by
    intro post a b
    unfold wpY_restore
    exact ty_y_isSide0 a (br_t rfl b)
  rcases ty_side v1 with hs | ⟨s, hs, rfl⟩
  · exact ty_badSide1 hs (br_f (by decide) (hb hs ⟨rfl, ty_in P Z F⟩))
  · refine ty_badSide0 hs (br_t rfl ?_)
    rcases ty_place v2 with hp | ⟨j, hj, rfl⟩
    · refine ty_badPlace1 hp (br_f (by decide) ?_)
      show wpY_restore _ _ _ _
      unfold wpY_restore
      refine ty_y_isSide1 hs (br_f (by decide) ?_)
      by_cases z : v2 < 0
      · exact br_t z ⟨rfl, ty_in P Z F⟩
      · exact br_f z (br_f (hp.resolve_left z) ⟨rfl, ty_in P Z F⟩)
    · refine ty_badPlace0 hj (br_t rfl ?_)
      have Z' := ty_Tr_copy Z (show 3 + j ≠ s by omega) (by omega) (by omega)
      have z := Z' s (by omega)
      rw [ty_3a, nI_clamp (show s < 2 ^ 31 by omega), nI_clamp (show 3 + j < 2 ^ 31 by omega), nI_clamp (show j < 2 ^ 31 by omega)]
      have hy : ∀ {post : Int32 → SY → Prop}, (kp j = 0 → post (-1000000004) (pf, ya, yc, A, B, kp, tk, yp, ys, yq)) → (¬ kp j = 0 → post (nI (ty_cnt (fun p => ty_n0 (ty_cp A (3 + j) s 84 (84 * s + p))) 84)) (pf, ya, yc, ty_cp A (3 + j) s 84, ty_cp B (3 + j) s 84, kp, tk, yp, ys, yq)) → wpY_restore post (pf, ya, yc, A, B, kp, tk, yp, ys, yq) (nI s) (nI j) := by
        intro post a b
        unfold wpY_restore
        refine ty_y_isSide1 hs (br_f (by decide) (br_f (nI_pos (by omega)) (br_t (nI_le (b := 2) (by omega) (by decide)) ⟨vp_in_nI (by omega) (by decide), ?_⟩)))
        rw [ty_3a, nI_clamp (show j < 2 ^ 31 by omega)]
        exact br_c a (fun e => ty_y_copyTree (by omega) (by omega) (ty_y_count (by omega) (b e)))
      refine ⟨vp_in_nI (by omega) (by decide), br_c (fun e => ?_) (fun e => ⟨vp_in_nI (by omega) (by decide), vp_in_nI (by omega) (by decide), nm_e ?_⟩)⟩
      · exact hy (fun _ => ⟨rfl, ty_in P Z F⟩) (fun w => absurd e w)
      · refine ty_weightOfTree P.1 z.1 z.2.1 (by omega) ?_
        refine hy (fun w => absurd w e) (fun _ => ⟨?_, ty_in P Z' F⟩)
        rw [ty_tr_cnt84 P.1 Z' (by omega)]
/-- not both folders, and not the same -/
def ty_Df (K : Nat → Int32) (a b : Nat) : Prop := ¬ (a = b ∨ (K a = 2 ∧ K b = 2))
section
variable {m : Nat} {pf pl ac cc al st dp : Int32} {K N I T rn R kp pb ap sd cp wy na : Nat → Int32}
theorem ty_x_chg {post : Int32 → SX → Prop} {A B : Nat → Int32} {s : Nat} (P : ty_Po m K N I) (Z : ty_Tr m K N I R A B) (hs : s < 2)
    (h : ∀ dp wy na, post (nI (ty_cnt (fun p => ty_b01 (ty_Df K (ty_at I (ty_rt R s) p) (ty_at I (ty_rt R 2) p))) 84)) (nI m, pf, pl, ac, cc, al, st, dp, K, N, I, T, rn, R, kp, pb, ap, sd, cp, wy, na)) :
    ∀ n k dp wy na, k ≤ 84 → 84 - k < n → wX_changed_15 post (nI s) n (nI (ty_cnt (fun p => ty_b01 (ty_Df K (ty_at I (ty_rt R s) p) (ty_at I (ty_rt R 2) p))) k)) (nI k) (nI m) pf pl ac cc al st dp K N I T rn R kp pb ap sd cp wy na := by
  have hm := P.2.1
  intro n
  induction n with
  | zero => intro k dp wy na _ h; omega
  | succ n ih =>
    intro k dp wy na hk hn
    by_cases e : k = 84
    · subst e
      exact br_t (nI_le (a := 84) (by omega) (by decide)) (h _ _ _)
    · have z := Z s (by omega)
      have z2 := Z 2 (by omega)
      have l1 := ty_tr_lt P Z (show s < 9 by omega) k
      have l2 := ty_tr_lt P Z (show 2 < 9 by omega) k
      refine br_f (nI_ge (b := 84) (by omega) (by decide)) ?_
      refine ty_contentAt P z.1 z.2.1 (by omega) (by omega) fun dp' wy' na' => ?_
      refine ty_contentAt (t := 2) P z2.1 z2.2.1 (by omega) (by omega) fun dp' wy' na' => ?_
      have IH := ih (k + 1) dp' wy' na' (by omega) (by omega)
      have eS : ty_cnt (fun p => ty_b01 (ty_Df K (ty_at I (ty_rt R s) p) (ty_at I (ty_rt R 2) p))) (k + 1) = ty_cnt (fun p => ty_b01 (ty_Df K (ty_at I (ty_rt R s) p) (ty_at I (ty_rt R 2) p))) k + ty_b01 (ty_Df K (ty_at I (ty_rt R s) k) (ty_at I (ty_rt R 2) k)) := rfl
      rw [eS] at IH
      rw [nI_clamp (show ty_at I (ty_rt R s) k < 2 ^ 31 by omega), nI_clamp (show ty_at I (ty_rt R 2) k < 2 ^ 31 by omega)]
      refine pk_eq _ _ (fun e1 => ?_) (fun e1 => ⟨vp_in_nI (by omega) (by decide), br_c (fun e2 => ⟨vp_in_nI (by omega) (by decide), br_c (fun e3 => ?_) (fun e3 => ?_)⟩) (fun e2 => ?_)⟩)
      · rw [ty_b01_f (fun w => w (Or.inl e1)), Nat.add_zero] at IH
        exact br_t rfl (nm_r (nI_1 k) IH)
      · rw [ty_b01_f (fun w => w (Or.inr ⟨e2, e3⟩)), Nat.add_zero] at IH
        exact br_t rfl (nm_r (nI_1 k) IH)
      · rw [ty_b01_t (show ty_Df K (ty_at I (ty_rt R s) k) (ty_at I (ty_rt R 2) k) from fun w => w.elim e1 (fun y => e3 y.2))] at IH
        exact br_f (by decide) (nm_r (nI_1 _) (nm_r (nI_1 k) IH))
      · rw [ty_b01_t (show ty_Df K (ty_at I (ty_rt R s) k) (ty_at I (ty_rt R 2) k) from fun w => w.elim e1 (fun y => e2 y.1))] at IH
        exact br_f (by decide) (nm_r (nI_1 _) (nm_r (nI_1 k) IH))
theorem ty_x_twn {post : Int32 → SX → Prop} {A B : Nat → Int32} {s p c : Nat} (P : ty_Po m K N I) (Z : ty_Tr m K N I R A B) (hs : s < 2) (hp : p < 84) (hc : c < m) (hc0 : c ≠ 0)
    (h : ∀ dp wy na, post (nI (ty_cnt (fun q => ty_b01 (q ≠ p ∧ ty_at I (ty_rt R s) q = c)) 84)) (nI m, pf, pl, ac, cc, al, st, dp, K, N, I, T, rn, R, kp, pb, ap, sd, cp, wy, na)) :
    ∀ n k dp wy na, k ≤ 84 → 84 - k < n → wX_twins_32 post (nI s) (nI p) (nI c) n (nI (ty_cnt (fun q => ty_b01 (q ≠ p ∧ ty_at I (ty_rt R s) q = c)) k)) (nI k) (nI m) pf pl ac cc al st dp K N I T rn R kp pb ap sd cp wy na := by
  have hm := P.2.1
  intro n
  induction n with
  | zero => intro k dp wy na _ h; omega
  | succ n ih =>
    intro k dp wy na hk hn
    by_cases e : k = 84
    · subst e
      exact br_t (nI_le (a := 84) (by omega) (by decide)) (h _ _ _)
    · have z := Z s (by omega)
      have l1 := ty_tr_lt P Z (show s < 9 by omega) k
      refine br_f (nI_ge (b := 84) (by omega) (by decide)) (br_f (nI_ne0 (by omega) (by omega)) ?_)
      refine ty_contentAt P z.1 z.2.1 (by omega) (by omega) fun dp' wy' na' => ?_
      have IH := ih (k + 1) dp' wy' na' (by omega) (by omega)
      have eS : ty_cnt (fun q => ty_b01 (q ≠ p ∧ ty_at I (ty_rt R s) q = c)) (k + 1) = ty_cnt (fun q => ty_b01 (q ≠ p ∧ ty_at I (ty_rt R s) q = c)) k + ty_b01 (k ≠ p ∧ ty_at I (ty_rt R s) k = c) := rfl
      rw [eS] at IH
      refine pk_eq k p (fun e1 => ?_) (fun e1 => pk_eq _ c (fun e2 => ?_) (fun e2 => ?_))
      · rw [ty_b01_f (fun w => w.1 e1), Nat.add_zero] at IH
        exact nm_r (nI_1 k) IH
      · rw [ty_b01_t ⟨e1, e2⟩] at IH
        exact nm_r (nI_1 _) (nm_r (nI_1 k) IH)
      · rw [ty_b01_f (fun w => e2 w.2), Nat.add_zero] at IH
        exact nm_r (nI_1 k) IH
end
section
variable {pf ya yc : Int32} {A B kp tk yp ys yq : Nat → Int32}
theorem ty_y_chg {post : Int32 → Prop} {s : Nat} (hs : s < 10) (h : post (nI (ty_cnt (fun p => ty_b01 (¬ ty_Lk A B s 2 p)) 84))) :
    ∀ n k, k ≤ 84 → 84 - k < n → wY_changed_15 post (nI s) pf ya yc A B kp tk yp ys yq n (nI (ty_cnt (fun p => ty_b01 (¬ ty_Lk A B s 2 p)) k)) (nI k) := by
  intro n
  induction n with
  | zero => intro k _ h; omega
  | succ n ih =>
    intro k hk hn
    by_cases e : k = 84
    · subst e
      exact br_t (nI_le (a := 84) (by omega) (by decide)) h
    · have IH := ih (k + 1) (by omega) (by omega)
      have eS : ty_cnt (fun p => ty_b01 (¬ ty_Lk A B s 2 p)) (k + 1) = ty_cnt (fun p => ty_b01 (¬ ty_Lk A B s 2 p)) k + ty_b01 (¬ ty_Lk A B s 2 k) := rfl
      rw [eS] at IH
      refine br_f (nI_ge (b := 84) (by omega) (by decide)) (ty_y_isLike (u := 2) hs (by omega) (by omega) (fun w => br_f (by decide) ?_) (fun w => br_t rfl ?_))
      · rw [ty_b01_f (fun y => y w), Nat.add_zero] at IH
        exact nm_r (nI_1 k) IH
      · rw [ty_b01_t w] at IH
        exact nm_r (nI_1 _) (nm_r (nI_1 k) IH)
theorem ty_y_twn {post : Int32 → Prop} {s p : Nat} (hs : s < 10) (hp : p < 84) (h : post (nI (ty_cnt (fun q => ty_b01 (q ≠ p ∧ A (84 * s + p) ≠ 0 ∧ ty_Sm A B s p s q)) 84))) :
    ∀ n k, k ≤ 84 → 84 - k < n → wY_twins_24 post (nI s) (nI p) pf ya yc A B kp tk yp ys yq n (nI (ty_cnt (fun q => ty_b01 (q ≠ p ∧ A (84 * s + p) ≠ 0 ∧ ty_Sm A B s p s q)) k)) (nI k) := by
  intro n
  induction n with
  | zero => intro k _ h; omega
  | succ n ih =>
    intro k hk hn
    by_cases e : k = 84
    · subst e
      exact br_t (nI_le (a := 84) (by omega) (by decide)) h
    · have IH := ih (k + 1) (by omega) (by omega)
      have eS : ty_cnt (fun q => ty_b01 (q ≠ p ∧ A (84 * s + p) ≠ 0 ∧ ty_Sm A B s p s q)) (k + 1) = ty_cnt (fun q => ty_b01 (q ≠ p ∧ A (84 * s + p) ≠ 0 ∧ ty_Sm A B s p s q)) k + ty_b01 (k ≠ p ∧ A (84 * s + p) ≠ 0 ∧ ty_Sm A B s p s k) := rfl
      rw [eS] at IH
      refine br_f (nI_ge (b := 84) (by omega) (by decide)) (pk_eq k p (fun e1 => ?_) (fun e1 => ?_))
      · rw [ty_b01_f (fun w => w.1 e1), Nat.add_zero] at IH
        exact nm_r (nI_1 k) IH
      · have g : ∀ {post : Int32 → Prop}, post (A (84 * s + p)) → wpY_kindAt post (pf, ya, yc, A, B, kp, tk, yp, ys, yq) (nI s) (nI p) := by
          intro post y
          rw [← ty_nP_t hp]
          refine ty_y_kindAt hs ?_
          rw [ty_kA_t A s hp]; exact y
        refine g (br_c (fun e2 => ?_) (fun e2 => ty_y_same hs hs hp (by omega) (fun w => br_f (by decide) ?_) (fun w => br_t rfl ?_)))
        · rw [ty_b01_f (fun w => w.2.1 e2), Nat.add_zero] at IH
          exact nm_r (nI_1 k) IH
        · rw [ty_b01_t ⟨e1, e2, w⟩] at IH
          exact nm_r (nI_1 _) (nm_r (nI_1 k) IH)
        · rw [ty_b01_f (fun y => w y.2.2), Nat.add_zero] at IH
          exact nm_r (nI_1 k) IH
end
theorem i_vc_changed {k : Nat} {u : SX} {v : SY} (I : i_Rel k u v) (hk : k + 4 ≤ 2048) (v1 : Int32) : wpX_changed (fun r u' => wpY_changed (fun r' => r' = r ∧ i_Rel (k + 4) u' v) v v1) u v1 := by
  refine ty_el (Q := fun u v => wpX_changed (fun r u' => wpY_changed (fun r' => r' = r ∧ i_Rel (k + 4) u' v) v v1) u v1) ?_ I
  intro m pf pl ac cc al st dp ya yc K N I T rn R kp pb ap sd cp wy na A B tk yp ys yq P Z F
  unfold wpX_changed wpY_changed
  rcases ty_side v1 with hs | ⟨s, hs, rfl⟩
  · exact ty_badSide1 hs (br_f (by decide) (ty_y_isSide0 hs (br_t rfl ⟨rfl, ty_in P Z F⟩)))
  · refine ty_badSide0 hs (br_t rfl ⟨85, ?_⟩)
    refine ty_x_chg P.1 Z hs (fun dp wy na => ?_) 85 0 dp wy na (by omega) (by omega)
    refine ty_y_isSide1 hs (br_f (by decide) ⟨85, ?_⟩)
    refine ty_y_chg (by omega) ⟨?_, ty_in P Z F⟩ 85 0 (by omega) (by omega)
    refine congrArg nI (ty_cnt_cg 84 fun p hp => ?_)
    exact ty_b01_cg (not_congr (ty_tr_Lk P.1 Z (by omega) (by omega) hp))
theorem i_vc_twins {k : Nat} {u : SX} {v : SY} (I : i_Rel k u v) (hk : k + 4 ≤ 2048) (v1 : Int32) (v2 : Int32) : wpX_twins (fun r u' => wpY_twins (fun r' => r' = r ∧ i_Rel (k + 4) u' v) v v1 v2) u v1 v2 := by
  refine ty_el (Q := fun u v => wpX_twins (fun r u' => wpY_twins (fun r' => r' = r ∧ i_Rel (k + 4) u' v) v v1 v2) u v1 v2) ?_ I
  intro m pf pl ac cc al st dp ya yc K N I T rn R kp pb ap sd cp wy na A B tk yp ys yq P Z F
  have hm := P.1.2.1
  unfold wpX_twins wpY_twins
  rcases ty_side v1 with hs | ⟨s, hs, rfl⟩
  · exact ty_badSide1 hs (br_f (by decide) (ty_y_isSide0 hs (br_t rfl ⟨rfl, ty_in P Z F⟩)))
  · refine ty_badSide0 hs (br_t rfl ?_)
    rcases ty_path v2 with hp | ⟨p, hp, rfl⟩
    · exact ty_badPath1 hp (br_f (by decide) (ty_y_isSide1 hs (br_f (by decide) (ty_y_isPath0 hp (br_t rfl ⟨rfl, ty_in P Z F⟩)))))
    · refine ty_badPath0 hp (br_t rfl ?_)
      have z := Z s (by omega)
      have hl := ty_tr_lt P.1 Z (show s < 9 by omega) p
      have hA := ty_tr_A Z (show s < 9 by omega) hp
      have hK := ty_K0 P.1 hl
      refine ty_contentAt P.1 z.1 z.2.1 (by omega) hp fun dp' wy' na' => ⟨85, ?_⟩
      by_cases c0 : ty_at I (ty_rt R s) p = 0
      · rw [c0]
        refine br_f (by decide) (br_t rfl ?_)
        refine ty_y_isSide1 hs (br_f (by decide) (ty_y_isPath1 hp (br_f (by decide) ⟨85, ?_⟩)))
        refine ty_y_twn (by omega) hp ⟨?_, ty_in P Z F⟩ 85 0 (by omega) (by omega)
        have e : ty_cnt (fun q => ty_b01 (q ≠ p ∧ A (84 * s + p) ≠ 0 ∧ ty_Sm A B s p s q)) 84 = ty_cnt (fun _ => 0) 84 :=
          ty_cnt_cg 84 fun q hq => ty_b01_f fun w => w.2.1 (hA.trans (hK.mpr c0))
        rw [e]; rfl
      · refine ty_x_twn P.1 Z hs hp hl c0 (fun dp wy na => ?_) 85 0 dp' wy' na' (by omega) (by omega)
        refine ty_y_isSide1 hs (br_f (by decide) (ty_y_isPath1 hp (br_f (by decide) ⟨85, ?_⟩)))
        refine ty_y_twn (by omega) hp ⟨?_, ty_in P Z F⟩ 85 0 (by omega) (by omega)
        refine congrArg nI (ty_cnt_cg 84 fun q hq => ty_b01_cg ?_)
        have w := ty_tr_Sm P.1 Z (show s < 9 by omega) (show s < 9 by omega) hp hq
        exact ⟨fun y => ⟨y.1, (w.mp y.2.2).symm⟩, fun y => ⟨y.1, fun x => c0 (hK.mp (hA.symm.trans x)), w.mpr y.2.symm⟩⟩
end
section
/-! changes: write, folder, remove, move, copy -/
theorem ty_at_par (I : Nat → Int32) (r : Nat) : ∀ p, p < 84 → ¬ p < 4 → ty_at I r p = ty_ch I (ty_at I r (ty_par p)) (p % 4) := by
  refine ty_cases ?_ ?_ ?_
  · intro a ha h; exact absurd ha h
  · intro a b ha hb _
    have e : ty_par (4 + 4 * a + b) = a := by unfold ty_par; rw [if_pos (by omega)]; omega
    have e2 : (4 + 4 * a + b) % 4 = b := by omega
    rw [e, e2, ty_at2 I r ha hb, ty_at1 I r ha]
  · intro a b c ha hb hc _
    have e : ty_par (20 + 16 * a + 4 * b + c) = 4 + 4 * a + b := by unfold ty_par; rw [if_neg (by omega)]; omega
    have e2 : (20 + 16 * a + 4 * b + c) % 4 = c := by omega
    rw [e, e2, ty_at3 I r ha hb hc, ty_at2 I r ha hb]
theorem ty_Hp_nz {m : Nat} {K N I : Nat → Int32} (P : ty_Po m K N I) {r p : Nat} (hr : r < m) (hp : p < 84) (h : ty_at I r p ≠ 0) : ty_Hp K I r p := by
  by_cases h4 : p < 4
  · exact Or.inl h4
  · refine Or.inr (Classical.byContradiction fun z => h ?_)
    rw [ty_at_par I r p hp h4]
    exact ty_nof P (ty_at_lt P hr _) (by omega) z
theorem ty_Ht_ex (C1 C2 : Prop) : ∃ h, ty_Ht C1 C2 h := by
  rcases Classical.em C2 with z | z
  · exact ⟨2, Or.inl ⟨z, rfl⟩⟩
  · rcases Classical.em C1 with w | w
    · exact ⟨1, Or.inr (Or.inl ⟨z, w, rfl⟩)⟩
    · exact ⟨0, Or.inr (Or.inr ⟨z, w, rfl⟩)⟩
section
variable {pf ya yc : Int32} {A B kp tk yp ys yq : Nat → Int32}
theorem ty_y_kA {post : Int32 → Prop} {s p : Nat} (hs : s < 10) (hp : p < 84) (h : post (A (84 * s + p))) : wpY_kindAt post (pf, ya, yc, A, B, kp, tk, yp, ys, yq) (nI s) (nI p) := by
  rw [← ty_nP_t hp]
  refine ty_y_kindAt hs ?_
  rw [ty_kA_t A s hp]; exact h
theorem ty_y_jx {t p : Nat} (ht : t < 10) (hp : p < 84) : vp_in (84 * nI t + nI p) 840 ∧ (84 * nI t + nI p).toNatClampNeg = 84 * t + p := by
  have i1 := ty_y_ix ht hp
  rw [ty_nP_t hp] at i1
  exact i1
theorem ty_y_write_b1 {post : Int32 → SY → Prop} {v1 v2 v3 : Int32} (hs : v1 < 0 ∨ ¬ v1 ≤ 1) (h : post (-1000000001) (pf, ya, yc, A, B, kp, tk, yp, ys, yq)) : wpY_write post (pf, ya, yc, A, B, kp, tk, yp, ys, yq) v1 v2 v3 := by
  unfold wpY_write; exact ty_y_isSide0 hs (br_t rfl h)
theorem ty_y_write_b2 {post : Int32 → SY → Prop} {s : Nat} {v2 v3 : Int32} (hs : s < 2) (hp : v2 < 0 ∨ ¬ v2 < 84) (h : post (-1000000001) (pf, ya, yc, A, B, kp, tk, yp, ys, yq)) : wpY_write post (pf, ya, yc, A, B, kp, tk, yp, ys, yq) (nI s) v2 v3 := by
  unfold wpY_write; exact ty_y_isSide1 hs (br_f (by decide) (ty_y_isPath0 hp (br_t rfl h)))
theorem ty_y_write {post : Int32 → SY → Prop} {s p : Nat} {x : Int32} (hs : s < 2) (hp : p < 84) (h0 : ¬ ty_Hq A s p → post (-1000000002) (pf, ya, yc, A, B, kp, tk, yp, ys, yq)) (h2 : ty_Hq A s p → A (84 * s + p) = 2 → post (-1000000003) (pf, ya, yc, A, B, kp, tk, yp, ys, yq))
    (h1 : ty_Hq A s p → ¬ A (84 * s + p) = 2 → post (A (84 * s + p)) (pf, ya, yc, upd A (84 * s + p) 1, upd B (84 * s + p) x, kp, tk, yp, ys, yq)) : wpY_write post (pf, ya, yc, A, B, kp, tk, yp, ys, yq) (nI s) (nI p) x := by
  have i1 := ty_y_jx (show s < 10 by omega) hp
  unfold wpY_write
  refine ty_y_isSide1 hs (br_f (by decide) (ty_y_isPath1 hp (br_f (by decide) (ty_y_hasParent (by omega) hp (fun w => br_f (by decide) (ty_y_kA (by omega) hp (br_c (h2 w) (fun e => ⟨i1.1, ?_⟩)))) (fun w => br_t rfl (h0 w))))))
  rw [i1.2]
  exact nm_e ⟨i1.1, nm_e (h1 w e)⟩
theorem ty_y_folder_b1 {post : Int32 → SY → Prop} {v1 v2 : Int32} (hs : v1 < 0 ∨ ¬ v1 ≤ 1) (h : post (-1000000001) (pf, ya, yc, A, B, kp, tk, yp, ys, yq)) : wpY_folder post (pf, ya, yc, A, B, kp, tk, yp, ys, yq) v1 v2 := by
  unfold wpY_folder; exact ty_y_isSide0 hs (br_t rfl h)
theorem ty_y_folder_b2 {post : Int32 → SY → Prop} {s : Nat} {v2 : Int32} (hs : s < 2) (hp : v2 < 0 ∨ ¬ v2 < 84) (h : post (-1000000001) (pf, ya, yc, A, B, kp, tk, yp, ys, yq)) : wpY_folder post (pf, ya, yc, A, B, kp, tk, yp, ys, yq) (nI s) v2 := by
  unfold wpY_folder; exact ty_y_isSide1 hs (br_f (by decide) (ty_y_isPath0 hp (br_t rfl h)))
theorem ty_y_folder {post : Int32 → SY → Prop} {s p : Nat} (hs : s < 2) (hp : p < 84) (h0 : ¬ ty_Hq A s p → post (-1000000002) (pf, ya, yc, A, B, kp, tk, yp, ys, yq)) (h2 : ty_Hq A s p → ¬ A (84 * s + p) = 0 → post (-1000000003) (pf, ya, yc, A, B, kp, tk, yp, ys, yq))
    (h1 : ty_Hq A s p → A (84 * s + p) = 0 → post 0 (pf, ya, yc, upd A (84 * s + p) 2, B, kp, tk, yp, ys, yq)) : wpY_folder post (pf, ya, yc, A, B, kp, tk, yp, ys, yq) (nI s) (nI p) := by
  have i1 := ty_y_jx (show s < 10 by omega) hp
  unfold wpY_folder
  refine ty_y_isSide1 hs (br_f (by decide) (ty_y_isPath1 hp (br_f (by decide) (ty_y_hasParent (by omega) hp (fun w => br_f (by decide) (ty_y_kA (by omega) hp (br_c (fun e => ⟨i1.1, ?_⟩) (h2 w)))) (fun w => br_t rfl (h0 w))))))
  rw [i1.2]
  exact nm_e (h1 w e)
theorem ty_y_remove_b1 {post : Int32 → SY → Prop} {v1 v2 : Int32} (hs : v1 < 0 ∨ ¬ v1 ≤ 1) (h : post (-1000000001) (pf, ya, yc, A, B, kp, tk, yp, ys, yq)) : wpY_remove post (pf, ya, yc, A, B, kp, tk, yp, ys, yq) v1 v2 := by
  unfold wpY_remove; exact ty_y_isSide0 hs (br_t rfl h)
theorem ty_y_remove_b2 {post : Int32 → SY → Prop} {s : Nat} {v2 : Int32} (hs : s < 2) (hp : v2 < 0 ∨ ¬ v2 < 84) (h : post (-1000000001) (pf, ya, yc, A, B, kp, tk, yp, ys, yq)) : wpY_remove post (pf, ya, yc, A, B, kp, tk, yp, ys, yq) (nI s) v2 := by
  unfold wpY_remove; exact ty_y_isSide1 hs (br_f (by decide) (ty_y_isPath0 hp (br_t rfl h)))
theorem ty_y_remove {post : Int32 → SY → Prop} {s p : Nat} (hs : s < 2) (hp : p < 84) (h0 : A (84 * s + p) = 0 → post (-1000000004) (pf, ya, yc, A, B, kp, tk, yp, ys, yq))
    (h1 : ¬ A (84 * s + p) = 0 → post (nI (ty_cnt (fun k => ty_n0 (ty_kA A s (ty_pt p k))) 21)) (pf, ya, yc, ty_eA A s p 21, B, kp, tk, yp, ys, yq)) : wpY_remove post (pf, ya, yc, A, B, kp, tk, yp, ys, yq) (nI s) (nI p) := by
  unfold wpY_remove
  exact ty_y_isSide1 hs (br_f (by decide) (ty_y_isPath1 hp (br_f (by decide) (ty_y_countIn (by omega) hp (ty_y_kA (by omega) hp (br_c h0 (fun e => ty_y_empty (by omega) hp (h1 e))))))))
end
theorem i_vc_write {k : Nat} {u : SX} {v : SY} (I : i_Rel k u v) (hk : k + 4 ≤ 2048) (v1 : Int32) (v2 : Int32) (v3 : Int32) : wpX_write (fun r u' => wpY_write (fun r' v' => r' = r ∧ i_Rel (k + 4) u' v') v v1 v2 v3) u v1 v2 v3 := by
  refine ty_el (Q := fun u v => wpX_write (fun r u' => wpY_write (fun r' v' => r' = r ∧ i_Rel (k + 4) u' v') v v1 v2 v3) u v1 v2 v3) ?_ I
  intro m pf pl ac cc al st dp ya yc K N I T rn R kp pb ap sd cp wy na A B tk yp ys yq P Z F
  have hm := P.1.2.1
  unfold wpX_write
  rcases ty_side v1 with hs | ⟨s, hs, rfl⟩
  · exact ty_badSide1 hs (br_f (by decide) (ty_y_write_b1 hs ⟨rfl, ty_in P Z F⟩))
  · refine ty_badSide0 hs (br_t rfl ?_)
    rcases ty_path v2 with hp | ⟨p, hp, rfl⟩
    · exact ty_badPath1 hp (br_f (by decide) (ty_y_write_b2 hs hp ⟨rfl, ty_in P Z F⟩))
    · refine ty_badPath0 hp (br_t rfl ?_)
      have z := Z s (by omega)
      have hl := ty_tr_lt P.1 Z (show s < 9 by omega) p
      have hA := ty_tr_A Z (show s < 9 by omega) hp
      have hH := ty_tr_Hp Z (show s < 9 by omega) hp
      refine ty_hasParent P.1 z.1 z.2.1 (by omega) hp (fun w dp wy na => br_f (by decide) ?_) (fun w dp wy na => br_t rfl (ty_y_write hs hp (fun _ => ⟨rfl, ty_in P Z F⟩) (fun y => absurd (hH.mp y) w) (fun y => absurd (hH.mp y) w)))
      refine ty_contentAt P.1 z.1 z.2.1 (by omega) hp fun dp wy na => ⟨vp_in_nI (by omega) (by decide), ?_⟩
      rw [nI_clamp (show ty_at I (ty_rt R s) p < 2 ^ 31 by omega)]
      refine nm_r hA.symm (br_c (fun e => ty_y_write hs hp (fun y => absurd (hH.mpr w) y) (fun _ _ => ⟨rfl, ty_in P Z F⟩) (fun _ y => absurd e y)) (fun e => ?_))
      have w := hH.mpr w
      refine ty_makeRoom (k := 8) (by omega) P Z fun m K N I T rn R P hm8 Z => ?_
      have hm1 := P.1.1
      refine ty_content P (by omega) 1 v3 (fun _ => 0) (fun n _ => by omega) (Or.inl ⟨rfl, fun _ _ => rfl⟩) fun c m2 K2 N2 I2 T2 P2 C => ?_
      have hm2 : m2 ≤ m + 1 := by rcases C.2.2.2.1 with z | z <;> omega
      have Z2 := ty_Tr_ex P.1 C.1 Z
      have z2 := Z2 s (by omega)
      refine ty_setContent P2 (by omega) z2.1 z2.2.1 (by omega) hp C.2.2.1 fun m3 K3 N3 I3 T3 sq dp wy na P3 E3 hm3 hS => ?_
      refine ty_y_write hs hp (fun y => absurd w y) (fun _ y => absurd y e) (fun _ _ => ⟨rfl, ty_in P3 ?_ F⟩)
      refine ty_Tr_leaf P2.1 P3.1 E3 Z2 (by omega) hp (fun n hn => ?_) ((ty_tr_Hp Z2 (by omega) hp).mp w) hS ?_ ⟨?_, fun _ => ?_⟩ (fun i hi => ⟨pk_un hi, pk_un hi⟩)
      · rw [ty_ex_ch E3 C.2.2.1 hn]
        show (I2 (4 * c + n)).toNatClampNeg = 0
        rw [C.2.2.2.2.2.2 n hn]; exact ty_c0
      · rw [← ty_tr_A Z2 (by omega) hp]; exact e
      · rw [pk_us, ty_ex_K E3 C.2.2.1, C.2.2.2.2.1]
      · rw [pk_us, ty_ex_N E3 C.2.2.1, C.2.2.2.2.2.1]
theorem i_vc_folder {k : Nat} {u : SX} {v : SY} (I : i_Rel k u v) (hk : k + 4 ≤ 2048) (v1 : Int32) (v2 : Int32) : wpX_folder (fun r u' => wpY_folder (fun r' v' => r' = r ∧ i_Rel (k + 4) u' v') v v1 v2) u v1 v2 := by
  refine ty_el (Q := fun u v => wpX_folder (fun r u' => wpY_folder (fun r' v' => r' = r ∧ i_Rel (k + 4) u' v') v v1 v2) u v1 v2) ?_ I
  intro m pf pl ac cc al st dp ya yc K N I T rn R kp pb ap sd cp wy na A B tk yp ys yq P Z F
  have hm := P.1.2.1
  unfold wpX_folder
  rcases ty_side v1 with hs | ⟨s, hs, rfl⟩
  · exact ty_badSide1 hs (br_f (by decide) (ty_y_folder_b1 hs ⟨rfl, ty_in P Z F⟩))
  · refine ty_badSide0 hs (br_t rfl ?_)
    rcases ty_path v2 with hp | ⟨p, hp, rfl⟩
    · exact ty_badPath1 hp (br_f (by decide) (ty_y_folder_b2 hs hp ⟨rfl, ty_in P Z F⟩))
    · refine ty_badPath0 hp (br_t rfl ?_)
      have z := Z s (by omega)
      have hl := ty_tr_lt P.1 Z (show s < 9 by omega) p
      have hA := ty_tr_A Z (show s < 9 by omega) hp
      have hH := ty_tr_Hp Z (show s < 9 by omega) hp
      have hK := ty_K0 P.1 hl
      refine ty_hasParent P.1 z.1 z.2.1 (by omega) hp (fun w dp wy na => br_f (by decide) ?_) (fun w dp wy na => br_t rfl (ty_y_folder hs hp (fun _ => ⟨rfl, ty_in P Z F⟩) (fun y => absurd (hH.mp y) w) (fun y => absurd (hH.mp y) w)))
      refine ty_contentAt P.1 z.1 z.2.1 (by omega) hp fun dp wy na => pk_eq _ 0 (fun e => ?_) (fun e => ?_)
      · have w := hH.mpr w
        have e : A (84 * s + p) = 0 := hA.trans (hK.mpr e)
        refine ty_makeRoom (k := 8) (by omega) P Z fun m K N I T rn R P hm8 Z => ?_
        have hm1 := P.1.1
        refine ty_content P (by omega) 2 0 (fun _ => 0) (fun n _ => by omega) (Or.inr ⟨rfl, rfl⟩) fun c m2 K2 N2 I2 T2 P2 C => ?_
        have hm2 : m2 ≤ m + 1 := by rcases C.2.2.2.1 with z | z <;> omega
        have Z2 := ty_Tr_ex P.1 C.1 Z
        have z2 := Z2 s (by omega)
        refine ty_setContent P2 (by omega) z2.1 z2.2.1 (by omega) hp C.2.2.1 fun m3 K3 N3 I3 T3 sq dp wy na P3 E3 hm3 hS => ?_
        refine ty_y_folder hs hp (fun y => absurd w y) (fun _ y => absurd e y) (fun _ _ => ⟨rfl, ty_in P3 ?_ F⟩)
        refine ty_Tr_leaf P2.1 P3.1 E3 Z2 (by omega) hp (fun n hn => ?_) ((ty_tr_Hp Z2 (by omega) hp).mp w) hS ?_ ⟨?_, fun y => ?_⟩ (fun i hi => ⟨pk_un hi, rfl⟩)
        · rw [ty_ex_ch E3 C.2.2.1 hn]
          show (I2 (4 * c + n)).toNatClampNeg = 0
          rw [C.2.2.2.2.2.2 n hn]; exact ty_c0
        · rw [← ty_tr_A Z2 (by omega) hp, e]; decide
        · rw [pk_us, ty_ex_K E3 C.2.2.1, C.2.2.2.2.1]
        · rw [pk_us] at y; exact absurd y (by decide)
      · exact ty_y_folder hs hp (fun y => absurd (hH.mpr w) y) (fun _ _ => ⟨rfl, ty_in P Z F⟩) (fun _ y => absurd (hK.mp (hA.symm.trans y)) e)
theorem i_vc_remove {k : Nat} {u : SX} {v : SY} (I : i_Rel k u v) (hk : k + 4 ≤ 2048) (v1 : Int32) (v2 : Int32) : wpX_remove (fun r u' => wpY_remove (fun r' v' => r' = r ∧ i_Rel (k + 4) u' v') v v1 v2) u v1 v2 := by
  refine ty_el (Q := fun u v => wpX_remove (fun r u' => wpY_remove (fun r' v' => r' = r ∧ i_Rel (k + 4) u' v') v v1 v2) u v1 v2) ?_ I
  intro m pf pl ac cc al st dp ya yc K N I T rn R kp pb ap sd cp wy na A B tk yp ys yq P Z F
  have hm := P.1.2.1
  unfold wpX_remove
  rcases ty_side v1 with hs | ⟨s, hs, rfl⟩
  · exact ty_badSide1 hs (br_f (by decide) (ty_y_remove_b1 hs ⟨rfl, ty_in P Z F⟩))
  · refine ty_badSide0 hs (br_t rfl ?_)
    rcases ty_path v2 with hp | ⟨p, hp, rfl⟩
    · exact ty_badPath1 hp (br_f (by decide) (ty_y_remove_b2 hs hp ⟨rfl, ty_in P Z F⟩))
    · refine ty_badPath0 hp (br_t rfl ?_)
      have z := Z s (by omega)
      have hl := ty_tr_lt P.1 Z (show s < 9 by omega) p
      have hA := ty_tr_A Z (show s < 9 by omega) hp
      have hK := ty_K0 P.1 hl
      refine ty_contentAt P.1 z.1 z.2.1 (by omega) hp fun dp wy na => pk_eq _ 0 (fun e => ?_) (fun e => ?_)
      · exact ty_y_remove hs hp (fun _ => ⟨rfl, ty_in P Z F⟩) (fun y => absurd (hA.trans (hK.mpr e)) y)
      · have eA : ¬ A (84 * s + p) = 0 := fun y => e (hK.mp (hA.symm.trans y))
        have hc := ty_tr_cnt P.1 Z (show s < 9 by omega) hp
        refine ty_weight P.1 hl ?_
        rw [← hc]
        refine ty_makeRoom (k := 8) (by omega) P Z fun m K N I T rn R P hm8 Z => ?_
        have hm1 := P.1.1
        have z2 := Z s (by omega)
        refine ty_setContent (c := 0) P (by omega) z2.1 z2.2.1 (by omega) hp (by omega) fun m3 K3 N3 I3 T3 sq dp wy na P3 E3 hm3 hS => ?_
        refine ty_y_remove hs hp (fun y => absurd y eA) (fun _ => ⟨rfl, ty_in P3 ?_ F⟩)
        refine ty_Tr_empty P.1 P3.1 E3 Z (by omega) hp (ty_Hp_nz P.1 z2.2.1 hp fun y => eA ?_) hS
        rw [ty_tr_A Z (by omega) hp, y]; exact P.1.2.2.1
end
section
/-! move and copy -/
/-- the tests are passed, by the reference's rows -/
def ty_Ok (A : Nat → Int32) (s p q : Nat) : Prop := A (84 * s + p) ≠ 0 ∧ ty_Hq A s q ∧ A (84 * s + q) = 0 ∧ ¬ ty_Sb q p ∧ ∃ h, ty_Ht (ty_D1 A s p 21) (ty_D2 A s p 21) h ∧ ty_lv q + (h + 1) ≤ 4
section
variable {pf ya yc : Int32} {A B kp tk yp ys yq : Nat → Int32}
theorem ty_y_test83 {post : Int32 → Prop} {s p q h : Nat} (hs : s < 10) (hp : p < 84) (hq : q < 84) (H : ty_Ht (ty_D1 A s p 21) (ty_D2 A s p 21) h)
    (h1 : ¬ ty_Sb q p → ty_lv q + (h + 1) ≤ 4 → post 0) (h0 : (ty_Sb q p ∨ ¬ ty_lv q + (h + 1) ≤ 4) → post (-1000000001)) :
    ((nI q ≤ 19 → (((nI q ≤ 3 → (wY_test_83 post (nI s) (nI p) (nI q) 2 pf ya yc A B kp tk yp ys yq)) ∧ (¬ nI q ≤ 3 → (wY_test_83 post (nI s) (nI p) (nI q) 1 pf ya yc A B kp tk yp ys yq))))) ∧ (¬ nI q ≤ 19 → (wY_test_83 post (nI s) (nI p) (nI q) 0 pf ya yc A B kp tk yp ys yq))) := by
  have hl := ty_lv_r q
  have key : ∀ z, z + ty_lv q = 3 → wY_test_83 post (nI s) (nI p) (nI q) (nI z) pf ya yc A B kp tk yp ys yq := by
    intro z hz
    unfold wY_test_83
    refine ty_y_isIn hq hp (fun w => br_f (by decide) (h0 (Or.inl w))) (fun w => br_t rfl (ty_y_levels hs hp fun x hx => ?_))
    have e := ty_Ht_u hx H
    subst e
    have hx3 : x < 3 := by rcases H with y | y | y <;> omega
    exact pk_le x z (fun y => h1 w (by omega)) (fun y => h0 (Or.inr (by omega)))
  by_cases h4 : q < 4
  · exact br_t (nI_le (b := 19) (by omega) (by decide)) (br_t (nI_le (b := 3) (by omega) (by decide)) (key 2 (by rw [ty_lv1 h4])))
  · by_cases h2 : q < 20
    · exact br_t (nI_le (b := 19) (by omega) (by decide)) (br_f (nI_ge (a := 3) (by omega) (by omega)) (key 1 (by rw [ty_lv2 h4 h2])))
    · exact br_f (nI_ge (a := 19) (by omega) (by omega)) (key 0 (by rw [ty_lv3 h2]))
end
section
variable {m : Nat} {pf pl ac cc al st dp ya yc : Int32} {K N I T rn R kp pb ap sd cp wy na A B tk yp ys yq : Nat → Int32}
theorem ty_ref (P : ty_Po m K N I) (Z : ty_Tr m K N I R A B) (v1 v2 v3 : Int32) :
    ∃ r : Int32, ((r = 0 ∧ ∃ s p q, s < 2 ∧ p < 84 ∧ q < 84 ∧ v1 = nI s ∧ v2 = nI p ∧ v3 = nI q ∧ ty_Ok A s p q) ∨ (¬ r = 0 ∧ ¬ 0 ≤ r)) ∧
      (∀ post : Int32 → SX → Prop, (∀ dp wy na, post r (nI m, pf, pl, ac, cc, al, st, dp, K, N, I, T, rn, R, kp, pb, ap, sd, cp, wy, na)) → wpX_refused post (nI m, pf, pl, ac, cc, al, st, dp, K, N, I, T, rn, R, kp, pb, ap, sd, cp, wy, na) v1 v2 v3) ∧ (∀ post : Int32 → Prop, post r → wpY_test post (pf, ya, yc, A, B, kp, tk, yp, ys, yq) v1 v2 v3) := by
  have hm := P.2.1
  unfold wpX_refused wpY_test
  rcases ty_side v1 with hs | ⟨s, hs, rfl⟩
  · exact ⟨-1000000001, Or.inr ⟨by decide, by decide⟩, fun post h => ty_badSide1 hs (br_f (by decide) (h _ _ _)), fun post h => ty_y_isSide0 hs (br_t rfl h)⟩
  rcases ty_path v2 with hp | ⟨p, hp, rfl⟩
  · exact ⟨-1000000001, Or.inr ⟨by decide, by decide⟩, fun post h => ty_badSide0 hs (br_t rfl (ty_badPath1 hp (br_f (by decide) (h _ _ _)))), fun post h => ty_y_isSide1 hs (br_f (by decide) (ty_y_isPath0 hp (br_t rfl h)))⟩
  rcases ty_path v3 with hq | ⟨q, hq, rfl⟩
  · exact ⟨-1000000001, Or.inr ⟨by decide, by decide⟩, fun post h => ty_badSide0 hs (br_t rfl (ty_badPath0 hp (br_t rfl (ty_badPath1 hq (br_f (by decide) (h _ _ _)))))), fun post h => ty_y_isSide1 hs (br_f (by decide) (ty_y_isPath1 hp (br_f (by decide) (ty_y_isPath0 hq (br_t rfl h)))))⟩
  have z := Z s (by omega)
  have lp := ty_tr_lt P Z (show s < 9 by omega) p
  have lq := ty_tr_lt P Z (show s < 9 by omega) q
  have Ap := ty_tr_A Z (show s < 9 by omega) hp
  have Aq := ty_tr_A Z (show s < 9 by omega) hq
  have Kp := ty_K0 P lp
  have Kq := ty_K0 P lq
  have hH := ty_tr_Hp Z (show s < 9 by omega) hq
  by_cases c0 : ty_at I (ty_rt R s) p = 0
  · refine ⟨-1000000004, Or.inr ⟨by decide, by decide⟩, fun post h => ty_badSide0 hs (br_t rfl (ty_badPath0 hp (br_t rfl (ty_badPath0 hq (br_t rfl ?_))))), fun post h => ty_y_isSide1 hs (br_f (by decide) (ty_y_isPath1 hp (br_f (by decide) (ty_y_isPath1 hq (br_f (by decide) (ty_y_kA (by omega) hp (br_t (Ap.trans (Kp.mpr c0)) h)))))))⟩
    refine ty_contentAt P z.1 z.2.1 (by omega) hp fun dp wy na => ?_
    rw [c0]; exact br_t rfl (h _ _ _)
  have c0' : ¬ A (84 * s + p) = 0 := fun y => c0 (Kp.mp (Ap.symm.trans y))
  by_cases hh : ty_Hp K I (ty_rt R s) q
  case neg =>
    refine ⟨-1000000002, Or.inr ⟨by decide, by decide⟩, fun post h => ty_badSide0 hs (br_t rfl (ty_badPath0 hp (br_t rfl (ty_badPath0 hq (br_t rfl ?_))))), fun post h => ty_y_isSide1 hs (br_f (by decide) (ty_y_isPath1 hp (br_f (by decide) (ty_y_isPath1 hq (br_f (by decide) (ty_y_kA (by omega) hp (br_f c0' (ty_y_hasParent (by omega) hq (fun w => absurd (hH.mp w) hh) (fun _ => br_t rfl h)))))))))⟩
    refine ty_contentAt P z.1 z.2.1 (by omega) hp fun dp wy na => br_f (nI_ne0 (by omega) (by omega)) ?_
    exact ty_hasParent P z.1 z.2.1 (by omega) hq (fun w => absurd w hh) (fun _ dp wy na => br_t rfl (h _ _ _))
  by_cases d0 : ty_at I (ty_rt R s) q = 0
  case neg =>
    have d0' : ¬ A (84 * s + q) = 0 := fun y => d0 (Kq.mp (Aq.symm.trans y))
    refine ⟨-1000000003, Or.inr ⟨by decide, by decide⟩, fun post h => ty_badSide0 hs (br_t rfl (ty_badPath0 hp (br_t rfl (ty_badPath0 hq (br_t rfl ?_))))), fun post h => ty_y_isSide1 hs (br_f (by decide) (ty_y_isPath1 hp (br_f (by decide) (ty_y_isPath1 hq (br_f (by decide) (ty_y_kA (by omega) hp (br_f c0' (ty_y_hasParent (by omega) hq (fun w => br_f (by decide) (ty_y_kA (by omega) hq (br_f d0' h))) (fun w => absurd (hH.mpr hh) w)))))))))⟩
    refine ty_contentAt P z.1 z.2.1 (by omega) hp fun dp wy na => br_f (nI_ne0 (by omega) (by omega)) ?_
    refine ty_hasParent P z.1 z.2.1 (by omega) hq (fun _ dp wy na => br_f (by decide) ?_) (fun w => absurd hh w)
    exact ty_contentAt P z.1 z.2.1 (by omega) hq fun dp wy na => br_f (nI_ne0 (by omega) (by omega)) (h _ _ _)
  have d0' : A (84 * s + q) = 0 := Aq.trans (Kq.mpr d0)
  obtain ⟨x, H⟩ := ty_Ht_ex (ty_D1 A s p 21) (ty_D2 A s p 21)
  have D := ty_tr_D P Z (show s < 9 by omega) hp
  have H' := ty_Ht_cg D.1 D.2 H
  have hx3 : x < 3 := by rcases H with y | y | y <;> omega
  have hlv := ty_lv_r q
  have hne : q ≠ p := fun e => c0 (by rw [← e]; exact d0)
  have hX : ∀ post : Int32 → SX → Prop, (¬ ty_Sb q p → ty_lv q + (x + 1) ≤ 4 → ∀ dp wy na, post 0 (nI m, pf, pl, ac, cc, al, st, dp, K, N, I, T, rn, R, kp, pb, ap, sd, cp, wy, na)) → ((ty_Sb q p ∨ ¬ ty_lv q + (x + 1) ≤ 4) → ∀ dp wy na, post (-1000000001) (nI m, pf, pl, ac, cc, al, st, dp, K, N, I, T, rn, R, kp, pb, ap, sd, cp, wy, na)) → wpX_refused post (nI m, pf, pl, ac, cc, al, st, dp, K, N, I, T, rn, R, kp, pb, ap, sd, cp, wy, na) (nI s) (nI p) (nI q) := by
    intro post g1 g0
    unfold wpX_refused
    refine ty_badSide0 hs (br_t rfl (ty_badPath0 hp (br_t rfl (ty_badPath0 hq (br_t rfl ?_)))))
    refine ty_contentAt P z.1 z.2.1 (by omega) hp fun dp wy na => br_f (nI_ne0 (by omega) (by omega)) ?_
    refine ty_hasParent P z.1 z.2.1 (by omega) hq (fun _ dp wy na => br_f (by decide) ?_) (fun w => absurd hh w)
    refine ty_contentAt P z.1 z.2.1 (by omega) hq fun dp wy na => ?_
    rw [d0]
    refine br_t rfl (ty_standsIn hq hp hne (fun w => br_f (by decide) (g0 (Or.inl w) _ _ _)) (fun w => br_t rfl (ty_levelOf hq (ty_heightOf P lp fun y hy => ?_))))
    have e := ty_Ht_u hy H'
    subst e
    exact pk_le (ty_lv q + (y + 1)) 4 (fun u => g1 w u _ _ _) (fun u => g0 (Or.inr (by omega)) _ _ _) (hx := nI_add _ _)
  have hY : ∀ post : Int32 → Prop, (¬ ty_Sb q p → ty_lv q + (x + 1) ≤ 4 → post 0) → ((ty_Sb q p ∨ ¬ ty_lv q + (x + 1) ≤ 4) → post (-1000000001)) → wpY_test post (pf, ya, yc, A, B, kp, tk, yp, ys, yq) (nI s) (nI p) (nI q) := by
    intro post g1 g0
    unfold wpY_test
    exact ty_y_isSide1 hs (br_f (by decide) (ty_y_isPath1 hp (br_f (by decide) (ty_y_isPath1 hq (br_f (by decide) (ty_y_kA (by omega) hp (br_f c0' (ty_y_hasParent (by omega) hq (fun w => br_f (by decide) (ty_y_kA (by omega) hq (br_t d0' (ty_y_test83 (by omega) hp hq H g1 g0)))) (fun w => absurd (hH.mpr hh) w)))))))))
  rcases Classical.em (ty_Sb q p ∨ ¬ ty_lv q + (x + 1) ≤ 4) with w | w
  · refine ⟨-1000000001, Or.inr ⟨by decide, by decide⟩, fun post h => hX post (fun a b => ?_) (fun _ => h), fun post h => hY post (fun a b => ?_) (fun _ => h)⟩
    · exact w.elim (fun y => absurd y a) (fun y => absurd b y)
    · exact w.elim (fun y => absurd y a) (fun y => absurd b y)
  · have w1 : ¬ ty_Sb q p := fun y => w (Or.inl y)
    have w2 : ty_lv q + (x + 1) ≤ 4 := Classical.byContradiction fun y => w (Or.inr y)
    exact ⟨0, Or.inl ⟨rfl, s, p, q, hs, hp, hq, rfl, rfl, rfl, c0', hH.mpr hh, d0', w1, x, H, w2⟩, fun post h => hX post (fun _ _ => h) (fun y => absurd y w), fun post h => hY post (fun _ _ => h) (fun y => absurd y w)⟩
end
theorem ty_Hd_le {m : Nat} {K N I : Nat → Int32} (P : ty_Po m K N I) {d e c : Nat} (h : ty_Hd I d c) (hde : d ≤ e) : ty_Hd I e c := by
  induction e with
  | zero =>
    have : d = 0 := by omega
    rw [this] at h; exact h
  | succ e ih =>
    by_cases w : d = e + 1
    · rw [w] at h; exact h
    · exact ty_HdS P e c (ih (by omega))
theorem ty_Ok_Hd {m : Nat} {K N I R A B : Nat → Int32} (P : ty_Po m K N I) (Z : ty_Tr m K N I R A B) {s p q : Nat} (hs : s < 9) (hp : p < 84) (O : ty_Ok A s p q) : ty_Hd I (3 - ty_lv q) (ty_at I (ty_rt R s) p) := by
  obtain ⟨h, H, hl⟩ := O.2.2.2.2
  have D := ty_tr_D P Z hs hp
  have H' := ty_Ht_cg D.1 D.2 H
  have hlv := ty_lv_r q
  rcases H' with w | w | w
  · exact ty_Hd_le P (ty_Hd2 P (Z s hs).2.2.2.1 p hp) (by omega)
  · have h1 : ty_Hd I 1 (ty_at I (ty_rt R s) p) := fun n hn j hj => Classical.byContradiction fun y => w.1 ⟨n, hn, j, hj, y⟩
    exact ty_Hd_le P h1 (by omega)
  · have h1 : ty_Hd I 0 (ty_at I (ty_rt R s) p) := fun n hn => Classical.byContradiction fun y => w.2.1 ⟨n, hn, y⟩
    exact ty_Hd_le P h1 (by omega)
theorem ty_Sb_no {p q k : Nat} (hp : p < 84) (hq : q < 84) (hq4 : ¬ q < 4) (h : ¬ ty_Sb q p) (hk : k < 21) : ty_par q ≠ ty_pt p k := by
  intro e
  apply h
  have hl := ty_par_lt hq4 hq
  unfold ty_Sb
  unfold ty_pt ty_cl at e
  by_cases k0 : k = 0
  · rw [if_pos k0] at e; exact Or.inl ⟨hq4, e⟩
  · rw [if_neg k0] at e
    by_cases k5 : k < 5
    · rw [if_pos k5] at e
      by_cases p4 : p < 4
      · rw [if_pos p4] at e
        refine Or.inr ⟨?_, ?_⟩
        · intro q2
          have : ty_par q = (q - 4) / 4 := if_pos q2
          omega
        · have : ty_par (ty_par q) = (ty_par q - 4) / 4 := if_pos hl
          omega
      · rw [if_neg p4] at e
        split at e <;> omega
    · rw [if_neg k5] at e
      repeat' split at e
      all_goals omega
section
variable {pf ya yc : Int32} {A B kp tk yp ys yq : Nat → Int32}
theorem ty_y_move {post : Int32 → SY → Prop} {s p q : Nat} (hs : s < 2) (hp : p < 84) (hq : q < 84) (hY : ∀ post : Int32 → Prop, post 0 → wpY_test post (pf, ya, yc, A, B, kp, tk, yp, ys, yq) (nI s) (nI p) (nI q))
    (h : post 0 (pf, ya, yc, ty_pu (ty_eA (ty_eA (ty_pu (ty_eA A 9 0 21) s p 9 0 21) s p 21) s q 21) 9 0 s q 21, ty_pu (ty_pu B s p 9 0 21) 9 0 s q 21, kp, tk, yp, ys, yq)) : wpY_move post (pf, ya, yc, A, B, kp, tk, yp, ys, yq) (nI s) (nI p) (nI q) := by
  unfold wpY_move
  exact hY _ (br_t rfl (ty_y_put (u := 9) (q := 0) (by omega) (by omega) hp (by omega) (ty_y_empty (by omega) hp (ty_y_put (t := 9) (p := 0) (by omega) (by omega) (by omega) hq h))))
theorem ty_y_copy {post : Int32 → SY → Prop} {s p q : Nat} (hs : s < 2) (hp : p < 84) (hq : q < 84) (hY : ∀ post : Int32 → Prop, post 0 → wpY_test post (pf, ya, yc, A, B, kp, tk, yp, ys, yq) (nI s) (nI p) (nI q))
    (h : post 0 (pf, ya, yc, ty_pu (ty_eA (ty_pu (ty_eA A 9 0 21) s p 9 0 21) s q 21) 9 0 s q 21, ty_pu (ty_pu B s p 9 0 21) 9 0 s q 21, kp, tk, yp, ys, yq)) : wpY_copy post (pf, ya, yc, A, B, kp, tk, yp, ys, yq) (nI s) (nI p) (nI q) := by
  unfold wpY_copy
  exact hY _ (br_t rfl (ty_y_put (u := 9) (q := 0) (by omega) (by omega) hp (by omega) (ty_y_put (t := 9) (p := 0) (by omega) (by omega) (by omega) hq h)))
end
theorem i_vc_move {k : Nat} {u : SX} {v : SY} (I : i_Rel k u v) (hk : k + 4 ≤ 2048) (v1 : Int32) (v2 : Int32) (v3 : Int32) : wpX_move (fun r u' => wpY_move (fun r' v' => r' = r ∧ i_Rel (k + 4) u' v') v v1 v2 v3) u v1 v2 v3 := by
  refine ty_el (Q := fun u v => wpX_move (fun r u' => wpY_move (fun r' v' => r' = r ∧ i_Rel (k + 4) u' v') v v1 v2 v3) u v1 v2 v3) ?_ I
  intro m pf pl ac cc al st dp ya yc K N I T rn R kp pb ap sd cp wy na A B tk yp ys yq P Z F
  obtain ⟨r, hr, hX, hY⟩ := ty_ref (pf := pf) (pl := pl) (ac := ac) (cc := cc) (al := al) (st := st) (dp := dp) (ya := ya) (yc := yc) (T := T) (rn := rn) (kp := kp) (pb := pb) (ap := ap) (sd := sd) (cp := cp) (wy := wy) (na := na) (tk := tk) (yp := yp) (ys := ys) (yq := yq) P.1 Z v1 v2 v3
  unfold wpX_move
  refine hX _ (fun dp wy na => ?_)
  rcases hr with ⟨rfl, s, p, q, hs, hp, hq, rfl, rfl, rfl, O⟩ | ⟨h0, h1⟩
  · refine br_t (by decide) ?_
    refine ty_makeRoom (k := 16) (by omega) P Z fun m K N I T rn R P hm16 Z => ?_
    have hm1 := P.1.1
    have z := Z s (by omega)
    have hc := ty_tr_lt P.1 Z (show s < 9 by omega) p
    refine ty_contentAt P.1 z.1 z.2.1 (by omega) hp fun dp wy na => ?_
    have c0 : ty_at I (ty_rt R s) p ≠ 0 := fun y => O.1 (by rw [ty_tr_A Z (by omega) hp, y]; exact P.1.2.2.1)
    have w9 := ty_put9 Z (show s < 9 by omega) (ty_tr_src P.1 Z (show s < 9 by omega) hp)
    refine ty_setContent (c := 0) P (by omega) z.1 z.2.1 (by omega) hp (by omega) fun m2 K2 N2 I2 T2 sq dp wy na P2 E2 hm2 hS2 => ?_
    have Z2 := ty_Tr_empty P.1 P2.1 E2 w9.1 (by omega) hp (ty_Hp_nz P.1 z.2.1 hp c0) hS2
    have S2 := ty_Src_eA (u := s) (q := p) (by omega) (ty_Src_ex P.1 E2 hc w9.2)
    have z2 := Z2 s (by omega)
    have hc2 : ty_at I (ty_rt R s) p < m2 := by have := E2.1; omega
    refine ty_setContent P2 (by omega) z2.1 z2.2.1 (by omega) hq hc2 fun m3 K3 N3 I3 T3 sq3 dp wy na P3 E3 hm3 hS3 => ?_
    refine ty_y_move hs hp hq hY ⟨rfl, ty_in P3 ?_ F⟩
    refine ty_Tr_put P2.1 P3.1 E3 Z2 (by omega) (by omega) hq hc2 (ty_ex_Hd P.1 E2 _ _ hc (ty_Ok_Hd P.1 Z (by omega) hp O)) ((ty_tr_Hp Z2 (by omega) hq).mp ?_) hS3 S2
    rcases O.2.1 with y | y
    · exact Or.inl y
    · by_cases q4 : q < 4
      · exact Or.inl q4
      · have hl := ty_par_lt q4 hq
        refine Or.inr ?_
        rw [ty_eA_o _ 21 (fun j hj hb e => ty_Sb_no hp hq q4 O.2.2.2.1 hj (by omega)), ty_pu_o _ 21 (fun j hj hb => by omega), ty_eA_o _ 21 (fun j hj hb => by omega)]
        exact y
  · exact br_f h1 (by
      show wpY_move _ _ _ _ _
      unfold wpY_move
      exact hY _ (br_f h0 ⟨rfl, ty_in P Z F⟩))
theorem i_vc_copy {k : Nat} {u : SX} {v : SY} (I : i_Rel k u v) (hk : k + 4 ≤ 2048) (v1 : Int32) (v2 : Int32) (v3 : Int32) : wpX_copy (fun r u' => wpY_copy (fun r' v' => r' = r ∧ i_Rel (k + 4) u' v') v v1 v2 v3) u v1 v2 v3 := by
  refine ty_el (Q := fun u v => wpX_copy (fun r u' => wpY_copy (fun r' v' => r' = r ∧ i_Rel (k + 4) u' v') v v1 v2 v3) u v1 v2 v3) ?_ I
  intro m pf pl ac cc al st dp ya yc K N I T rn R kp pb ap sd cp wy na A B tk yp ys yq P Z F
  obtain ⟨r, hr, hX, hY⟩ := ty_ref (pf := pf) (pl := pl) (ac := ac) (cc := cc) (al := al) (st := st) (dp := dp) (ya := ya) (yc := yc) (T := T) (rn := rn) (kp := kp) (pb := pb) (ap := ap) (sd := sd) (cp := cp) (wy := wy) (na := na) (tk := tk) (yp := yp) (ys := ys) (yq := yq) P.1 Z v1 v2 v3
  unfold wpX_copy
  refine hX _ (fun dp wy na => ?_)
  rcases hr with ⟨rfl, s, p, q, hs, hp, hq, rfl, rfl, rfl, O⟩ | ⟨h0, h1⟩
  · refine br_t (by decide) ?_
    refine ty_makeRoom (k := 8) (by omega) P Z fun m K N I T rn R P hm16 Z => ?_
    have hm1 := P.1.1
    have z := Z s (by omega)
    have hc := ty_tr_lt P.1 Z (show s < 9 by omega) p
    refine ty_contentAt P.1 z.1 z.2.1 (by omega) hp fun dp wy na => ?_
    have w9 := ty_put9 Z (show s < 9 by omega) (ty_tr_src P.1 Z (show s < 9 by omega) hp)
    have hH := (ty_tr_Hp Z (show s < 9 by omega) hq).mp O.2.1
    refine ty_setContent P (by omega) z.1 z.2.1 (by omega) hq hc fun m3 K3 N3 I3 T3 sq3 dp wy na P3 E3 hm3 hS3 => ?_
    refine ty_y_copy hs hp hq hY ⟨rfl, ty_in P3 ?_ F⟩
    exact ty_Tr_put P.1 P3.1 E3 w9.1 (by omega) (by omega) hq hc (ty_Ok_Hd P.1 Z (by omega) hp O) hH hS3 w9.2
  · exact br_f h1 (by
      show wpY_copy _ _ _ _ _
      unfold wpY_copy
      exact hY _ (br_f h0 ⟨rfl, ty_in P Z F⟩))
end
section
/-! stepping: the reference's rounds -/
/-- the rows behind an action -/
def ty_AA (A : Nat → Int32) (s p : Nat) : Nat → Int32 := ty_pu (ty_eA (ty_pu (ty_eA A s p 21) (1 - s) p s p 21) 2 p 21) (1 - s) p 2 p 21
def ty_BB (B : Nat → Int32) (s p : Nat) : Nat → Int32 := ty_pu (ty_pu B (1 - s) p s p 21) (1 - s) p 2 p 21
/-- four paths on a pile, the last one first -/
def ty_p4 (f : Nat → Int32) (h x : Nat) : Nat → Int32 := upd (upd (upd (upd f h (nI (x + 3))) (h + 1) (nI (x + 2))) (h + 2) (nI (x + 1))) (h + 3) (nI x)
theorem ty_1s {s : Nat} (hs : s < 2) : (1 : Int32) - nI s = nI (1 - s) := pk_sub (a := 1) (by omega)
section
variable {pf ya yc : Int32} {A B kp tk yp ys yq : Nat → Int32}
theorem ty_y_act {post : Int32 → SY → Prop} {s p a : Nat} {x : Int32} (hs : s < 2) (hp : p < 84) (ha : a < 84)
    (h0 : nI a = x → post 0 (pf, nI a, yc, A, B, kp, tk, yp, ys, yq)) (h1 : ¬ nI a = x → post 1 (pf, nI (a + 1), yc, ty_AA A s p, ty_BB B s p, kp, tk, upd yp a (nI p), upd ys a (nI s), yq)) : wpY_act post (pf, nI a, yc, A, B, kp, tk, yp, ys, yq) (nI s) (nI p) x := by
  refine br_c h0 (fun e => ?_)
  rw [ty_1s hs]
  refine ty_y_put (by omega) (by omega) hp hp (ty_y_put (u := 2) (by omega) (by omega) hp hp ⟨vp_in_nI (by omega) (by decide), ?_⟩)
  rw [nI_clamp (show a < 2 ^ 31 by omega)]
  exact nm_e ⟨vp_in_nI (by omega) (by decide), nm_e (nm_r (nI_1 a) (h1 e))⟩
theorem ty_y_c1 {post : SY → Prop} {x : Int32} {n h p : Nat} (hh : h < 84) (hp : p < 84) (ht : tk h = nI p) (S : ty_Sm A B 0 p 1 p)
    (g : wY_goOver_34 post x n (nI h) pf ya yc (ty_pu (ty_eA A 2 p 21) 0 p 2 p 21) (ty_pu B 0 p 2 p 21) kp tk yp ys yq) : wY_goOver_34 post x (n + 1) (nI (h + 1)) pf ya yc A B kp tk yp ys yq := by
  refine br_f (nI_nle (by omega) (by omega)) (nm_r (pk_m1 h) ⟨vp_in_nI (by omega) (by decide), ?_⟩)
  rw [nI_clamp (show h < 2 ^ 31 by omega)]
  refine nm_r ht ?_
  refine ty_y_same (t := 0) (u := 1) (by omega) (by omega) hp hp (fun _ => br_f (by decide) ?_) (fun w => absurd S w)
  exact ty_y_put (t := 0) (u := 2) (by omega) (by omega) hp hp (br_f (by decide) g)
theorem ty_y_push {post : SY → Prop} {J : Int32 → Int32 → Int32 → Int32 → (Nat → Int32) → (Nat → Int32) → (Nat → Int32) → (Nat → Int32) → (Nat → Int32) → (Nat → Int32) → (Nat → Int32) → Prop} {x : Int32} {h p : Nat} (hh : h < 84) (hp : p < 20)
    (g : J (nI (h + 4)) pf ya yc A B kp (ty_p4 tk h (ty_cl p 0)) yp ys yq) : wY_goOver_107 post J x (nI p) 1 pf ya yc 5 (nI h) 3 A B kp tk yp ys yq := by
  have c : ∀ n, n < 4 → ty_cl p n = ty_cl p 0 + n ∧ ty_cl p n < 84 := by
    intro n hn
    unfold ty_cl
    split
    · omega
    · omega
  have hc : ∀ {post : Int32 → Prop} {n : Nat} {tk : Nat → Int32}, n < 4 → post (nI (ty_cl p 0 + n)) → wpY_child post (pf, ya, yc, A, B, kp, tk, yp, ys, yq) (nI p) (nI n) := by
    intro post n tk hn y
    rw [← ty_nP_t (show p < 84 by omega)]
    refine ty_y_child (Or.inl (by omega)) hn ?_
    rw [ty_nP_t (c n hn).2, (c n hn).1]; exact y
  refine br_f (by decide) (hc (n := 3) (by omega) ⟨vp_in_nI (by omega) (by decide), ?_⟩)
  rw [nI_clamp (show h < 2 ^ 31 by omega)]
  refine nm_e (nm_r (nI_1 h) (nm_r (e' := nI 2) (by decide) ?_))
  refine br_f (by decide) (hc (n := 2) (by omega) ⟨vp_in_nI (by omega) (by decide), ?_⟩)
  rw [nI_clamp (show h + 1 < 2 ^ 31 by omega)]
  refine nm_e (nm_r (nI_1 _) (nm_r (e' := nI 1) (by decide) ?_))
  refine br_f (by decide) (hc (n := 1) (by omega) ⟨vp_in_nI (by omega) (by decide), ?_⟩)
  rw [nI_clamp (show h + 1 + 1 < 2 ^ 31 by omega)]
  refine nm_e (nm_r (nI_1 _) (nm_r (e' := nI 0) (by decide) ?_))
  refine br_f (by decide) (hc (n := 0) (by omega) ⟨vp_in_nI (by omega) (by decide), ?_⟩)
  rw [nI_clamp (show h + 1 + 1 + 1 < 2 ^ 31 by omega)]
  refine nm_e (nm_r (nI_1 _) (nm_r (e' := -1) (by decide) ?_))
  exact br_t (by decide) (br_f (by decide) g)
theorem ty_y_c2 {post : SY → Prop} {x : Int32} {n h p : Nat} (hh : h < 84) (hp : p < 20) (ht : tk h = nI p) (S : ¬ ty_Sm A B 0 p 1 p) (h0 : A p = 2) (h1 : A (84 + p) = 2)
    (g : wY_goOver_34 post x n (nI (h + 4)) pf ya yc (upd A (168 + p) 2) B kp (ty_p4 tk h (ty_cl p 0)) yp ys yq) : wY_goOver_34 post x (n + 1) (nI (h + 1)) pf ya yc A B kp tk yp ys yq := by
  refine br_f (nI_nle (by omega) (by omega)) (nm_r (pk_m1 h) ⟨vp_in_nI (by omega) (by decide), ?_⟩)
  rw [nI_clamp (show h < 2 ^ 31 by omega)]
  refine nm_r ht ?_
  have e : (168 : Int32) + nI p = nI (168 + p) := nI_add 168 p
  rw [e, nI_clamp (show 168 + p < 2 ^ 31 by omega)]
  refine ty_y_same (t := 0) (u := 1) (by omega) (by omega) (by omega) (by omega) (fun w => absurd w S) (fun _ => br_t rfl ?_)
  refine ty_y_kA (s := 0) (by omega) (by omega) ?_
  refine br_t (by rw [Nat.mul_zero, Nat.zero_add]; exact h0) (ty_y_kA (s := 1) (by omega) (by omega) ?_)
  refine br_t (by rw [Nat.mul_one]; exact h1) ⟨vp_in_nI (by omega) (by decide), nm_e ⟨5, ?_⟩⟩
  exact ty_y_push hh hp g
theorem ty_y_c345 {post : SY → Prop} {x : Int32} {n h p : Nat} (hh : h < 84) (hp : p < 84) (ht : tk h = nI p) (S : ¬ ty_Sm A B 0 p 1 p) (h2 : ¬ (A p = 2 ∧ A (84 + p) = 2))
    (g : wY_goOver_137 post (wY_goOver_34 post x n) x (nI h) (nI p) pf ya yc A B kp tk yp ys yq) : wY_goOver_34 post x (n + 1) (nI (h + 1)) pf ya yc A B kp tk yp ys yq := by
  refine br_f (nI_nle (by omega) (by omega)) (nm_r (pk_m1 h) ⟨vp_in_nI (by omega) (by decide), ?_⟩)
  rw [nI_clamp (show h < 2 ^ 31 by omega)]
  refine nm_r ht ?_
  refine ty_y_same (t := 0) (u := 1) (by omega) (by omega) hp hp (fun w => absurd w S) (fun _ => br_t rfl ?_)
  refine ty_y_kA (s := 0) (by omega) hp ?_
  rw [Nat.mul_zero, Nat.zero_add]
  refine br_c (fun e1 => ty_y_kA (s := 1) (by omega) hp ?_) (fun _ => g)
  rw [Nat.mul_one]
  exact br_f (fun e2 => h2 ⟨e1, e2⟩) g
theorem ty_y_c3 {post : SY → Prop} {x : Int32} {n h p a : Nat} (hh : h < 84) (hp : p < 84) (ha : a < 84) (ht : tk h = nI p) (S : ¬ ty_Sm A B 0 p 1 p) (h2 : ¬ (A p = 2 ∧ A (84 + p) = 2)) (S2 : ty_Sm A B 0 p 2 p)
    (g0 : nI a = x → wY_goOver_34 post x n 0 pf (nI a) yc A B kp tk yp ys yq) (g1 : ¬ nI a = x → wY_goOver_34 post x n (nI h) pf (nI (a + 1)) yc (ty_AA A 0 p) (ty_BB B 0 p) kp tk (upd yp a (nI p)) (upd ys a (nI 0)) yq) : wY_goOver_34 post x (n + 1) (nI (h + 1)) pf (nI a) yc A B kp tk yp ys yq := by
  refine ty_y_c345 hh hp ht S h2 ?_
  unfold wY_goOver_137
  refine ty_y_same (t := 0) (u := 2) (by omega) (by omega) hp hp (fun _ => br_f (by decide) ?_) (fun w => absurd S2 w)
  exact ty_y_act (s := 0) (by omega) hp ha (fun e => br_t rfl (g0 e)) (fun e => br_f (by decide) (g1 e))
theorem ty_y_c4 {post : SY → Prop} {x : Int32} {n h p a : Nat} (hh : h < 84) (hp : p < 84) (ha : a < 84) (ht : tk h = nI p) (S : ¬ ty_Sm A B 0 p 1 p) (h2 : ¬ (A p = 2 ∧ A (84 + p) = 2)) (S2 : ¬ ty_Sm A B 0 p 2 p) (S3 : ty_Sm A B 1 p 2 p)
    (g0 : nI a = x → wY_goOver_34 post x n 0 pf (nI a) yc A B kp tk yp ys yq) (g1 : ¬ nI a = x → wY_goOver_34 post x n (nI h) pf (nI (a + 1)) yc (ty_AA A 1 p) (ty_BB B 1 p) kp tk (upd yp a (nI p)) (upd ys a (nI 1)) yq) : wY_goOver_34 post x (n + 1) (nI (h + 1)) pf (nI a) yc A B kp tk yp ys yq := by
  refine ty_y_c345 hh hp ht S h2 ?_
  unfold wY_goOver_137
  refine ty_y_same (t := 0) (u := 2) (by omega) (by omega) hp hp (fun w => absurd w S2) (fun _ => br_t rfl ?_)
  refine ty_y_same (t := 1) (u := 2) (by omega) (by omega) hp hp (fun _ => br_f (by decide) ?_) (fun w => absurd S3 w)
  exact ty_y_act (s := 1) (by omega) hp ha (fun e => br_t rfl (g0 e)) (fun e => br_f (by decide) (g1 e))
theorem ty_y_c5a {post : SY → Prop} {x : Int32} {n h p c : Nat} (hh : h < 84) (hp : p < 84) (hc : c < 84) (ht : tk h = nI p) (S : ¬ ty_Sm A B 0 p 1 p) (h2 : ¬ (A p = 2 ∧ A (84 + p) = 2)) (S2 : ¬ ty_Sm A B 0 p 2 p) (S3 : ¬ ty_Sm A B 1 p 2 p)
    (g : wY_goOver_34 post x n (nI h) (-1) ya (nI (c + 1)) A B kp tk yp ys (upd yq c (nI p))) : wY_goOver_34 post x (n + 1) (nI (h + 1)) (-1) ya (nI c) A B kp tk yp ys yq := by
  refine ty_y_c345 hh hp ht S h2 ?_
  unfold wY_goOver_137
  refine ty_y_same (t := 0) (u := 2) (by omega) (by omega) hp hp (fun w => absurd w S2) (fun _ => br_t rfl ?_)
  refine ty_y_same (t := 1) (u := 2) (by omega) (by omega) hp hp (fun w => absurd w S3) (fun _ => br_t rfl ⟨vp_in_nI (by omega) (by decide), ?_⟩)
  rw [nI_clamp (show c < 2 ^ 31 by omega)]
  exact nm_e (nm_r (nI_1 c) (br_t (by decide) (br_f (by decide) g)))
theorem ty_y_c5b {post : SY → Prop} {x : Int32} {n h p a c s : Nat} (hs : s < 2) (hh : h < 84) (hp : p < 84) (ha : a < 84) (hc : c < 84) (ht : tk h = nI p) (S : ¬ ty_Sm A B 0 p 1 p) (h2 : ¬ (A p = 2 ∧ A (84 + p) = 2)) (S2 : ¬ ty_Sm A B 0 p 2 p) (S3 : ¬ ty_Sm A B 1 p 2 p)
    (g0 : nI a = x → wY_goOver_34 post x n 0 (nI s) (nI a) (nI (c + 1)) A B kp tk yp ys (upd yq c (nI p)))
    (g1 : ¬ nI a = x → wY_goOver_34 post x n (nI h) (nI s) (nI (a + 1)) (nI (c + 1)) (ty_AA A (1 - s) p) (ty_BB B (1 - s) p) kp tk (upd yp a (nI p)) (upd ys a (nI (1 - s))) (upd yq c (nI p))) : wY_goOver_34 post x (n + 1) (nI (h + 1)) (nI s) (nI a) (nI c) A B kp tk yp ys yq := by
  refine ty_y_c345 hh hp ht S h2 ?_
  unfold wY_goOver_137
  refine ty_y_same (t := 0) (u := 2) (by omega) (by omega) hp hp (fun w => absurd w S2) (fun _ => br_t rfl ?_)
  refine ty_y_same (t := 1) (u := 2) (by omega) (by omega) hp hp (fun w => absurd w S3) (fun _ => br_t rfl ⟨vp_in_nI (by omega) (by decide), ?_⟩)
  rw [nI_clamp (show c < 2 ^ 31 by omega), ty_1s hs]
  refine nm_e (nm_r (nI_1 c) (br_f (nI_pos (by omega)) ?_))
  exact ty_y_act (by omega) hp ha (fun e => br_t rfl (br_t rfl (g0 e))) (fun e => br_f (by decide) (br_f (by decide) (g1 e)))
end
end
section
/-! stepping: the pile; the component's actions -/
/-- nothing changed out of a path -/
def ty_Un (p : Nat) (A A' : Nat → Int32) : Prop := ∀ t q, t < 9 → q < 84 → (∀ k, k < 21 → q ≠ ty_pt p k) → A' (84 * t + q) = A (84 * t + q)
theorem ty_Un_rf (p : Nat) (A : Nat → Int32) : ty_Un p A A := fun _ _ _ _ _ => rfl
theorem ty_Un_tr {p : Nat} {A A1 A2 : Nat → Int32} (h : ty_Un p A A1) (g : ty_Un p A1 A2) : ty_Un p A A2 := fun t q ht hq hk => (g t q ht hq hk).trans (h t q ht hq hk)
theorem ty_Un_pu (A : Nat → Int32) {t u p : Nat} : ty_Un p A (ty_pu (ty_eA A u p 21) t p u p 21) := by
  intro w q hw hq hk
  have ne : ∀ j, j < 21 → ty_pt p j < 84 → 84 * w + q ≠ 84 * u + ty_pt p j := by
    intro j hj hb e
    exact hk j hj (by omega)
  rw [ty_pu_o _ 21 ne, ty_eA_o A 21 ne]
theorem ty_Un_AA (A : Nat → Int32) (s p : Nat) : ty_Un p A (ty_AA A s p) := ty_Un_tr (ty_Un_pu A) (ty_Un_pu _)
theorem ty_Un_u (A : Nat → Int32) {p : Nat} (hp : p < 84) (x : Int32) : ty_Un p A (upd A (168 + p) x) := by
  intro t q ht hq hk
  refine pk_un fun e => hk 0 (by omega) ?_
  rw [ty_pt0]; omega
/-- how many paths stand in one, itself with them -/
def ty_wg (p : Nat) : Nat := if p < 4 then 21 else if p < 20 then 5 else 1
theorem ty_wg_1 (p : Nat) : 1 ≤ ty_wg p := by
  unfold ty_wg
  split
  · omega
  · split <;> omega
def ty_Stk (A pb tk : Nat → Int32) (h i : Nat) (w : Nat → Nat) : Prop :=
  (∀ j, j < h → w j < 84 ∧ pb j = nI (w j) ∧ tk j = nI (w j) ∧ ty_Hq A 0 (w j) ∧ ty_Hq A 1 (w j) ∧ ty_Hq A 2 (w j)) ∧
  (∀ j l, j < h → l < h → j ≠ l → w j ≠ w l ∧ ¬ ty_Sb (w j) (w l)) ∧ ty_cnt (fun j => ty_wg (w j)) h + i ≤ 84
theorem ty_cnt_ge (f : Nat → Nat) (h : ∀ k, 1 ≤ f k) : ∀ n, n ≤ ty_cnt f n
  | 0 => Nat.le_refl _
  | n + 1 => by
    have := ty_cnt_ge f h n
    have := h n
    show n + 1 ≤ ty_cnt f n + f n
    omega
theorem ty_Stk_h {A pb tk : Nat → Int32} {h i : Nat} {w : Nat → Nat} (S : ty_Stk A pb tk h i w) : h + i ≤ 84 := by
  have := S.2.2
  have := ty_cnt_ge (fun j => ty_wg (w j)) (fun j => ty_wg_1 _) h
  omega
theorem ty_Hq_Un {A A' : Nat → Int32} {p q t : Nat} (U : ty_Un p A A') (hp : p < 84) (hq : q < 84) (ht : t < 9) (h : ¬ ty_Sb q p) (H : ty_Hq A t q) : ty_Hq A' t q := by
  by_cases q4 : q < 4
  · exact Or.inl q4
  · have hl := ty_par_lt q4 hq
    refine Or.inr ?_
    rw [U t (ty_par q) ht (by omega) (fun k hk => ty_Sb_no hp hq q4 h hk)]
    exact H.resolve_left q4
theorem ty_Stk_pop {A A' pb tk : Nat → Int32} {h i : Nat} {w : Nat → Nat} (S : ty_Stk A pb tk (h + 1) i w) (U : ty_Un (w h) A A') : ty_Stk A' pb tk h (i + 1) w := by
  have hp := (S.1 h (by omega)).1
  refine ⟨fun j hj => ?_, fun j l hj hl => S.2.1 j l (by omega) (by omega), ?_⟩
  · have s := S.1 j (by omega)
    have n := (S.2.1 j h (by omega) (by omega) (by omega)).2
    exact ⟨s.1, s.2.1, s.2.2.1, ty_Hq_Un U hp s.1 (by omega) n s.2.2.2.1, ty_Hq_Un U hp s.1 (by omega) n s.2.2.2.2.1, ty_Hq_Un U hp s.1 (by omega) n s.2.2.2.2.2⟩
  · have e : ty_cnt (fun j => ty_wg (w j)) (h + 1) = ty_cnt (fun j => ty_wg (w j)) h + ty_wg (w h) := rfl
    have := S.2.2
    have := ty_wg_1 (w h)
    omega
theorem ty_p4_o (f : Nat → Int32) {h x j : Nat} (hj : j < h) : ty_p4 f h x j = f j := by
  unfold ty_p4
  rw [pk_un (by omega), pk_un (by omega), pk_un (by omega), pk_un (by omega)]
theorem ty_p4_i (f : Nat → Int32) (h x : Nat) : ∀ l, l < 4 → ty_p4 f h x (h + l) = nI (x + (3 - l)) := by
  unfold ty_p4
  refine ty_lt4 ?_ ?_ ?_ ?_
  · rw [pk_un (by omega), pk_un (by omega), pk_un (by omega)]; exact pk_us
  · rw [pk_un (by omega), pk_un (by omega)]; exact pk_us
  · rw [pk_un (by omega)]; exact pk_us
  · exact pk_us
theorem ty_clf {p : Nat} (hp : p < 20) : 4 ≤ ty_cl p 0 ∧ (p < 4 → ty_cl p 0 = 4 + 4 * p) ∧ (¬ p < 4 → ty_cl p 0 = 20 + 4 * (p - 4)) := by
  unfold ty_cl
  by_cases h : p < 4
  · rw [if_pos h]; exact ⟨by omega, fun _ => rfl, fun w => absurd h w⟩
  · rw [if_neg h, if_pos hp]; exact ⟨by omega, fun w => absurd w h, fun _ => rfl⟩
theorem ty_clp {p n : Nat} (hp : p < 20) (hn : n < 4) : ty_par (ty_cl p 0 + n) = p := by
  have c := ty_clf hp
  unfold ty_par
  by_cases h : p < 4
  · have := c.2.1 h
    rw [if_pos (by omega)]; omega
  · have := c.2.2 h
    rw [if_neg (by omega)]; omega
theorem ty_Stk_push {A pb tk : Nat → Int32} {h i : Nat} {w : Nat → Nat} (S : ty_Stk A pb tk (h + 1) i w) (hp : w h < 20) (h0 : A (w h) = 2) (h1 : A (84 + w h) = 2) :
    ∃ w', ty_Stk (upd A (168 + w h) 2) (ty_p4 pb h (ty_cl (w h) 0)) (ty_p4 tk h (ty_cl (w h) 0)) (h + 4) (i + 1) w' := by
  have T := ty_Stk_pop S (ty_Un_u A (show w h < 84 by omega) 2)
  obtain ⟨p, ep⟩ : ∃ p, p = w h := ⟨_, rfl⟩
  rw [← ep] at hp h0 h1 T ⊢
  have c := ty_clf hp
  obtain ⟨b, eb⟩ : ∃ b, b = ty_cl p 0 := ⟨_, rfl⟩
  have cp : ∀ n, n < 4 → ty_par (b + n) = p := fun n hn => by rw [eb]; exact ty_clp hp hn
  rw [← eb] at c ⊢
  have hb4 : p < 4 → b + 3 < 20 := fun z => by have := c.2.1 z; omega
  have hb20 : ¬ p < 4 → 20 ≤ b ∧ b + 3 < 84 := fun z => by have := c.2.2 z; omega
  have hb : b + 3 < 84 := by
    by_cases z : p < 4
    · have := hb4 z; omega
    · have := hb20 z; omega
  have pl : ∀ j, j < h → w j ≠ p ∧ ¬ ty_Sb (w j) p ∧ ¬ ty_Sb p (w j) := by
    intro j hj
    have a := S.2.1 j h (by omega) (by omega) (by omega)
    have d := S.2.1 h j (by omega) (by omega) (by omega)
    rw [← ep] at a d
    exact ⟨a.1, a.2, d.2⟩
  have k1 : ∀ j n, j < h → n < 4 → w j ≠ b + n ∧ ¬ ty_Sb (w j) (b + n) ∧ ¬ ty_Sb (b + n) (w j) := by
    intro j n hj hn
    have a := pl j hj
    have hw := (S.1 j (by omega)).1
    refine ⟨fun e => a.2.1 (Or.inl ⟨by omega, by rw [e]; exact cp n hn⟩), fun e => ?_, fun e => ?_⟩
    · rcases e with ⟨e1, e2⟩ | ⟨e1, e2⟩
      · refine a.2.1 (Or.inr ⟨fun z => ?_, by rw [e2]; exact cp n hn⟩)
        have : ty_par (w j) = (w j - 4) / 4 := if_pos z
        omega
      · have g : ty_par (w j) = 4 + (w j - 20) / 4 := if_neg e1
        have g2 : ty_par (ty_par (w j)) = (ty_par (w j) - 4) / 4 := if_pos (by omega)
        omega
    · rcases e with ⟨e1, e2⟩ | ⟨e1, e2⟩
      · rw [cp n hn] at e2; exact a.1 e2.symm
      · rw [cp n hn] at e2
        refine a.2.2 (Or.inl ⟨fun z => ?_, e2⟩)
        have := hb4 z
        omega
  have k2 : ∀ n l, n < 4 → l < 4 → ¬ ty_Sb (b + n) (b + l) := by
    intro n l hn hl e
    rcases e with ⟨e1, e2⟩ | ⟨e1, e2⟩
    · rw [cp n hn] at e2
      by_cases z : p < 4
      · have := c.2.1 z; omega
      · have := c.2.2 z; omega
    · rw [cp n hn] at e2
      by_cases z : p < 4
      · have := hb4 z; omega
      · have g2 : ty_par p = (p - 4) / 4 := if_pos hp
        omega
  refine ⟨fun j => if j < h then w j else b + (3 - (j - h)), fun j hj => ?_, fun j l hj hl hne => ?_, ?_⟩
  · by_cases z : j < h
    · have t := T.1 j z
      show (if j < h then w j else b + (3 - (j - h))) < 84 ∧ ty_p4 pb h b j = nI (if j < h then w j else b + (3 - (j - h))) ∧ ty_p4 tk h b j = nI (if j < h then w j else b + (3 - (j - h))) ∧ ty_Hq (upd A (168 + p) 2) 0 (if j < h then w j else b + (3 - (j - h))) ∧ ty_Hq (upd A (168 + p) 2) 1 (if j < h then w j else b + (3 - (j - h))) ∧ ty_Hq (upd A (168 + p) 2) 2 (if j < h then w j else b + (3 - (j - h)))
      rw [if_pos z, ty_p4_o pb z, ty_p4_o tk z]
      exact t
    · obtain ⟨l, rfl⟩ : ∃ l, j = h + l := ⟨j - h, by omega⟩
      have hl : l < 4 := by omega
      have e : (if h + l < h then w (h + l) else b + (3 - (h + l - h))) = b + (3 - l) := by
        rw [if_neg (by omega), Nat.add_sub_cancel_left]
      show (if h + l < h then w (h + l) else b + (3 - (h + l - h))) < 84 ∧ ty_p4 pb h b (h + l) = nI (if h + l < h then w (h + l) else b + (3 - (h + l - h))) ∧ ty_p4 tk h b (h + l) = nI (if h + l < h then w (h + l) else b + (3 - (h + l - h))) ∧ ty_Hq (upd A (168 + p) 2) 0 (if h + l < h then w (h + l) else b + (3 - (h + l - h))) ∧ ty_Hq (upd A (168 + p) 2) 1 (if h + l < h then w (h + l) else b + (3 - (h + l - h))) ∧ ty_Hq (upd A (168 + p) 2) 2 (if h + l < h then w (h + l) else b + (3 - (h + l - h)))
      rw [e]
      have g := cp (3 - l) (by omega)
      refine ⟨by omega, ty_p4_i pb h b l hl, ty_p4_i tk h b l hl, Or.inr ?_, Or.inr ?_, Or.inr ?_⟩
      · rw [g, pk_un (by omega), Nat.mul_zero, Nat.zero_add]; exact h0
      · rw [g, pk_un (by omega), Nat.mul_one]; exact h1
      · rw [g]; exact pk_us
  · show (if j < h then w j else b + (3 - (j - h))) ≠ (if l < h then w l else b + (3 - (l - h))) ∧ ¬ ty_Sb (if j < h then w j else b + (3 - (j - h))) (if l < h then w l else b + (3 - (l - h)))
    by_cases z : j < h
    · rw [if_pos z]
      by_cases y : l < h
      · rw [if_pos y]; exact S.2.1 j l (by omega) (by omega) hne
      · rw [if_neg y]
        have a := k1 j (3 - (l - h)) z (by omega)
        exact ⟨a.1, a.2.1⟩
    · rw [if_neg z]
      by_cases y : l < h
      · rw [if_pos y]
        have a := k1 l (3 - (j - h)) y (by omega)
        exact ⟨fun e => a.1 e.symm, a.2.2⟩
      · rw [if_neg y]
        exact ⟨by omega, k2 _ _ (by omega) (by omega)⟩
  · have e : ty_cnt (fun j => ty_wg (w j)) (h + 1) = ty_cnt (fun j => ty_wg (w j)) h + ty_wg p := by rw [ep]; rfl
    have hs := S.2.2
    have e2 : ty_cnt (fun j => ty_wg (if j < h then w j else b + (3 - (j - h)))) h = ty_cnt (fun j => ty_wg (w j)) h :=
      ty_cnt_cg h fun j hj => by
        show ty_wg (if j < h then w j else b + (3 - (j - h))) = ty_wg (w j)
        rw [if_pos hj]
    have e3 : ∀ l, l < 4 → ty_wg (if h + l < h then w (h + l) else b + (3 - (h + l - h))) + 4 * ty_wg (b + (3 - l)) + 1 ≤ ty_wg (b + (3 - l)) + ty_wg p := by
      intro l hl
      rw [if_neg (by omega), Nat.add_sub_cancel_left]
      unfold ty_wg
      by_cases z : p < 4
      · have := hb4 z
        rw [if_neg (by omega), if_pos (by omega), if_pos z]; omega
      · have := hb20 z
        rw [if_neg (by omega), if_neg (by omega), if_neg z, if_pos hp]; omega
    have e4 : ∀ l, l < 4 → ty_wg (if h + l < h then w (h + l) else b + (3 - (h + l - h))) = ty_wg (b + (3 - l)) := by
      intro l hl
      rw [if_neg (by omega), Nat.add_sub_cancel_left]
    have s0 := e3 0 (by omega)
    have s1 := e3 1 (by omega)
    have s2 := e3 2 (by omega)
    have s3 := e3 3 (by omega)
    rw [e4 0 (by omega)] at s0
    rw [e4 1 (by omega)] at s1
    rw [e4 2 (by omega)] at s2
    rw [e4 3 (by omega)] at s3
    have e5 : ty_cnt (fun j => ty_wg (if j < h then w j else b + (3 - (j - h)))) (h + 4) = ty_cnt (fun j => ty_wg (if j < h then w j else b + (3 - (j - h)))) h + ty_wg (if h + 0 < h then w (h + 0) else b + (3 - (h + 0 - h))) + ty_wg (if h + 1 < h then w (h + 1) else b + (3 - (h + 1 - h))) + ty_wg (if h + 2 < h then w (h + 2) else b + (3 - (h + 2 - h))) + ty_wg (if h + 3 < h then w (h + 3) else b + (3 - (h + 3 - h))) := rfl
    rw [e4 0 (by omega), e4 1 (by omega), e4 2 (by omega), e4 3 (by omega), e2] at e5
    rw [e5]
    omega
/-- the two sides of an action's rows -/
theorem ty_Tr_sub {m : Nat} {K N I R A B : Nat → Int32} (P : ty_Po m K N I) (Z : ty_Tr m K N I R A B) {t p u q c : Nat} (htu : t ≠ u) (hu : u < 9) (hq : q < 84) (hX : ty_Src K N I A B t p c) (hc : ty_at I (ty_rt R u) q = c) :
    ty_Tr m K N I R (ty_pu (ty_eA A u q 21) t p u q 21) (ty_pu B t p u q 21) := by
  intro w hw
  refine ⟨(Z w hw).1, ?_⟩
  have z := (Z w hw).2
  refine ⟨z.1, z.2.1, z.2.2.1, fun x hx => ?_⟩
  show ty_pu (ty_eA A u q 21) t p u q 21 (84 * w + x) = _ ∧ (ty_pu (ty_eA A u q 21) t p u q 21 (84 * w + x) = 1 → ty_pu B t p u q 21 (84 * w + x) = _)
  by_cases h : w = u ∧ ∃ k, k < 21 ∧ x = ty_pt q k
  · obtain ⟨rfl, k, hk, rfl⟩ := h
    rw [ty_pu_i _ htu hq 21 k (by omega) hk hx, ty_pu_i _ htu hq 21 k (by omega) hk hx, ty_eA_k A htu, ty_at_pt P z.2.2.1 hq k hk, hc]
    exact hX k hk
  · have ne : ∀ j, j < 21 → ty_pt q j < 84 → 84 * w + x ≠ 84 * u + ty_pt q j := by
      intro j hj hb e
      exact h ⟨by omega, j, hj, by omega⟩
    rw [ty_pu_o _ 21 ne, ty_pu_o _ 21 ne, ty_eA_o A 21 ne]
    exact z.2.2.2 x hx
section
variable {m : Nat} {pf pl ac cc al st dp : Int32} {K N I T rn R kp pb ap sd cp wy na : Nat → Int32} {A B : Nat → Int32}
theorem ty_xact {Q : SX → Prop} {s p a : Nat} (P : ty_Pl m K N I T) (hm : m + 8 ≤ 1024) (Z : ty_Tr m K N I R A B) (hs : s < 2) (hp : p < 84) (Hs : ty_Hq A s p) (H2 : ty_Hq A 2 p) (ha : a < 84)
    (h0 : nI a = al → Q (nI m, pf, pl, nI a, cc, al, 1, dp, K, N, I, T, rn, R, kp, pb, ap, sd, cp, wy, na))
    (h1 : ¬ nI a = al → ∀ m K N I T R dp wy na, ty_Pl m K N I T → ty_Tr m K N I R (ty_AA A s p) (ty_BB B s p) → Q (nI m, pf, pl, nI (a + 1), cc, al, st, dp, K, N, I, T, rn, R, kp, pb, upd ap a (nI p), upd sd a (nI s), cp, wy, na)) :
    wpX_act Q (nI m, pf, pl, nI a, cc, al, st, dp, K, N, I, T, rn, R, kp, pb, ap, sd, cp, wy, na) (nI p) (nI s) (nI (ty_at I (ty_rt R (1 - s)) p)) := by
  refine br_c h0 (fun e => ⟨vp_in_nI ha (by decide), ?_⟩)
  rw [nI_clamp (show a < 2 ^ 31 by omega)]
  refine nm_e ⟨vp_in_nI ha (by decide), nm_e (nm_r (nI_1 a) ?_)⟩
  have z := Z s (by omega)
  have hc := ty_tr_lt P.1 Z (show 1 - s < 9 by omega) p
  have X0 := ty_tr_src P.1 Z (show 1 - s < 9 by omega) hp
  refine ty_setContent P (by omega) z.1 z.2.1 (by omega) hp hc fun m2 K2 N2 I2 T2 sq dp wy na P2 E2 hm2 hS2 => ?_
  have Z2 := ty_Tr_put P.1 P2.1 E2 Z (show 1 - s ≠ s by omega) (by omega) hp hc (ty_HdL (Z (1 - s) (by omega)).2.2.2.1 p hp) ((ty_tr_Hp Z (by omega) hp).mp Hs) hS2 X0
  have e1 : ty_at I2 (ty_rt (upd R s (nI (sq 0))) (1 - s)) p = ty_at I (ty_rt R (1 - s)) p := by
    rw [ty_rt_un (show 1 - s ≠ s by omega)]
    exact ty_ex_at P.1 E2 (Z (1 - s) (by omega)).2.1 p
  have X2 := ty_tr_src P2.1 Z2 (show 1 - s < 9 by omega) hp
  rw [e1] at X2
  have z2 := Z2 2 (by omega)
  have hc2 : ty_at I (ty_rt R (1 - s)) p < m2 := by have := E2.1; omega
  have hd := ty_HdL (Z2 (1 - s) (by omega)).2.2.2.1 p hp
  rw [e1] at hd
  refine ty_setContent (t := 2) P2 (by omega) z2.1 z2.2.1 (by omega) hp hc2 fun m3 K3 N3 I3 T3 sq3 dp wy na P3 E3 hm3 hS3 => ?_
  refine h1 e m3 K3 N3 I3 T3 _ _ _ _ P3 ?_
  refine ty_Tr_put P2.1 P3.1 E3 Z2 (show 1 - s ≠ 2 by omega) (by omega) hp hc2 hd ((ty_tr_Hp Z2 (by omega) hp).mp ?_) hS3 X2
  by_cases p4 : p < 4
  · exact Or.inl p4
  · have hl := ty_par_lt p4 hp
    refine Or.inr ?_
    rw [ty_pu_o _ 21 (fun j hj hb => by omega), ty_eA_o A 21 (fun j hj hb => by omega)]
    exact H2.resolve_left p4
theorem ty_pileInside {Q : SX → Prop} {h p : Nat} (hp : p < 20) (hh : h + 4 ≤ 90) (g : Q (nI m, pf, nI (h + 4), ac, cc, al, st, dp, K, N, I, T, rn, R, kp, ty_p4 pb h (ty_cl p 0), ap, sd, cp, wy, na)) : wpX_pileInside Q (nI m, pf, nI h, ac, cc, al, st, dp, K, N, I, T, rn, R, kp, pb, ap, sd, cp, wy, na) (nI p) := by
  have c := ty_clf hp
  have key : ∀ x, x = ty_cl p 0 → ∃ n31 : Nat, wX_pileInside_31 Q (nI x) (nI m) pf ac cc al st dp n31 3 (nI h) K N I T rn R kp pb ap sd cp wy na := by
    intro x ex
    have a3 : nI x + 3 = nI (x + 3) := nI_add x 3
    have a2 : nI x + nI 2 = nI (x + 2) := nI_add x 2
    have a1 : nI x + nI 1 = nI (x + 1) := nI_add x 1
    have a0 : nI x + nI 0 = nI x := nI_add x 0
    refine ⟨5, br_f (by decide) ⟨vp_in_nI (by omega) (by decide), ?_⟩⟩
    rw [nI_clamp (show h < 2 ^ 31 by omega), a3]
    refine nm_e (nm_r (nI_1 h) (nm_r (e' := nI 2) (by decide) ?_))
    refine br_f (by decide) ⟨vp_in_nI (by omega) (by decide), ?_⟩
    rw [nI_clamp (show h + 1 < 2 ^ 31 by omega), a2]
    refine nm_e (nm_r (nI_1 _) (nm_r (e' := nI 1) (by decide) ?_))
    refine br_f (by decide) ⟨vp_in_nI (by omega) (by decide), ?_⟩
    rw [nI_clamp (show h + 1 + 1 < 2 ^ 31 by omega), a1]
    refine nm_e (nm_r (nI_1 _) (nm_r (e' := nI 0) (by decide) ?_))
    refine br_f (by decide) ⟨vp_in_nI (by omega) (by decide), ?_⟩
    rw [nI_clamp (show h + 1 + 1 + 1 < 2 ^ 31 by omega), a0]
    refine nm_e (nm_r (nI_1 _) (nm_r (e' := -1) (by decide) ?_))
    subst ex
    exact br_t (by decide) g
  refine br_t (nI_lt (b := 20) hp (by decide)) ?_
  by_cases h4 : p < 4
  · refine br_f (nI_ge (b := 4) h4 (by decide)) (nm_r (e' := nI (4 + 4 * p)) ?_ (key _ (c.2.1 h4).symm))
    rw [ty_m4]; exact nI_add 4 _
  · refine br_t (nI_le (a := 4) (by omega) (by omega)) (nm_r (e' := nI (20 + 4 * (p - 4))) ?_ (key _ (c.2.2 h4).symm))
    have e0 : nI p - 4 = nI (p - 4) := pk_sub (b := 4) (by omega)
    rw [e0, ty_m4]; exact nI_add 20 _
end
end
section
/-! stepping: a path on both sides, the loop in lockstep -/
def ty_Ac (a c : Nat) (ap sd cp yp ys yq : Nat → Int32) : Prop := (∀ j, j < a → ap j = yp j ∧ sd j = ys j) ∧ ∀ j, j < c → cp j = yq j
theorem ty_Ac_a {a c : Nat} {ap sd cp yp ys yq : Nat → Int32} (h : ty_Ac a c ap sd cp yp ys yq) (x y : Int32) : ty_Ac (a + 1) c (upd ap a x) (upd sd a y) cp (upd yp a x) (upd ys a y) yq := by
  refine ⟨fun j hj => ?_, h.2⟩
  by_cases e : j = a
  · subst e; rw [pk_us, pk_us, pk_us, pk_us]; exact ⟨rfl, rfl⟩
  · rw [pk_un e, pk_un e, pk_un e, pk_un e]; exact h.1 j (by omega)
theorem ty_Ac_c {a c : Nat} {ap sd cp yp ys yq : Nat → Int32} (h : ty_Ac a c ap sd cp yp ys yq) (x : Int32) : ty_Ac a (c + 1) ap sd (upd cp c x) yp ys (upd yq c x) := by
  refine ⟨h.1, fun j hj => ?_⟩
  by_cases e : j = c
  · subst e; rw [pk_us, pk_us]
  · rw [pk_un e, pk_un e]; exact h.2 j (by omega)
/-- it goes on -/
def ty_Go (pf al x : Int32) (kp : Nat → Int32) (i : Nat) (Yr : Nat → (SY → Prop) → Prop) (Q : SX → Prop) : Prop :=
  ∀ (h a c m : Nat) (w : Nat → Nat) (dp : Int32) (K N I T rn R pb ap sd cp wy na A B tk yp ys yq : Nat → Int32), ty_Pl m K N I T → ty_Tr m K N I R A B → ty_Stk A pb tk h i w → ty_Ac a c ap sd cp yp ys yq → a ≤ i → c ≤ i →
    (∀ n post, wY_goOver_34 post x n (nI h) pf (nI a) (nI c) A B kp tk yp ys yq → Yr n post) → Q (nI m, pf, nI h, nI a, nI c, al, 0, dp, K, N, I, T, rn, R, kp, pb, ap, sd, cp, wy, na)
/-- it stops -/
def ty_Sto (pf al x : Int32) (kp : Nat → Int32) (i : Nat) (Yr : Nat → (SY → Prop) → Prop) (Q : SX → Prop) : Prop :=
  ∀ (a c m : Nat) (pl dp : Int32) (K N I T rn R pb ap sd cp wy na A B tk yp ys yq : Nat → Int32), ty_Pl m K N I T → ty_Tr m K N I R A B → ty_Ac a c ap sd cp yp ys yq → a ≤ i → c ≤ i →
    (∀ n post, wY_goOver_34 post x n 0 pf (nI a) (nI c) A B kp tk yp ys yq → Yr n post) → Q (nI m, pf, pl, nI a, nI c, al, 1, dp, K, N, I, T, rn, R, kp, pb, ap, sd, cp, wy, na)
/-- the end of a stepping -/
def ty_Fin (pf al : Int32) (kp : Nat → Int32) (Yr : (SY → Prop) → Prop) (Q : SX → Prop) : Prop :=
  ∀ (a c m : Nat) (pl st dp : Int32) (K N I T rn R pb ap sd cp wy na A B tk yp ys yq : Nat → Int32), ty_Pl m K N I T → ty_Tr m K N I R A B → ty_Ac a c ap sd cp yp ys yq → a ≤ 84 → c ≤ 84 →
    (∀ post, post (pf, nI a, nI c, A, B, kp, tk, yp, ys, yq) → Yr post) → Q (nI m, pf, pl, nI a, nI c, al, st, dp, K, N, I, T, rn, R, kp, pb, ap, sd, cp, wy, na)
section
variable {m : Nat} {pf pl ac cc al st dp ya yc : Int32} {K N I T rn R kp pb ap sd cp wy na A B tk yp ys yq : Nat → Int32}
theorem ty_sp73 {Q : SX → Prop} {x : Int32} {h i a c p : Nat} {w : Nat → Nat} {Yr : Nat → (SY → Prop) → Prop} (P : ty_Pl m K N I T) (hm : m + 16 ≤ 1024) (Z : ty_Tr m K N I R A B) (F : ty_Pf pf) (S : ty_Stk A pb tk (h + 1) i w) (hpw : w h = p) (C : ty_Ac a c ap sd cp yp ys yq) (ha : a ≤ i) (hc : c ≤ i)
    (hlim : ∀ a, a < 84 → (nI a = al ↔ nI a = x)) (hn1 : ¬ ty_Sm A B 0 p 1 p) (hn2 : ¬ (A p = 2 ∧ A (84 + p) = 2))
    (hYr : ∀ n post, Yr n post = wY_goOver_34 post x (n + 1) (nI (h + 1)) pf (nI a) (nI c) A B kp tk yp ys yq)
    (G : ty_Go pf al x kp (i + 1) Yr Q) (E : ty_Sto pf al x kp (i + 1) Yr Q) :
    wX_stepPath_73 Q (nI p) (nI (ty_at I (ty_rt R 0) p)) (nI (ty_at I (ty_rt R 1) p)) (nI (ty_at I (ty_rt R 2) p)) (nI m) pf (nI h) (nI a) (nI c) al 0 dp K N I T rn R kp pb ap sd cp wy na := by
  have hl := ty_Stk_h S
  have s := S.1 h (by omega)
  rw [hpw] at s
  have hp := s.1
  have hm1 := P.1.2.1
  have la := ty_tr_lt P.1 Z (show 0 < 9 by omega) p
  have lb := ty_tr_lt P.1 Z (show 1 < 9 by omega) p
  have ll := ty_tr_lt P.1 Z (show 2 < 9 by omega) p
  have m02 := ty_tr_Sm P.1 Z (show 0 < 9 by omega) (show 2 < 9 by omega) hp hp
  have m12 := ty_tr_Sm P.1 Z (show 1 < 9 by omega) (show 2 < 9 by omega) hp hp
  have pop : ∀ s, ty_Stk (ty_AA A s p) pb tk h (i + 1) w := fun s => ty_Stk_pop S (by rw [hpw]; exact ty_Un_AA A s p)
  have pop0 : ty_Stk A pb tk h (i + 1) w := ty_Stk_pop S (ty_Un_rf _ A)
  refine pk_eq _ _ (fun e => ?_) (fun e => ?_)
  · refine ty_xact (s := 0) P (by omega) Z (by omega) hp s.2.2.2.1 s.2.2.2.2.2 (by omega) (fun q => ?_) (fun q m K N I T R dp wy na P Z => ?_)
    · refine E a c m _ dp K N I T rn R pb ap sd cp wy na A B tk yp ys yq P Z C (by omega) (by omega) fun n post g => ?_
      rw [hYr]
      exact ty_y_c3 (by omega) hp (by omega) s.2.2.1 hn1 hn2 (m02.mpr e) (fun _ => g) (fun y => absurd ((hlim a (by omega)).mp q) y)
    · refine G h (a + 1) c m w dp K N I T rn R pb _ _ cp wy na _ _ tk _ _ yq P Z (pop 0) (ty_Ac_a C _ _) (by omega) (by omega) fun n post g => ?_
      rw [hYr]
      exact ty_y_c3 (by omega) hp (by omega) s.2.2.1 hn1 hn2 (m02.mpr e) (fun y => absurd ((hlim a (by omega)).mpr y) q) (fun _ => g)
  · refine pk_eq _ _ (fun e2 => ?_) (fun e2 => ?_)
    · refine ty_xact (s := 1) P (by omega) Z (by omega) hp s.2.2.2.2.1 s.2.2.2.2.2 (by omega) (fun q => ?_) (fun q m K N I T R dp wy na P Z => ?_)
      · refine E a c m _ dp K N I T rn R pb ap sd cp wy na A B tk yp ys yq P Z C (by omega) (by omega) fun n post g => ?_
        rw [hYr]
        exact ty_y_c4 (by omega) hp (by omega) s.2.2.1 hn1 hn2 (fun y => e (m02.mp y)) (m12.mpr e2) (fun _ => g) (fun y => absurd ((hlim a (by omega)).mp q) y)
      · refine G h (a + 1) c m w dp K N I T rn R pb _ _ cp wy na _ _ tk _ _ yq P Z (pop 1) (ty_Ac_a C _ _) (by omega) (by omega) fun n post g => ?_
        rw [hYr]
        exact ty_y_c4 (by omega) hp (by omega) s.2.2.1 hn1 hn2 (fun y => e (m02.mp y)) (m12.mpr e2) (fun y => absurd ((hlim a (by omega)).mpr y) q) (fun _ => g)
    · have n02 : ¬ ty_Sm A B 0 p 2 p := fun y => e (m02.mp y)
      have n12 : ¬ ty_Sm A B 1 p 2 p := fun y => e2 (m12.mp y)
      refine ⟨vp_in_nI (by omega) (by decide), ?_⟩
      rw [nI_clamp (show c < 2 ^ 31 by omega)]
      refine nm_e (nm_r (nI_1 c) ?_)
      rcases F with f | f | f
      · subst f
        refine br_f (by decide) (br_f (by decide) ?_)
        refine G h a (c + 1) m w dp K N I T rn R pb ap sd _ wy na A B tk yp ys _ P Z pop0 (ty_Ac_c C _) (by omega) (by omega) fun n post g => ?_
        rw [hYr]
        exact ty_y_c5a (by omega) hp (by omega) s.2.2.1 hn1 hn2 n02 n12 g
      · subst f
        refine br_t rfl (ty_xact (s := 1) P (by omega) Z (by omega) hp s.2.2.2.2.1 s.2.2.2.2.2 (by omega) (fun q => ?_) (fun q m K N I T R dp wy na P Z => ?_))
        · refine E a (c + 1) m _ dp K N I T rn R pb ap sd _ wy na A B tk yp ys _ P Z (ty_Ac_c C _) (by omega) (by omega) fun n post g => ?_
          rw [hYr]
          exact ty_y_c5b (s := 0) (by omega) (by omega) hp (by omega) (by omega) s.2.2.1 hn1 hn2 n02 n12 (fun _ => g) (fun y => absurd ((hlim a (by omega)).mp q) y)
        · refine G h (a + 1) (c + 1) m w dp K N I T rn R pb _ _ _ wy na _ _ tk _ _ _ P Z (pop 1) (ty_Ac_a (ty_Ac_c C _) _ _) (by omega) (by omega) fun n post g => ?_
          rw [hYr]
          exact ty_y_c5b (s := 0) (by omega) (by omega) hp (by omega) (by omega) s.2.2.1 hn1 hn2 n02 n12 (fun y => absurd ((hlim a (by omega)).mpr y) q) (fun _ => g)
      · subst f
        refine br_f (by decide) (br_t rfl (ty_xact (s := 0) P (by omega) Z (by omega) hp s.2.2.2.1 s.2.2.2.2.2 (by omega) (fun q => ?_) (fun q m K N I T R dp wy na P Z => ?_)))
        · refine E a (c + 1) m _ dp K N I T rn R pb ap sd _ wy na A B tk yp ys _ P Z (ty_Ac_c C _) (by omega) (by omega) fun n post g => ?_
          rw [hYr]
          exact ty_y_c5b (s := 1) (by omega) (by omega) hp (by omega) (by omega) s.2.2.1 hn1 hn2 n02 n12 (fun _ => g) (fun y => absurd ((hlim a (by omega)).mp q) y)
        · refine G h (a + 1) (c + 1) m w dp K N I T rn R pb _ _ _ wy na _ _ tk _ _ _ P Z (pop 0) (ty_Ac_a (ty_Ac_c C _) _ _) (by omega) (by omega) fun n post g => ?_
          rw [hYr]
          exact ty_y_c5b (s := 1) (by omega) (by omega) hp (by omega) (by omega) s.2.2.1 hn1 hn2 n02 n12 (fun y => absurd ((hlim a (by omega)).mpr y) q) (fun _ => g)
theorem ty_spF {Q : SX → Prop} {x : Int32} {h i a c p : Nat} {w : Nat → Nat} {Yr : Nat → (SY → Prop) → Prop} (P : ty_Pl m K N I T) (hm : m + 16 ≤ 1024) (Z : ty_Tr m K N I R A B) (S : ty_Stk A pb tk (h + 1) i w) (hpw : w h = p) (C : ty_Ac a c ap sd cp yp ys yq) (ha : a ≤ i) (hc : c ≤ i)
    (hn1 : ¬ ty_Sm A B 0 p 1 p) (h0 : A p = 2) (h1 : A (84 + p) = 2)
    (hYr : ∀ n post, Yr n post = wY_goOver_34 post x (n + 1) (nI (h + 1)) pf (nI a) (nI c) A B kp tk yp ys yq)
    (G : ty_Go pf al x kp (i + 1) Yr Q) :
    wpX_stepFolder Q (nI m, pf, nI h, nI a, nI c, al, 0, dp, K, N, I, T, rn, R, kp, pb, ap, sd, cp, wy, na) (nI p) (nI (ty_at I (ty_rt R 2) p)) := by
  have hl := ty_Stk_h S
  have s := S.1 h (by omega)
  rw [hpw] at s
  have hp := s.1
  have hm1 := P.1.1
  have la := ty_tr_lt P.1 Z (show 0 < 9 by omega) p
  have lb := ty_tr_lt P.1 Z (show 1 < 9 by omega) p
  have ll := ty_tr_lt P.1 Z (show 2 < 9 by omega) p
  have a0 := ty_tr_A Z (show 0 < 9 by omega) hp
  have a1 := ty_tr_A Z (show 1 < 9 by omega) hp
  have a2 := ty_tr_A Z (show 2 < 9 by omega) hp
  rw [Nat.mul_zero, Nat.zero_add] at a0
  rw [Nat.mul_one] at a1
  have hp20 : p < 20 := by
    refine Classical.byContradiction fun z => hn1 ((ty_tr_Sm P.1 Z (show 0 < 9 by omega) (show 1 < 9 by omega) hp hp).mpr ?_)
    have d0 := ty_HdL (Z 0 (by omega)).2.2.2.1 p hp
    have d1 := ty_HdL (Z 1 (by omega)).2.2.2.1 p hp
    rw [ty_lv3 z] at d0 d1
    refine ty_eqc P.1 la lb (by rw [← a0, ← a1, h0, h1]) (fun y => ?_) (fun n hn => ?_)
    · rw [← a0, h0] at y; exact absurd y (by decide)
    · exact (d0 n hn).trans (d1 n hn).symm
  have push : ∃ w', ty_Stk (upd A (168 + p) 2) (ty_p4 pb h (ty_cl p 0)) (ty_p4 tk h (ty_cl p 0)) (h + 4) (i + 1) w' := by
    have q := ty_Stk_push S (by rw [hpw]; exact hp20) (by rw [hpw]; exact h0) (by rw [hpw]; exact h1)
    rw [hpw] at q; exact q
  obtain ⟨w', S'⟩ := push
  have hl' := ty_Stk_h S'
  have hy : ∀ n post, wY_goOver_34 post x n (nI (h + 4)) pf (nI a) (nI c) (upd A (168 + p) 2) B kp (ty_p4 tk h (ty_cl p 0)) yp ys yq → Yr n post := by
    intro n post g
    rw [hYr]
    exact ty_y_c2 (by omega) hp20 s.2.2.1 hn1 h0 h1 g
  refine ⟨vp_in_nI (by omega) (by decide), ?_⟩
  rw [nI_clamp (show ty_at I (ty_rt R 2) p < 2 ^ 31 by omega)]
  refine br_c (fun e => ?_) (fun e => ?_)
  · have Z' : ty_Tr m K N I R (upd A (168 + p) 2) B := by
      refine ty_Tr_cg Z (fun j hj => ?_) (fun _ _ => rfl)
      by_cases y : j = 168 + p
      · rw [y, pk_us, ← e, ← a2]
      · exact pk_un y
    exact ty_pileInside hp20 (by omega) (G (h + 4) a c m w' dp K N I T rn R _ ap sd cp wy na _ B _ yp ys yq P Z' S' C (by omega) (by omega) hy)
  · refine ty_content P (by omega) 2 0 (fun _ => 0) (fun n _ => by omega) (Or.inr ⟨rfl, rfl⟩) fun d m2 K2 N2 I2 T2 P2 D => ?_
    have hm2 : m2 ≤ m + 1 := by rcases D.2.2.2.1 with z | z <;> omega
    have Z2 := ty_Tr_ex P.1 D.1 Z
    have z2 := Z2 2 (by omega)
    refine ty_setContent (t := 2) P2 (by omega) z2.1 z2.2.1 (by omega) hp D.2.2.1 fun m3 K3 N3 I3 T3 sq dp wy na P3 E3 hm3 hS => ?_
    have Z3 : ty_Tr m3 K3 N3 I3 (upd R 2 (nI (sq 0))) (upd A (168 + p) 2) B := by
      refine ty_Tr_leaf P2.1 P3.1 E3 Z2 (t := 2) (by omega) hp (fun n hn => ?_) ((ty_tr_Hp Z2 (by omega) hp).mp s.2.2.2.2.2) hS ?_ ⟨?_, fun y => ?_⟩ (fun j hj => ⟨pk_un hj, rfl⟩)
      · rw [ty_ex_ch E3 D.2.2.1 hn]
        show (I2 (4 * d + n)).toNatClampNeg = 0
        rw [D.2.2.2.2.2.2 n hn]; exact ty_c0
      · rw [← ty_tr_A Z2 (by omega) hp, a2]; exact e
      · rw [ty_ex_K E3 D.2.2.1, D.2.2.2.2.1]; exact pk_us
      · have y2 : (2 : Int32) = 1 := (pk_us (f := A) (k := 168 + p) (x := 2)).symm.trans y
        exact absurd y2 (by decide)
    exact ty_pileInside hp20 (by omega) (G (h + 4) a c m3 w' dp K3 N3 I3 T3 rn _ _ ap sd cp wy na _ B _ yp ys yq P3 Z3 S' C (by omega) (by omega) hy)
theorem ty_stepPath {Q : SX → Prop} {x : Int32} {h i a c p : Nat} {w : Nat → Nat} {Yr : Nat → (SY → Prop) → Prop} (P : ty_Pl m K N I T) (hm : m + 16 ≤ 1024) (Z : ty_Tr m K N I R A B) (F : ty_Pf pf) (S : ty_Stk A pb tk (h + 1) i w) (hpw : w h = p) (C : ty_Ac a c ap sd cp yp ys yq) (ha : a ≤ i) (hc : c ≤ i)
    (hlim : ∀ a, a < 84 → (nI a = al ↔ nI a = x))
    (hYr : ∀ n post, Yr n post = wY_goOver_34 post x (n + 1) (nI (h + 1)) pf (nI a) (nI c) A B kp tk yp ys yq)
    (G : ty_Go pf al x kp (i + 1) Yr Q) (E : ty_Sto pf al x kp (i + 1) Yr Q) :
    wpX_stepPath Q (nI m, pf, nI h, nI a, nI c, al, 0, dp, K, N, I, T, rn, R, kp, pb, ap, sd, cp, wy, na) (nI p) := by
  have hl := ty_Stk_h S
  have s := S.1 h (by omega)
  rw [hpw] at s
  have hp := s.1
  have hm1 := P.1.2.1
  have la := ty_tr_lt P.1 Z (show 0 < 9 by omega) p
  have lb := ty_tr_lt P.1 Z (show 1 < 9 by omega) p
  have ll := ty_tr_lt P.1 Z (show 2 < 9 by omega) p
  have a0 := ty_tr_A Z (show 0 < 9 by omega) hp
  have a1 := ty_tr_A Z (show 1 < 9 by omega) hp
  rw [Nat.mul_zero, Nat.zero_add] at a0
  rw [Nat.mul_one] at a1
  have z0 := Z 0 (by omega)
  have z1 := Z 1 (by omega)
  have z2 := Z 2 (by omega)
  have m01 := ty_tr_Sm P.1 Z (show 0 < 9 by omega) (show 1 < 9 by omega) hp hp
  have X0 := ty_tr_src P.1 Z (show 0 < 9 by omega) hp
  have pop : ty_Stk (ty_pu (ty_eA A 2 p 21) 0 p 2 p 21) pb tk h (i + 1) w := ty_Stk_pop S (by rw [hpw]; exact ty_Un_pu A)
  unfold wpX_stepPath
  refine ty_contentAt (t := 0) P.1 z0.1 z0.2.1 (by omega) hp fun dp wy na => ?_
  refine ty_contentAt (t := 1) P.1 z1.1 z1.2.1 (by omega) hp fun dp wy na => ?_
  refine ty_contentAt (t := 2) P.1 z2.1 z2.2.1 (by omega) hp fun dp wy na => ?_
  rw [nI_clamp (show ty_at I (ty_rt R 0) p < 2 ^ 31 by omega), nI_clamp (show ty_at I (ty_rt R 1) p < 2 ^ 31 by omega)]
  refine pk_eq _ _ (fun e => pk_eq _ _ (fun e2 => ?_) (fun e2 => ?_)) (fun e => ⟨vp_in_nI (by omega) (by decide), br_c (fun f0 => ⟨vp_in_nI (by omega) (by decide), br_c (fun f1 => ?_) (fun f1 => ?_)⟩) (fun f0 => ?_)⟩)
  · refine G h a c m w dp K N I T rn R pb ap sd cp wy na _ _ tk yp ys yq P (ty_Tr_sub P.1 Z (by omega) (by omega) hp X0 e2) pop C (by omega) (by omega) fun n post g => ?_
    rw [hYr]
    exact ty_y_c1 (by omega) hp s.2.2.1 (m01.mpr e) g
  · refine ty_setContent (t := 2) P (by omega) z2.1 z2.2.1 (by omega) hp la fun m3 K3 N3 I3 T3 sq dp wy na P3 E3 hm3 hS => ?_
    refine G h a c m3 w dp K3 N3 I3 T3 rn _ pb ap sd cp wy na _ _ tk yp ys yq P3 (ty_Tr_put P.1 P3.1 E3 Z (by omega) (by omega) hp la (ty_HdL z0.2.2.2.1 p hp) ((ty_tr_Hp Z (by omega) hp).mp s.2.2.2.2.2) hS X0) pop C (by omega) (by omega) fun n post g => ?_
    rw [hYr]
    exact ty_y_c1 (by omega) hp s.2.2.1 (m01.mpr e) g
  · exact ty_spF P hm Z S hpw C ha hc (fun y => e (m01.mp y)) (a0.trans f0) (a1.trans f1) hYr G
  · exact ty_sp73 P hm Z F S hpw C ha hc hlim (fun y => e (m01.mp y)) (fun y => f1 (a1.symm.trans y.2)) hYr G E
  · exact ty_sp73 P hm Z F S hpw C ha hc hlim (fun y => e (m01.mp y)) (fun y => f0 (a0.symm.trans y.1)) hYr G E
end
end
section
/-! stepping: the loops and what is asked of them -/
theorem ty_lp {pf al x : Int32} {kp : Nat → Int32} (F : ty_Pf pf) (hlim : ∀ a, a < 84 → (nI a = al ↔ nI a = x)) (Q : SX → Prop) :
    ∀ (d i h a c m : Nat) (w : Nat → Nat) (dp : Int32) (K N I T rn R pb ap sd cp wy na A B tk yp ys yq : Nat → Int32), i ≤ 84 → 84 - i < d → ty_Pl m K N I T → ty_Tr m K N I R A B → ty_Stk A pb tk h i w → ty_Ac a c ap sd cp yp ys yq → a ≤ i → c ≤ i →
      ty_Fin pf al kp (fun post => wY_goOver_34 post x d (nI h) pf (nI a) (nI c) A B kp tk yp ys yq) Q → wX_stepAll_59 Q d (nI i) (nI m) pf (nI h) (nI a) (nI c) al 0 dp K N I T rn R kp pb ap sd cp wy na := by
  intro d
  induction d with
  | zero => intro i h a c m w dp K N I T rn R pb ap sd cp wy na A B tk yp ys yq _ h; omega
  | succ d ih =>
    intro i h a c m w dp K N I T rn R pb ap sd cp wy na A B tk yp ys yq hi hd P Z S C ha hc fin
    have hl := ty_Stk_h S
    by_cases e : h = 0
    · subst e
      have ex : Q (nI m, pf, nI 0, nI a, nI c, al, 0, dp, K, N, I, T, rn, R, kp, pb, ap, sd, cp, wy, na) := fin a c m _ 0 dp K N I T rn R pb ap sd cp wy na A B tk yp ys yq P Z C (by omega) (by omega) fun post g => br_t (nI_le (b := 0) (Nat.le_refl _) (by decide)) g
      exact pk_le 84 i (fun _ => ex) (fun _ => br_t (nI_le (b := 0) (Nat.le_refl _) (by decide)) ex)
    · obtain ⟨h, rfl⟩ : ∃ j, h = j + 1 := ⟨h - 1, by omega⟩
      refine br_f (nI_ge (b := 84) (by omega) (by decide)) (br_f (nI_nle (by omega) (by omega)) (br_t rfl ?_))
      refine ty_makeRoom (k := 16) (by omega) P Z fun m K N I T rn R P hm Z => nm_r (nI_pred h) ⟨vp_in_nI (by omega) (by decide), ?_⟩
      rw [nI_clamp (show h < 2 ^ 31 by omega), (S.1 h (by omega)).2.1]
      refine ty_stepPath P hm Z F S rfl C ha hc hlim (Yr := fun n post => wY_goOver_34 post x (n + 1) (nI (h + 1)) pf (nI a) (nI c) A B kp tk yp ys yq) (fun _ _ => rfl) ?_ ?_
      · intro h2 a2 c2 m2 w2 dp2 K2 N2 I2 T2 rn2 R2 pb2 ap2 sd2 cp2 wy2 na2 A2 B2 tk2 yp2 ys2 yq2 P2 Z2 S2 C2 ha2 hc2 g2
        refine nm_r (nI_1 i) (ih (i + 1) h2 a2 c2 m2 w2 dp2 K2 N2 I2 T2 rn2 R2 pb2 ap2 sd2 cp2 wy2 na2 A2 B2 tk2 yp2 ys2 yq2 (by omega) (by omega) P2 Z2 S2 C2 ha2 hc2 ?_)
        intro a3 c3 m3 pl3 st3 dp3 K3 N3 I3 T3 rn3 R3 pb3 ap3 sd3 cp3 wy3 na3 A3 B3 tk3 yp3 ys3 yq3 P3 Z3 C3 ha3 hc3 g3
        exact fin a3 c3 m3 pl3 st3 dp3 K3 N3 I3 T3 rn3 R3 pb3 ap3 sd3 cp3 wy3 na3 A3 B3 tk3 yp3 ys3 yq3 P3 Z3 C3 ha3 hc3 fun post y => g2 d post (g3 post y)
      · intro a2 c2 m2 pl2 dp2 K2 N2 I2 T2 rn2 R2 pb2 ap2 sd2 cp2 wy2 na2 A2 B2 tk2 yp2 ys2 yq2 P2 Z2 C2 ha2 hc2 g2
        refine nm_r (nI_1 i) ?_
        obtain ⟨d, rfl⟩ : ∃ j, d = j + 1 := ⟨d - 1, by omega⟩
        have ex : Q (nI m2, pf, pl2, nI a2, nI c2, al, 1, dp2, K2, N2, I2, T2, rn2, R2, kp, pb2, ap2, sd2, cp2, wy2, na2) :=
          fin a2 c2 m2 pl2 1 dp2 K2 N2 I2 T2 rn2 R2 pb2 ap2 sd2 cp2 wy2 na2 A2 B2 tk2 yp2 ys2 yq2 P2 Z2 C2 (by omega) (by omega) fun post y => g2 (d + 1) post (br_t (by decide) y)
        exact pk_le 84 (i + 1) (fun _ => ex) (fun _ => br_c (fun _ => ex) (fun _ => br_f (by decide) ex))
theorem ty_Stk0 (A pb tk : Nat → Int32) : ty_Stk A (ty_p4 pb 0 0) (ty_p4 tk 0 0) 4 0 (fun j => 3 - j) := by
  refine ⟨fun j hj => ?_, fun j l hj hl hne => ⟨?_, fun e => ?_⟩, ?_⟩
  · have a := ty_p4_i pb 0 0 j hj
    have b := ty_p4_i tk 0 0 j hj
    rw [Nat.zero_add, Nat.zero_add] at a b
    have q : 3 - j < 4 := by omega
    exact ⟨show 3 - j < 84 by omega, a, b, Or.inl q, Or.inl q, Or.inl q⟩
  · show 3 - j ≠ 3 - l
    omega
  · have q : 3 - j < 4 := by omega
    rcases e with y | y
    · exact y.1 q
    · exact y.1 (show 3 - j < 20 by omega)
  · decide
section
variable {m : Nat} {pf pl ac cc al st dp ya yc : Int32} {K N I T rn R kp pb ap sd cp wy na A B tk yp ys yq : Nat → Int32}
theorem ty_y_goOver {post : SY → Prop} {x : Int32} (h : wY_goOver_34 post x 85 (nI 4) pf 0 0 A B kp (ty_p4 tk 0 0) yp ys yq) : wpY_goOver post (pf, ya, yc, A, B, kp, tk, yp, ys, yq) x := by
  refine ⟨5, ?_⟩
  refine br_f (by decide) ⟨vp_in_nI (n := 0) (by omega) (by decide), nm_e (nm_r (e' := nI 1) (by decide) ?_)⟩
  refine br_f (by decide) ⟨vp_in_nI (n := 1) (by omega) (by decide), nm_e (nm_r (e' := nI 2) (by decide) ?_)⟩
  refine br_f (by decide) ⟨vp_in_nI (n := 2) (by omega) (by decide), nm_e (nm_r (e' := nI 3) (by decide) ?_)⟩
  refine br_f (by decide) ⟨vp_in_nI (n := 3) (by omega) (by decide), nm_e (nm_r (e' := nI 4) (by decide) ?_)⟩
  refine br_t (by decide) ⟨85, ?_⟩
  have e0 : (0 : Int32).toNatClampNeg = 0 := by decide
  have e1 : (nI 1).toNatClampNeg = 1 := by decide
  have e2 : (nI 2).toNatClampNeg = 2 := by decide
  have e3 : (nI 3).toNatClampNeg = 3 := by decide
  have f0 : (3 : Int32) - 0 = nI 3 := by decide
  have f1 : (3 : Int32) - nI 1 = nI 2 := by decide
  have f2 : (3 : Int32) - nI 2 = nI 1 := by decide
  have f3 : (3 : Int32) - nI 3 = nI 0 := by decide
  rw [e0, e1, e2, e3, f0, f1, f2, f3]
  exact h
theorem ty_stepAll {Q : SX → Prop} {x al' : Int32} (F : ty_Pf pf) (hlim : ∀ a, a < 84 → (nI a = al ↔ nI a = x)) (P : ty_Pl m K N I T) (Z : ty_Tr m K N I R A B)
    (fin : ty_Fin pf al kp (fun post => wpY_goOver post (pf, ya, yc, A, B, kp, tk, yp, ys, yq) x) Q) : wpX_stepAll Q (nI m, pf, pl, ac, cc, al', st, dp, K, N, I, T, rn, R, kp, pb, ap, sd, cp, wy, na) al := by
  refine ⟨5, ?_⟩
  refine br_f (by decide) ⟨vp_in_nI (n := 0) (by omega) (by decide), nm_e (nm_r (e' := nI 1) (by decide) (nm_r (e' := nI 2) (by decide) ?_))⟩
  refine br_f (by decide) ⟨vp_in_nI (n := 1) (by omega) (by decide), nm_e (nm_r (e' := nI 2) (by decide) (nm_r (e' := nI 1) (by decide) ?_))⟩
  refine br_f (by decide) ⟨vp_in_nI (n := 2) (by omega) (by decide), nm_e (nm_r (e' := nI 3) (by decide) (nm_r (e' := nI 0) (by decide) ?_))⟩
  refine br_f (by decide) ⟨vp_in_nI (n := 3) (by omega) (by decide), nm_e (nm_r (e' := nI 4) (by decide) (nm_r (e' := -1) (by decide) ?_))⟩
  refine br_t (by decide) ⟨85, ?_⟩
  have e0 : (0 : Int32).toNatClampNeg = 0 := by decide
  have e1 : (nI 1).toNatClampNeg = 1 := by decide
  have e2 : (nI 2).toNatClampNeg = 2 := by decide
  have e3 : (nI 3).toNatClampNeg = 3 := by decide
  rw [e0, e1, e2, e3]
  refine ty_lp F hlim Q 85 0 4 0 0 m (fun j => 3 - j) dp K N I T rn R (ty_p4 pb 0 0) ap sd cp wy na A B (ty_p4 tk 0 0) yp ys yq (by omega) (by omega) P Z (ty_Stk0 A pb tk) ⟨fun j hj => by omega, fun j hj => by omega⟩ (by omega) (by omega) ?_
  intro a3 c3 m3 pl3 st3 dp3 K3 N3 I3 T3 rn3 R3 pb3 ap3 sd3 cp3 wy3 na3 A3 B3 tk3 yp3 ys3 yq3 P3 Z3 C3 ha3 hc3 g3
  exact fin a3 c3 m3 pl3 st3 dp3 K3 N3 I3 T3 rn3 R3 pb3 ap3 sd3 cp3 wy3 na3 A3 B3 tk3 yp3 ys3 yq3 P3 Z3 C3 ha3 hc3 fun post y => ty_y_goOver (g3 post y)
theorem ty_lim84 : ∀ a, a < 84 → (nI a = 84 ↔ nI a = 1000) := by
  intro a ha
  have h1 : nI a = 84 ↔ a = 84 := nI_eq (b := 84) (by omega) (by decide)
  have h2 : nI a = 1000 ↔ a = 1000 := nI_eq (b := 1000) (by omega) (by decide)
  rw [h1, h2]
  omega
end
end
section
/-! trying a step; what is asked of it -/
theorem ty_6a (j : Nat) : (6 : Int32) + nI j = nI (6 + j) := nI_add 6 j
section
variable {m : Nat} {pf pl ac cc al st dp : Int32} {K N I T rn R kp pb ap sd cp wy na : Nat → Int32}
theorem ty_ts2 {Q : SX → Prop} {n t : Nat} (ht : t < 3) (h : wX_tryStep_2 Q (nI m) pf pl ac cc al st dp n (nI (t + 1)) K N I T rn (upd R (6 + t) (R t)) kp pb ap sd cp wy na) : wX_tryStep_2 Q (nI m) pf pl ac cc al st dp (n + 1) (nI t) K N I T rn R kp pb ap sd cp wy na := by
  refine br_f (nI_ge (b := 3) ht (by decide)) ?_
  rw [ty_6a, nI_clamp (show t < 2 ^ 31 by omega), nI_clamp (show 6 + t < 2 ^ 31 by omega)]
  exact ⟨vp_in_nI (by omega) (by decide), vp_in_nI (by omega) (by decide), nm_e (nm_r (nI_1 t) h)⟩
theorem ty_ts36 {Q : SX → Prop} {n t : Nat} (ht : t < 3) (h : wX_tryStep_36 Q (nI m) pf pl ac cc al st dp n (nI (t + 1)) K N I T rn (upd R t (R (6 + t))) kp pb ap sd cp wy na) : wX_tryStep_36 Q (nI m) pf pl ac cc al st dp (n + 1) (nI t) K N I T rn R kp pb ap sd cp wy na := by
  refine br_f (nI_ge (b := 3) ht (by decide)) ?_
  rw [ty_6a, nI_clamp (show t < 2 ^ 31 by omega), nI_clamp (show 6 + t < 2 ^ 31 by omega)]
  exact ⟨vp_in_nI (by omega) (by decide), vp_in_nI (by omega) (by decide), nm_e (nm_r (nI_1 t) h)⟩
theorem ty_ts36e {Q : SX → Prop} {n : Nat} (h : Q (nI m, pf, pl, ac, cc, al, st, dp, K, N, I, T, rn, R, kp, pb, ap, sd, cp, wy, na)) : wX_tryStep_36 Q (nI m) pf pl ac cc al st dp (n + 1) (nI 3) K N I T rn R kp pb ap sd cp wy na := br_t (by decide) h
end
section
variable {pf ya yc : Int32} {A B kp tk yp ys yq : Nat → Int32}
theorem ty_lk2 {post : SY → Prop} {n t : Nat} (ht : t < 3) (h : wY_look_2 post n (nI (t + 1)) pf ya yc (ty_cp A t (6 + t) 84) (ty_cp B t (6 + t) 84) kp tk yp ys yq) : wY_look_2 post (n + 1) (nI t) pf ya yc A B kp tk yp ys yq := by
  refine br_f (nI_ge (b := 3) ht (by decide)) ?_
  rw [ty_6a]
  exact ty_y_copyTree (by omega) (by omega) (nm_r (nI_1 t) h)
theorem ty_lk31 {post : SY → Prop} {n t : Nat} (ht : t < 3) (h : wY_look_31 post n (nI (t + 1)) pf ya yc (ty_cp A (6 + t) t 84) (ty_cp B (6 + t) t 84) kp tk yp ys yq) : wY_look_31 post (n + 1) (nI t) pf ya yc A B kp tk yp ys yq := by
  refine br_f (nI_ge (b := 3) ht (by decide)) ?_
  rw [ty_6a]
  exact ty_y_copyTree (by omega) (by omega) (nm_r (nI_1 t) h)
theorem ty_lk31e {post : SY → Prop} {n : Nat} (h : post (pf, ya, yc, A, B, kp, tk, yp, ys, yq)) : wY_look_31 post (n + 1) (nI 3) pf ya yc A B kp tk yp ys yq := br_t (by decide) h
end
/-- three trees to their places for a while; and back -/
def ty_c3 (A : Nat → Int32) : Nat → Int32 := ty_cp (ty_cp (ty_cp A 0 (6 + 0) 84) 1 (6 + 1) 84) 2 (6 + 2) 84
def ty_d3 (A : Nat → Int32) : Nat → Int32 := ty_cp (ty_cp (ty_cp A (6 + 0) 0 84) (6 + 1) 1 84) (6 + 2) 2 84
section
variable {m : Nat} {pf pl ac cc al st dp ya yc : Int32} {K N I T rn R kp pb ap sd cp wy na A B tk yp ys yq : Nat → Int32}
theorem ty_y_look {post : SY → Prop} {A' B' kp' tk' yp' ys' yq' : Nat → Int32} {pf' ya' yc' : Int32} (g : ∀ post' : SY → Prop, post' (pf', ya', yc', A', B', kp', tk', yp', ys', yq') → wpY_goOver post' (pf, ya, yc, ty_c3 A, ty_c3 B, kp, tk, yp, ys, yq) 1000)
    (h : post (pf', ya', yc', ty_d3 A', ty_d3 B', kp', tk', yp', ys', yq')) : wpY_look post (pf, ya, yc, A, B, kp, tk, yp, ys, yq) := by
  refine ⟨4, ?_⟩
  refine ty_lk2 (t := 0) (by omega) (ty_lk2 (t := 1) (by omega) (ty_lk2 (t := 2) (by omega) (br_t (by decide) ?_)))
  refine g _ ⟨4, ?_⟩
  exact ty_lk31 (t := 0) (by omega) (ty_lk31 (t := 1) (by omega) (ty_lk31 (t := 2) (by omega) (ty_lk31e h)))
theorem ty_tryStep {Q : SX → Prop} (F : ty_Pf pf) (P : ty_Pl m K N I T) (Z : ty_Tr m K N I R A B) (fin : ty_Fin pf 84 kp (fun post => wpY_look post (pf, ya, yc, A, B, kp, tk, yp, ys, yq)) Q) : wpX_tryStep Q (nI m, pf, pl, ac, cc, al, st, dp, K, N, I, T, rn, R, kp, pb, ap, sd, cp, wy, na) := by
  have Z1 := ty_Tr_copy Z (show 0 ≠ 6 + 0 by omega) (by omega) (by omega)
  have Z2 := ty_Tr_copy Z1 (show 1 ≠ 6 + 1 by omega) (by omega) (by omega)
  have Z3 := ty_Tr_copy Z2 (show 2 ≠ 6 + 2 by omega) (by omega) (by omega)
  refine ⟨4, ?_⟩
  refine ty_ts2 (t := 0) (by omega) (ty_ts2 (t := 1) (by omega) (ty_ts2 (t := 2) (by omega) (br_t (by decide) ?_)))
  refine ty_stepAll (ya := ya) (yc := yc) (tk := tk) (yp := yp) (ys := ys) (yq := yq) F ty_lim84 P Z3 ?_
  intro a3 c3 m3 pl3 st3 dp3 K3 N3 I3 T3 rn3 R3 pb3 ap3 sd3 cp3 wy3 na3 A3 B3 tk3 yp3 ys3 yq3 P3 Y3 C3 ha3 hc3 g3
  refine ⟨4, ?_⟩
  refine ty_ts36 (t := 0) (by omega) (ty_ts36 (t := 1) (by omega) (ty_ts36 (t := 2) (by omega) (ty_ts36e ?_)))
  have Y4 := ty_Tr_copy Y3 (show 6 + 0 ≠ 0 by omega) (by omega) (by omega)
  have Y5 := ty_Tr_copy Y4 (show 6 + 1 ≠ 1 by omega) (by omega) (by omega)
  have Y6 := ty_Tr_copy Y5 (show 6 + 2 ≠ 2 by omega) (by omega) (by omega)
  exact fin a3 c3 m3 pl3 st3 dp3 K3 N3 I3 T3 rn3 _ pb3 ap3 sd3 cp3 wy3 na3 (ty_d3 A3) (ty_d3 B3) tk3 yp3 ys3 yq3 P3 Y6 C3 ha3 hc3 fun post y => ty_y_look g3 y
end
theorem i_vc_actions {k : Nat} {u : SX} {v : SY} (I : i_Rel k u v) (hk : k + 4 ≤ 2048) : wpX_actions (fun r u' => wpY_actions (fun r' v' => r' = r ∧ i_Rel (k + 4) u' v') v) u := by
  refine ty_el (Q := fun u v => wpX_actions (fun r u' => wpY_actions (fun r' v' => r' = r ∧ i_Rel (k + 4) u' v') v) u) ?_ I
  intro m pf pl ac cc al st dp ya yc K N I T rn R kp pb ap sd cp wy na A B tk yp ys yq P Z F
  unfold wpX_actions wpY_actions
  refine ty_tryStep (ya := ya) (yc := yc) (tk := tk) (yp := yp) (ys := ys) (yq := yq) F P Z ?_
  intro a3 c3 m3 pl3 st3 dp3 K3 N3 I3 T3 rn3 R3 pb3 ap3 sd3 cp3 wy3 na3 A3 B3 tk3 yp3 ys3 yq3 P3 Z3 C3 ha3 hc3 g3
  exact g3 _ ⟨rfl, ty_in P3 Z3 F⟩
theorem i_vc_conflicts {k : Nat} {u : SX} {v : SY} (I : i_Rel k u v) (hk : k + 4 ≤ 2048) : wpX_conflicts (fun r u' => wpY_conflicts (fun r' v' => r' = r ∧ i_Rel (k + 4) u' v') v) u := by
  refine ty_el (Q := fun u v => wpX_conflicts (fun r u' => wpY_conflicts (fun r' v' => r' = r ∧ i_Rel (k + 4) u' v') v) u) ?_ I
  intro m pf pl ac cc al st dp ya yc K N I T rn R kp pb ap sd cp wy na A B tk yp ys yq P Z F
  unfold wpX_conflicts wpY_conflicts
  refine ty_tryStep (ya := ya) (yc := yc) (tk := tk) (yp := yp) (ys := ys) (yq := yq) F P Z ?_
  intro a3 c3 m3 pl3 st3 dp3 K3 N3 I3 T3 rn3 R3 pb3 ap3 sd3 cp3 wy3 na3 A3 B3 tk3 yp3 ys3 yq3 P3 Z3 C3 ha3 hc3 g3
  exact g3 _ ⟨rfl, ty_in P3 Z3 F⟩
theorem i_vc_conflict {k : Nat} {u : SX} {v : SY} (I : i_Rel k u v) (hk : k + 4 ≤ 2048) (v1 : Int32) : wpX_conflict (fun r u' => wpY_conflict (fun r' v' => r' = r ∧ i_Rel (k + 4) u' v') v v1) u v1 := by
  refine ty_el (Q := fun u v => wpX_conflict (fun r u' => wpY_conflict (fun r' v' => r' = r ∧ i_Rel (k + 4) u' v') v v1) u v1) ?_ I
  intro m pf pl ac cc al st dp ya yc K N I T rn R kp pb ap sd cp wy na A B tk yp ys yq P Z F
  unfold wpX_conflict wpY_conflict
  refine ty_tryStep (ya := ya) (yc := yc) (tk := tk) (yp := yp) (ys := ys) (yq := yq) F P Z ?_
  intro a3 c3 m3 pl3 st3 dp3 K3 N3 I3 T3 rn3 R3 pb3 ap3 sd3 cp3 wy3 na3 A3 B3 tk3 yp3 ys3 yq3 P3 Z3 C3 ha3 hc3 g3
  by_cases h0 : v1 < 0
  · exact br_t h0 (g3 _ (br_t h0 ⟨rfl, ty_in P3 Z3 F⟩))
  · obtain ⟨j, hj, rfl⟩ := nI_of h0
    refine br_f h0 (pk_lt j c3 (fun q => ?_) (fun q => ?_))
    · refine ⟨vp_in_nI (by omega) (by decide), g3 _ (br_f h0 (br_t (nI_lt q (by omega)) ⟨vp_in_nI (by omega) (by decide), ?_, ty_in P3 Z3 F⟩))⟩
      rw [nI_clamp hj]
      exact (C3.2 j q).symm
    · exact g3 _ (br_f h0 (br_f (nI_nlt q hj) ⟨rfl, ty_in P3 Z3 F⟩))
theorem i_vc_action {k : Nat} {u : SX} {v : SY} (I : i_Rel k u v) (hk : k + 4 ≤ 2048) (v1 : Int32) (v2 : Int32) : wpX_action (fun r u' => wpY_action (fun r' v' => r' = r ∧ i_Rel (k + 4) u' v') v v1 v2) u v1 v2 := by
  refine ty_el (Q := fun u v => wpX_action (fun r u' => wpY_action (fun r' v' => r' = r ∧ i_Rel (k + 4) u' v') v v1 v2) u v1 v2) ?_ I
  intro m pf pl ac cc al st dp ya yc K N I T rn R kp pb ap sd cp wy na A B tk yp ys yq P Z F
  have bad : (v2 < 0 ∨ ¬ v2 ≤ 1) → ¬ v2 = 0 ∧ ¬ v2 = 1 := by
    intro h
    refine ⟨fun e => ?_, fun e => ?_⟩
    · subst e; exact h.elim (by decide) (by decide)
    · subst e; exact h.elim (by decide) (by decide)
  rcases ty_cases_side v2 with hs | hs | hs
  · have b := bad hs
    have y : ∀ {post : Int32 → SY → Prop}, post (-1000000001) (pf, ya, yc, A, B, kp, tk, yp, ys, yq) → wpY_action post (pf, ya, yc, A, B, kp, tk, yp, ys, yq) v1 v2 := fun q => br_f b.1 (br_f b.2 q)
    by_cases z : v2 < 0
    · exact br_t z (y ⟨rfl, ty_in P Z F⟩)
    · exact br_f z (br_f (hs.resolve_left z) (y ⟨rfl, ty_in P Z F⟩))
  · subst hs
    refine br_f (by decide) (br_t (by decide) ?_)
    refine ty_tryStep (ya := ya) (yc := yc) (tk := tk) (yp := yp) (ys := ys) (yq := yq) F P Z ?_
    intro a3 c3 m3 pl3 st3 dp3 K3 N3 I3 T3 rn3 R3 pb3 ap3 sd3 cp3 wy3 na3 A3 B3 tk3 yp3 ys3 yq3 P3 Z3 C3 ha3 hc3 g3
    by_cases h0 : v1 < 0
    · exact br_t h0 (br_t rfl (g3 _ (br_t h0 ⟨rfl, ty_in P3 Z3 F⟩)))
    · obtain ⟨j, hj, rfl⟩ := nI_of h0
      refine br_f h0 (pk_lt j a3 (fun q => ?_) (fun q => ?_))
      · refine br_t rfl ⟨vp_in_nI (by omega) (by decide), br_t rfl (g3 _ (br_f h0 (br_t (nI_lt q (by omega)) (br_t rfl ⟨vp_in_nI (by omega) (by decide), ?_, ty_in P3 Z3 F⟩))))⟩
        rw [nI_clamp hj]
        exact (C3.1 j q).1.symm
      · exact br_t rfl (g3 _ (br_f h0 (br_f (nI_nlt q hj) ⟨rfl, ty_in P3 Z3 F⟩)))
  · subst hs
    refine br_f (by decide) (br_t (by decide) ?_)
    refine ty_tryStep (ya := ya) (yc := yc) (tk := tk) (yp := yp) (ys := ys) (yq := yq) F P Z ?_
    intro a3 c3 m3 pl3 st3 dp3 K3 N3 I3 T3 rn3 R3 pb3 ap3 sd3 cp3 wy3 na3 A3 B3 tk3 yp3 ys3 yq3 P3 Z3 C3 ha3 hc3 g3
    by_cases h0 : v1 < 0
    · exact br_t h0 (br_f (by decide) (br_t rfl (g3 _ (br_t h0 ⟨rfl, ty_in P3 Z3 F⟩))))
    · obtain ⟨j, hj, rfl⟩ := nI_of h0
      refine br_f h0 (pk_lt j a3 (fun q => ?_) (fun q => ?_))
      · refine br_f (by decide) ⟨vp_in_nI (by omega) (by decide), br_f (by decide) (br_t rfl (g3 _ (br_f h0 (br_t (nI_lt q (by omega)) (br_f (by decide) ⟨vp_in_nI (by omega) (by decide), ?_, ty_in P3 Z3 F⟩)))))⟩
        rw [nI_clamp hj]
        exact (C3.1 j q).2.symm
      · exact br_f (by decide) (br_t rfl (g3 _ (br_f h0 (br_f (nI_nlt q hj) ⟨rfl, ty_in P3 Z3 F⟩))))
theorem i_vc_step {k : Nat} {u : SX} {v : SY} (I : i_Rel k u v) (hk : k + 4 ≤ 2048) : wpX_step (fun r u' => wpY_step (fun r' v' => r' = r ∧ i_Rel (k + 4) u' v') v) u := by
  refine ty_el (Q := fun u v => wpX_step (fun r u' => wpY_step (fun r' v' => r' = r ∧ i_Rel (k + 4) u' v') v) u) ?_ I
  intro m pf pl ac cc al st dp ya yc K N I T rn R kp pb ap sd cp wy na A B tk yp ys yq P Z F
  unfold wpX_step wpY_step
  refine ty_stepAll (ya := ya) (yc := yc) (tk := tk) (yp := yp) (ys := ys) (yq := yq) F ty_lim84 P Z ?_
  intro a3 c3 m3 pl3 st3 dp3 K3 N3 I3 T3 rn3 R3 pb3 ap3 sd3 cp3 wy3 na3 A3 B3 tk3 yp3 ys3 yq3 P3 Z3 C3 ha3 hc3 g3
  exact g3 _ ⟨rfl, ty_in P3 Z3 F⟩
theorem i_vc_stepSome {k : Nat} {u : SX} {v : SY} (I : i_Rel k u v) (hk : k + 4 ≤ 2048) (v1 : Int32) : wpX_stepSome (fun r u' => wpY_stepSome (fun r' v' => r' = r ∧ i_Rel (k + 4) u' v') v v1) u v1 := by
  refine ty_el (Q := fun u v => wpX_stepSome (fun r u' => wpY_stepSome (fun r' v' => r' = r ∧ i_Rel (k + 4) u' v') v v1) u v1) ?_ I
  intro m pf pl ac cc al st dp ya yc K N I T rn R kp pb ap sd cp wy na A B tk yp ys yq P Z F
  refine br_c (fun h0 => ?_) (fun h0 => br_f h0 ⟨rfl, ty_in P Z F⟩)
  refine ty_stepAll (x := v1) (ya := ya) (yc := yc) (tk := tk) (yp := yp) (ys := ys) (yq := yq) F (fun _ _ => Iff.rfl) P Z ?_
  intro a3 c3 m3 pl3 st3 dp3 K3 N3 I3 T3 rn3 R3 pb3 ap3 sd3 cp3 wy3 na3 A3 B3 tk3 yp3 ys3 yq3 P3 Z3 C3 ha3 hc3 g3
  exact br_t h0 (g3 _ ⟨rfl, ty_in P3 Z3 F⟩)
end
