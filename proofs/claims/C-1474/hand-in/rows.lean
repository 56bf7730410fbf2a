section
/-! pure rows to paste: stores, nI and lN arithmetic, masks, shifts, narrowing, branches by naturals (pk_le, pk_lt, pk_eq), loops (lp1 .. lp16: the measure of the state; rp1 ..: recursion), negatives. Take what you need -/
theorem pk_us {f : Nat → Int32} {k : Nat} {x : Int32} : upd f k x k = x := if_pos rfl
theorem pk_un {f : Nat → Int32} {k j : Nat} {x : Int32} (h : j ≠ k) : upd f k x j = f j := if_neg h
theorem pk_uLs {f : Nat → Int64} {k : Nat} {x : Int64} : vp_updL f k x k = x := if_pos rfl
theorem pk_uLn {f : Nat → Int64} {k j : Nat} {x : Int64} (h : j ≠ k) : vp_updL f k x j = f j := if_neg h
theorem pk_sub {a b : Nat} (h : b ≤ a) : nI a - nI b = nI (a - b) := by
  obtain ⟨c, rfl⟩ : ∃ c, a = c + b := ⟨a - b, by omega⟩
  rw [← nI_add, Int32.add_sub_cancel, Nat.add_sub_cancel]
theorem pk_m1 (n : Nat) : nI (n + 1) + (-1) = nI n := by
  rw [← nI_1, Int32.add_assoc, show (1 : Int32) + (-1) = 0 from rfl, Int32.add_zero]
theorem pk_mul (a b : Nat) : nI a * nI b = nI (a * b) := (Int32.ofNat_mul a b).symm
theorem pk_div {a d : Nat} (ha : a < 2 ^ 31) (h0 : 0 < d) (hd : d < 2 ^ 31) : nI a / nI d = nI (a / d) := by
  apply Int32.toInt_inj.mp
  rw [lg_idiv_nonneg (by rw [nI_toInt ha]; omega) (by rw [nI_toInt hd]; omega), nI_toInt ha, nI_toInt hd, nI_toInt (Nat.lt_of_le_of_lt (Nat.div_le_self a d) ha)]
  first | rfl | exact (Int.natCast_ediv _ _).symm
theorem pk_rem {a d : Nat} (ha : a < 2 ^ 31) (h0 : 0 < d) (hd : d < 2 ^ 31) : nI a - nI a / nI d * nI d = nI (a % d) := by
  rw [pk_div ha h0 hd, pk_mul, pk_sub (Nat.div_mul_le_self a d)]
  exact congrArg nI (by have := Nat.div_add_mod' a d; omega)
theorem pk_sub_toInt {a b : Nat} (ha : a < 2 ^ 30) (hb : b < 2 ^ 30) : (nI a - nI b).toInt = (a : Int) - b := by
  rw [Int32.toInt_sub, nI_toInt (by omega), nI_toInt (by omega)]
  exact Int.bmod_eq_of_le (by omega) (by omega)
theorem pk_sneg {a b : Nat} (hb : b < 2 ^ 30) (h : a < b) : nI a - nI b < 0 := by
  rw [Int32.lt_iff_toInt_lt, pk_sub_toInt (by omega) hb, show (0 : Int32).toInt = 0 from by decide]
  omega
theorem pk_ix (x : Int32) {n : Nat} (hn : n < 2 ^ 31) : x < 0 ∨ nI n ≤ x ∨ ∃ j : Nat, j < n ∧ x = nI j := by
  by_cases h : x < 0
  · exact Or.inl h
  · obtain ⟨j, hj, rfl⟩ := nI_of h
    by_cases h2 : j < n
    · exact Or.inr (Or.inr ⟨j, h2, rfl⟩)
    · exact Or.inr (Or.inl (nI_le (by omega) hj))
theorem pk_le {x y : Int32} {A B : Prop} (a b : Nat) (f : a ≤ b → A) (g : b < a → B) (hx : x = nI a := by rfl) (hy : y = nI b := by rfl) (ha : a < 2 ^ 31 := by omega) (hb : b < 2 ^ 31 := by omega) : (x ≤ y → A) ∧ (¬ x ≤ y → B) := by
  subst hx hy
  rw [nI_leI ha hb]
  exact ⟨f, fun z => g (by omega)⟩
theorem pk_lt {x y : Int32} {A B : Prop} (a b : Nat) (f : a < b → A) (g : b ≤ a → B) (hx : x = nI a := by rfl) (hy : y = nI b := by rfl) (ha : a < 2 ^ 31 := by omega) (hb : b < 2 ^ 31 := by omega) : (x < y → A) ∧ (¬ x < y → B) := by
  subst hx hy
  rw [nI_ltI ha hb]
  exact ⟨f, fun z => g (by omega)⟩
theorem pk_eq {x y : Int32} {A B : Prop} (a b : Nat) (f : a = b → A) (g : a ≠ b → B) (hx : x = nI a := by rfl) (hy : y = nI b := by rfl) (ha : a < 2 ^ 31 := by omega) (hb : b < 2 ^ 31 := by omega) : (x = y → A) ∧ (¬ x = y → B) := by
  subst hx hy
  rw [nI_eq ha hb]
  exact ⟨f, g⟩
theorem pk_in {x : Int32} (n N : Nat) (h : n < N) (hx : x = nI n := by rfl) (hN : N < 2 ^ 31 := by omega) : vp_in x N := by
  subst hx
  exact vp_in_nI h hN
theorem pk_cl {x : Int32} (n : Nat) (hx : x = nI n := by rfl) (h : n < 2 ^ 31 := by omega) : x.toNatClampNeg = n := by
  subst hx
  exact nI_clamp h
theorem pk_tn {n : Nat} (h : n < 2 ^ 32) : (nI n).toBitVec.toNat = n := Nat.mod_eq_of_lt h
theorem pk_and (x : Int32) {m : Int32} (k : Nat) (hm : m.toBitVec.toNat = 2 ^ k - 1) : x &&& m = nI (x.toBitVec.toNat % 2 ^ k) := by
  apply Int32.toBitVec_inj.mp
  apply BitVec.eq_of_toNat_eq
  rw [Int32.toBitVec_and, BitVec.toNat_and, hm, Nat.and_two_pow_sub_one_eq_mod]
  show _ = (BitVec.ofNat 32 _).toNat
  rw [BitVec.toNat_ofNat]
  exact (Nat.mod_eq_of_lt (Nat.lt_of_le_of_lt (Nat.mod_le _ _) x.toBitVec.isLt)).symm
theorem pk_andN {n : Nat} (h : n < 2 ^ 32) {m : Int32} (k : Nat) (hm : m.toBitVec.toNat = 2 ^ k - 1) : nI n &&& m = nI (n % 2 ^ k) := by
  rw [pk_and _ k hm, pk_tn h]
theorem pk_andE (x : Int32) {m : Int32} (k : Nat) (hm : m.toBitVec.toNat = 2 ^ k - 1) : ∃ j : Nat, j < 2 ^ k ∧ x &&& m = nI j := ⟨_, Nat.mod_lt _ (Nat.two_pow_pos k), pk_and x k hm⟩
theorem pk_andIn (x : Int32) {m : Int32} (k : Nat) (hm : m.toBitVec.toNat = 2 ^ k - 1) (hk : k ≤ 30) : vp_in (x &&& m) (2 ^ k) := by
  obtain ⟨j, hj, e⟩ := pk_andE x k hm
  rw [e]
  exact vp_in_nI hj (Nat.lt_of_le_of_lt (Nat.pow_le_pow_right (by decide) hk) (by decide))
theorem pk_shl (a s : Int32) (k : Nat) (hs : (s.toBitVec.smod 32).toNat = k) : (a <<< s).toBitVec.toNat = a.toBitVec.toNat * 2 ^ k % 2 ^ 32 := by
  show (a.toBitVec <<< (s.toBitVec.smod 32).toNat).toNat = _
  rw [hs, BitVec.toNat_shiftLeft, Nat.shiftLeft_eq]
theorem pk_shlN {n : Nat} (s : Int32) (k : Nat) (hs : (s.toBitVec.smod 32).toNat = k) (h : n * 2 ^ k < 2 ^ 32) : nI n <<< s = nI (n * 2 ^ k) := by
  apply Int32.toBitVec_inj.mp
  apply BitVec.eq_of_toNat_eq
  have hn : n < 2 ^ 32 := Nat.lt_of_le_of_lt (Nat.le_mul_of_pos_right n (Nat.two_pow_pos k)) h
  rw [pk_shl _ _ k hs, pk_tn hn, pk_tn h, Nat.mod_eq_of_lt h]
theorem pk_shr (a s : Int32) (k : Nat) (hs : (s.toBitVec.smod 32).toNat = k) : (a >>> s).toInt = a.toInt >>> k := by
  show (a.toBitVec.sshiftRight (s.toBitVec.smod 32).toNat).toInt = _
  rw [hs, BitVec.toInt_sshiftRight]
  rfl
theorem pk_shrN {n : Nat} (h : n < 2 ^ 31) (s : Int32) (k : Nat) (hs : (s.toBitVec.smod 32).toNat = k) : nI n >>> s = nI (n / 2 ^ k) := by
  apply Int32.toInt_inj.mp
  have h2 : n / 2 ^ k ≤ n := Nat.div_le_self _ _
  rw [pk_shr _ _ k hs, nI_toInt h, nI_toInt (by omega), Int.shiftRight_eq_div_pow]
  rfl
theorem pk_ushr (x s : Int32) (k : Nat) (hs : ((s.toUInt32 &&& Int32.toUInt32 31).toBitVec % 32).toNat = k) : (x.toUInt32 >>> (s.toUInt32 &&& Int32.toUInt32 31)).toInt32.toBitVec.toNat = x.toBitVec.toNat / 2 ^ k := by
  have e : (x.toUInt32 >>> (s.toUInt32 &&& Int32.toUInt32 31)).toInt32.toBitVec = x.toBitVec >>> k := by
    rw [← hs]
    exact UInt32.toBitVec_shiftRight _ _
  rw [e, BitVec.toNat_ushiftRight, Nat.shiftRight_eq_div_pow]
theorem pk_ushrN {n : Nat} (hn : n < 2 ^ 32) (s : Int32) (k : Nat) (hs : ((s.toUInt32 &&& Int32.toUInt32 31).toBitVec % 32).toNat = k) : ((nI n).toUInt32 >>> (s.toUInt32 &&& Int32.toUInt32 31)).toInt32 = nI (n / 2 ^ k) := by
  apply Int32.toBitVec_inj.mp
  apply BitVec.eq_of_toNat_eq
  rw [pk_ushr _ s k hs, pk_tn hn, pk_tn (Nat.lt_of_le_of_lt (Nat.div_le_self _ _) hn)]
theorem pk_nb (z : Int32) : narrow .byte (.int z.toInt8.toInt32) = .int z.toInt8.toInt32 := congrArg Value.int (by simp)
theorem pk_ns (z : Int32) : narrow .short (.int z.toInt16.toInt32) = .int z.toInt16.toInt32 := congrArg Value.int (by simp)
theorem pk_fb (r : Int32) : fits .byte (.int r.toInt8.toInt32) = true := by
  have ⟨a, b⟩ := lg_i2b_range r
  have h1 : (-128 : Int32).toInt = -128 := by decide
  have h2 : (127 : Int32).toInt = 127 := by decide
  simp only [fits, Bool.and_eq_true, decide_eq_true_eq, Int32.le_iff_toInt_le, h1, h2]
  omega
theorem pk_fs (r : Int32) : fits .short (.int r.toInt16.toInt32) = true := by
  have ⟨a, b⟩ := lg_i2s_range r
  have h1 : (-32768 : Int32).toInt = -32768 := by decide
  have h2 : (32767 : Int32).toInt = 32767 := by decide
  simp only [fits, Bool.and_eq_true, decide_eq_true_eq, Int32.le_iff_toInt_le, h1, h2]
  omega
theorem pk_charN {q : Nat} (hq : q < 65536) : narrow .char (.int (nI q)) = .int (nI q) ∧ fits .char (.int (nI q)) = true := by
  constructor
  · have e : (nI q).toUInt32.toUInt16.toUInt32.toInt32 = nI q := by
      apply Int32.toBitVec_inj.mp
      apply BitVec.eq_of_toNat_eq
      show (nI q).toUInt32.toUInt16.toUInt32.toNat = q % 2 ^ 32
      rw [UInt16.toNat_toUInt32, UInt32.toNat_toUInt16, show (nI q).toUInt32.toNat = q % 2 ^ 32 from rfl]
      omega
    exact congrArg Value.int e
  · have a : (0 : Int32) ≤ nI q := nI_pos' (by omega)
    have b : nI q ≤ 65535 := nI_le (b := 65535) (by omega) (by decide)
    show (decide ((0 : Int32) ≤ nI q) && decide (nI q ≤ 65535)) = true
    rw [decide_eq_true a, decide_eq_true b]
    rfl
theorem pk_char (x : Int32) : (x.toUInt32 % 65536).toInt32 = nI (x.toBitVec.toNat % 65536) := by
  apply Int32.toBitVec_inj.mp
  apply BitVec.eq_of_toNat_eq
  rw [pk_tn (by omega)]
  show (x.toUInt32 % 65536).toNat = _
  rw [UInt32.toNat_mod]
  rfl
theorem pk_nc (x : Int32) : narrow .char (.int (x.toUInt32 % 65536).toInt32) = .int (x.toUInt32 % 65536).toInt32 := by
  rw [pk_char]
  exact (pk_charN (Nat.mod_lt _ (by decide))).1
theorem pk_fc (x : Int32) : fits .char (.int (x.toUInt32 % 65536).toInt32) = true := by
  rw [pk_char]
  exact (pk_charN (Nat.mod_lt _ (by decide))).2
theorem pk_vb (z : Int32) : vp_nar .byte z.toInt8.toInt32 = z.toInt8.toInt32 := by rw [vp_nar_byte]; simp
theorem pk_vs (z : Int32) : vp_nar .short z.toInt16.toInt32 = z.toInt16.toInt32 := by rw [vp_nar_short]; simp
theorem pk_vc (z : Int32) : vp_nar .char (z.toUInt32 % 65536).toInt32 = (z.toUInt32 % 65536).toInt32 := Value.int.inj (pk_nc z)
theorem pk_lT {n : Nat} (h : n < 2 ^ 63) : (lN n).toInt = (n : Int) := lg_ofNat_toInt h
theorem pk_lLT {a b : Nat} (ha : a < 2 ^ 63) (hb : b < 2 ^ 63) : lN a < lN b ↔ a < b := by
  rw [Int64.lt_iff_toInt_lt, pk_lT ha, pk_lT hb]; omega
theorem pk_lLE {a b : Nat} (ha : a < 2 ^ 63) (hb : b < 2 ^ 63) : lN a ≤ lN b ↔ a ≤ b := by
  rw [Int64.le_iff_toInt_le, pk_lT ha, pk_lT hb]; omega
theorem pk_lEQ {a b : Nat} (ha : a < 2 ^ 63) (hb : b < 2 ^ 63) : lN a = lN b ↔ a = b := by
  rw [← Int64.toInt_inj, pk_lT ha, pk_lT hb]; omega
theorem pk_lOf {x : Int64} (h : ¬ x < 0) : ∃ k : Nat, k < 2 ^ 63 ∧ x = lN k := by
  rw [Int64.lt_iff_toInt_lt] at h
  have h0 : (0 : Int64).toInt = 0 := by decide
  have hx := Int64.toInt_lt x
  refine ⟨x.toInt.toNat, by omega, Int64.toInt_inj.mp ?_⟩
  rw [pk_lT (by omega)]
  omega
theorem pk_lDiv {a b : Nat} (ha : a < 2 ^ 63) (h0 : 0 < b) (hb : b < 2 ^ 63) : lN a / lN b = lN (a / b) := by
  apply Int64.toInt_inj.mp
  rw [lg_ldiv_nonneg (by rw [pk_lT ha]; omega) (by rw [pk_lT hb]; omega), pk_lT ha, pk_lT hb, pk_lT (Nat.lt_of_le_of_lt (Nat.div_le_self a b) ha)]
  rfl
theorem pk_lRem {a b : Nat} (ha : a < 2 ^ 63) (h0 : 0 < b) (hb : b < 2 ^ 63) : lN a - lN a / lN b * lN b = lN (a % b) := by
  rw [pk_lDiv ha h0 hb, lN_mul, lN_sub (Nat.div_mul_le_self a b)]
  exact congrArg lN (by have := Nat.div_add_mod' a b; omega)
theorem pk_loop {σ : Type} (W : Nat → Nat → σ → Prop) (I : Nat → σ → Prop) (e i0 : Nat) (s : σ) (hi : i0 ≤ e) (h0 : I i0 s) (hx : ∀ n s, I e s → W (n + 1) e s)
    (hs : ∀ n i s, i < e → I i s → (∀ s', I (i + 1) s' → W n (i + 1) s') → W (n + 1) i s) : ∃ n, W n i0 s :=
  ⟨e + 1, loop_i W I e hx hs (e + 1) i0 s hi (by omega) h0⟩
theorem pk_loopD {σ : Type} (W : Nat → Nat → σ → Prop) (I : Nat → σ → Prop) (hx : ∀ n s, I 0 s → W (n + 1) 0 s)
    (hs : ∀ n i s, I (i + 1) s → (∀ s', I i s' → W n i s') → W (n + 1) (i + 1) s) : ∀ (e : Nat) (s : σ), I e s → W (e + 1) e s := by
  intro e
  induction e with
  | zero => exact fun s h => hx 0 s h
  | succ e ih => exact fun s h => hs (e + 1) e s h (fun s' h' => ih s' h')
theorem lp1 {A1 : Type} (W : Nat → A1 → Prop) (I : A1 → Prop) (μ : A1 → Nat) (hs : ∀ (n : Nat) (a1 : A1), I a1 → (∀ (b1 : A1), I b1 → μ b1 < μ a1 → W n b1) → W (n + 1) a1) (a1 : A1) (h : I a1) : ∃ n, W n a1 :=
  loop_m (σ := A1) (fun n s => W n s) (fun s => I s) (fun s => μ s) (fun n s hI hk => hs n s hI (fun b1 h9 hm => hk b1 h9 hm)) a1 h
theorem lp2 {A1 A2 : Type} (W : Nat → A1 → A2 → Prop) (I : A1 → A2 → Prop) (μ : A1 → A2 → Nat) (hs : ∀ (n : Nat) (a1 : A1) (a2 : A2), I a1 a2 → (∀ (b1 : A1) (b2 : A2), I b1 b2 → μ b1 b2 < μ a1 a2 → W n b1 b2) → W (n + 1) a1 a2) (a1 : A1) (a2 : A2) (h : I a1 a2) : ∃ n, W n a1 a2 :=
  loop_m (σ := A1 × A2) (fun n s => W n s.1 s.2) (fun s => I s.1 s.2) (fun s => μ s.1 s.2) (fun n s hI hk => hs n s.1 s.2 hI (fun b1 b2 h9 hm => hk (b1, b2) h9 hm)) (a1, a2) h
theorem lp3 {A1 A2 A3 : Type} (W : Nat → A1 → A2 → A3 → Prop) (I : A1 → A2 → A3 → Prop) (μ : A1 → A2 → A3 → Nat) (hs : ∀ (n : Nat) (a1 : A1) (a2 : A2) (a3 : A3), I a1 a2 a3 → (∀ (b1 : A1) (b2 : A2) (b3 : A3), I b1 b2 b3 → μ b1 b2 b3 < μ a1 a2 a3 → W n b1 b2 b3) → W (n + 1) a1 a2 a3) (a1 : A1) (a2 : A2) (a3 : A3) (h : I a1 a2 a3) : ∃ n, W n a1 a2 a3 :=
  loop_m (σ := A1 × A2 × A3) (fun n s => W n s.1 s.2.1 s.2.2) (fun s => I s.1 s.2.1 s.2.2) (fun s => μ s.1 s.2.1 s.2.2) (fun n s hI hk => hs n s.1 s.2.1 s.2.2 hI (fun b1 b2 b3 h9 hm => hk (b1, b2, b3) h9 hm)) (a1, a2, a3) h
theorem lp4 {A1 A2 A3 A4 : Type} (W : Nat → A1 → A2 → A3 → A4 → Prop) (I : A1 → A2 → A3 → A4 → Prop) (μ : A1 → A2 → A3 → A4 → Nat) (hs : ∀ (n : Nat) (a1 : A1) (a2 : A2) (a3 : A3) (a4 : A4), I a1 a2 a3 a4 → (∀ (b1 : A1) (b2 : A2) (b3 : A3) (b4 : A4), I b1 b2 b3 b4 → μ b1 b2 b3 b4 < μ a1 a2 a3 a4 → W n b1 b2 b3 b4) → W (n + 1) a1 a2 a3 a4) (a1 : A1) (a2 : A2) (a3 : A3) (a4 : A4) (h : I a1 a2 a3 a4) : ∃ n, W n a1 a2 a3 a4 :=
  loop_m (σ := A1 × A2 × A3 × A4) (fun n s => W n s.1 s.2.1 s.2.2.1 s.2.2.2) (fun s => I s.1 s.2.1 s.2.2.1 s.2.2.2) (fun s => μ s.1 s.2.1 s.2.2.1 s.2.2.2) (fun n s hI hk => hs n s.1 s.2.1 s.2.2.1 s.2.2.2 hI (fun b1 b2 b3 b4 h9 hm => hk (b1, b2, b3, b4) h9 hm)) (a1, a2, a3, a4) h
theorem lp5 {A1 A2 A3 A4 A5 : Type} (W : Nat → A1 → A2 → A3 → A4 → A5 → Prop) (I : A1 → A2 → A3 → A4 → A5 → Prop) (μ : A1 → A2 → A3 → A4 → A5 → Nat) (hs : ∀ (n : Nat) (a1 : A1) (a2 : A2) (a3 : A3) (a4 : A4) (a5 : A5), I a1 a2 a3 a4 a5 → (∀ (b1 : A1) (b2 : A2) (b3 : A3) (b4 : A4) (b5 : A5), I b1 b2 b3 b4 b5 → μ b1 b2 b3 b4 b5 < μ a1 a2 a3 a4 a5 → W n b1 b2 b3 b4 b5) → W (n + 1) a1 a2 a3 a4 a5) (a1 : A1) (a2 : A2) (a3 : A3) (a4 : A4) (a5 : A5) (h : I a1 a2 a3 a4 a5) : ∃ n, W n a1 a2 a3 a4 a5 :=
  loop_m (σ := A1 × A2 × A3 × A4 × A5) (fun n s => W n s.1 s.2.1 s.2.2.1 s.2.2.2.1 s.2.2.2.2) (fun s => I s.1 s.2.1 s.2.2.1 s.2.2.2.1 s.2.2.2.2) (fun s => μ s.1 s.2.1 s.2.2.1 s.2.2.2.1 s.2.2.2.2) (fun n s hI hk => hs n s.1 s.2.1 s.2.2.1 s.2.2.2.1 s.2.2.2.2 hI (fun b1 b2 b3 b4 b5 h9 hm => hk (b1, b2, b3, b4, b5) h9 hm)) (a1, a2, a3, a4, a5) h
theorem lp6 {A1 A2 A3 A4 A5 A6 : Type} (W : Nat → A1 → A2 → A3 → A4 → A5 → A6 → Prop) (I : A1 → A2 → A3 → A4 → A5 → A6 → Prop) (μ : A1 → A2 → A3 → A4 → A5 → A6 → Nat) (hs : ∀ (n : Nat) (a1 : A1) (a2 : A2) (a3 : A3) (a4 : A4) (a5 : A5) (a6 : A6), I a1 a2 a3 a4 a5 a6 → (∀ (b1 : A1) (b2 : A2) (b3 : A3) (b4 : A4) (b5 : A5) (b6 : A6), I b1 b2 b3 b4 b5 b6 → μ b1 b2 b3 b4 b5 b6 < μ a1 a2 a3 a4 a5 a6 → W n b1 b2 b3 b4 b5 b6) → W (n + 1) a1 a2 a3 a4 a5 a6) (a1 : A1) (a2 : A2) (a3 : A3) (a4 : A4) (a5 : A5) (a6 : A6) (h : I a1 a2 a3 a4 a5 a6) : ∃ n, W n a1 a2 a3 a4 a5 a6 :=
  loop_m (σ := A1 × A2 × A3 × A4 × A5 × A6) (fun n s => W n s.1 s.2.1 s.2.2.1 s.2.2.2.1 s.2.2.2.2.1 s.2.2.2.2.2) (fun s => I s.1 s.2.1 s.2.2.1 s.2.2.2.1 s.2.2.2.2.1 s.2.2.2.2.2) (fun s => μ s.1 s.2.1 s.2.2.1 s.2.2.2.1 s.2.2.2.2.1 s.2.2.2.2.2) (fun n s hI hk => hs n s.1 s.2.1 s.2.2.1 s.2.2.2.1 s.2.2.2.2.1 s.2.2.2.2.2 hI (fun b1 b2 b3 b4 b5 b6 h9 hm => hk (b1, b2, b3, b4, b5, b6) h9 hm)) (a1, a2, a3, a4, a5, a6) h
theorem lp7 {A1 A2 A3 A4 A5 A6 A7 : Type} (W : Nat → A1 → A2 → A3 → A4 → A5 → A6 → A7 → Prop) (I : A1 → A2 → A3 → A4 → A5 → A6 → A7 → Prop) (μ : A1 → A2 → A3 → A4 → A5 → A6 → A7 → Nat) (hs : ∀ (n : Nat) (a1 : A1) (a2 : A2) (a3 : A3) (a4 : A4) (a5 : A5) (a6 : A6) (a7 : A7), I a1 a2 a3 a4 a5 a6 a7 → (∀ (b1 : A1) (b2 : A2) (b3 : A3) (b4 : A4) (b5 : A5) (b6 : A6) (b7 : A7), I b1 b2 b3 b4 b5 b6 b7 → μ b1 b2 b3 b4 b5 b6 b7 < μ a1 a2 a3 a4 a5 a6 a7 → W n b1 b2 b3 b4 b5 b6 b7) → W (n + 1) a1 a2 a3 a4 a5 a6 a7) (a1 : A1) (a2 : A2) (a3 : A3) (a4 : A4) (a5 : A5) (a6 : A6) (a7 : A7) (h : I a1 a2 a3 a4 a5 a6 a7) : ∃ n, W n a1 a2 a3 a4 a5 a6 a7 :=
  loop_m (σ := A1 × A2 × A3 × A4 × A5 × A6 × A7) (fun n s => W n s.1 s.2.1 s.2.2.1 s.2.2.2.1 s.2.2.2.2.1 s.2.2.2.2.2.1 s.2.2.2.2.2.2) (fun s => I s.1 s.2.1 s.2.2.1 s.2.2.2.1 s.2.2.2.2.1 s.2.2.2.2.2.1 s.2.2.2.2.2.2) (fun s => μ s.1 s.2.1 s.2.2.1 s.2.2.2.1 s.2.2.2.2.1 s.2.2.2.2.2.1 s.2.2.2.2.2.2) (fun n s hI hk => hs n s.1 s.2.1 s.2.2.1 s.2.2.2.1 s.2.2.2.2.1 s.2.2.2.2.2.1 s.2.2.2.2.2.2 hI (fun b1 b2 b3 b4 b5 b6 b7 h9 hm => hk (b1, b2, b3, b4, b5, b6, b7) h9 hm)) (a1, a2, a3, a4, a5, a6, a7) h
theorem lp8 {A1 A2 A3 A4 A5 A6 A7 A8 : Type} (W : Nat → A1 → A2 → A3 → A4 → A5 → A6 → A7 → A8 → Prop) (I : A1 → A2 → A3 → A4 → A5 → A6 → A7 → A8 → Prop) (μ : A1 → A2 → A3 → A4 → A5 → A6 → A7 → A8 → Nat) (hs : ∀ (n : Nat) (a1 : A1) (a2 : A2) (a3 : A3) (a4 : A4) (a5 : A5) (a6 : A6) (a7 : A7) (a8 : A8), I a1 a2 a3 a4 a5 a6 a7 a8 → (∀ (b1 : A1) (b2 : A2) (b3 : A3) (b4 : A4) (b5 : A5) (b6 : A6) (b7 : A7) (b8 : A8), I b1 b2 b3 b4 b5 b6 b7 b8 → μ b1 b2 b3 b4 b5 b6 b7 b8 < μ a1 a2 a3 a4 a5 a6 a7 a8 → W n b1 b2 b3 b4 b5 b6 b7 b8) → W (n + 1) a1 a2 a3 a4 a5 a6 a7 a8) (a1 : A1) (a2 : A2) (a3 : A3) (a4 : A4) (a5 : A5) (a6 : A6) (a7 : A7) (a8 : A8) (h : I a1 a2 a3 a4 a5 a6 a7 a8) : ∃ n, W n a1 a2 a3 a4 a5 a6 a7 a8 :=
  loop_m (σ := A1 × A2 × A3 × A4 × A5 × A6 × A7 × A8) (fun n s => W n s.1 s.2.1 s.2.2.1 s.2.2.2.1 s.2.2.2.2.1 s.2.2.2.2.2.1 s.2.2.2.2.2.2.1 s.2.2.2.2.2.2.2) (fun s => I s.1 s.2.1 s.2.2.1 s.2.2.2.1 s.2.2.2.2.1 s.2.2.2.2.2.1 s.2.2.2.2.2.2.1 s.2.2.2.2.2.2.2) (fun s => μ s.1 s.2.1 s.2.2.1 s.2.2.2.1 s.2.2.2.2.1 s.2.2.2.2.2.1 s.2.2.2.2.2.2.1 s.2.2.2.2.2.2.2) (fun n s hI hk => hs n s.1 s.2.1 s.2.2.1 s.2.2.2.1 s.2.2.2.2.1 s.2.2.2.2.2.1 s.2.2.2.2.2.2.1 s.2.2.2.2.2.2.2 hI (fun b1 b2 b3 b4 b5 b6 b7 b8 h9 hm => hk (b1, b2, b3, b4, b5, b6, b7, b8) h9 hm)) (a1, a2, a3, a4, a5, a6, a7, a8) h
theorem lp9 {A1 A2 A3 A4 A5 A6 A7 A8 A9 : Type} (W : Nat → A1 → A2 → A3 → A4 → A5 → A6 → A7 → A8 → A9 → Prop) (I : A1 → A2 → A3 → A4 → A5 → A6 → A7 → A8 → A9 → Prop) (μ : A1 → A2 → A3 → A4 → A5 → A6 → A7 → A8 → A9 → Nat) (hs : ∀ (n : Nat) (a1 : A1) (a2 : A2) (a3 : A3) (a4 : A4) (a5 : A5) (a6 : A6) (a7 : A7) (a8 : A8) (a9 : A9), I a1 a2 a3 a4 a5 a6 a7 a8 a9 → (∀ (b1 : A1) (b2 : A2) (b3 : A3) (b4 : A4) (b5 : A5) (b6 : A6) (b7 : A7) (b8 : A8) (b9 : A9), I b1 b2 b3 b4 b5 b6 b7 b8 b9 → μ b1 b2 b3 b4 b5 b6 b7 b8 b9 < μ a1 a2 a3 a4 a5 a6 a7 a8 a9 → W n b1 b2 b3 b4 b5 b6 b7 b8 b9) → W (n + 1) a1 a2 a3 a4 a5 a6 a7 a8 a9) (a1 : A1) (a2 : A2) (a3 : A3) (a4 : A4) (a5 : A5) (a6 : A6) (a7 : A7) (a8 : A8) (a9 : A9) (h : I a1 a2 a3 a4 a5 a6 a7 a8 a9) : ∃ n, W n a1 a2 a3 a4 a5 a6 a7 a8 a9 :=
  loop_m (σ := A1 × A2 × A3 × A4 × A5 × A6 × A7 × A8 × A9) (fun n s => W n s.1 s.2.1 s.2.2.1 s.2.2.2.1 s.2.2.2.2.1 s.2.2.2.2.2.1 s.2.2.2.2.2.2.1 s.2.2.2.2.2.2.2.1 s.2.2.2.2.2.2.2.2) (fun s => I s.1 s.2.1 s.2.2.1 s.2.2.2.1 s.2.2.2.2.1 s.2.2.2.2.2.1 s.2.2.2.2.2.2.1 s.2.2.2.2.2.2.2.1 s.2.2.2.2.2.2.2.2) (fun s => μ s.1 s.2.1 s.2.2.1 s.2.2.2.1 s.2.2.2.2.1 s.2.2.2.2.2.1 s.2.2.2.2.2.2.1 s.2.2.2.2.2.2.2.1 s.2.2.2.2.2.2.2.2) (fun n s hI hk => hs n s.1 s.2.1 s.2.2.1 s.2.2.2.1 s.2.2.2.2.1 s.2.2.2.2.2.1 s.2.2.2.2.2.2.1 s.2.2.2.2.2.2.2.1 s.2.2.2.2.2.2.2.2 hI (fun b1 b2 b3 b4 b5 b6 b7 b8 b9 h9 hm => hk (b1, b2, b3, b4, b5, b6, b7, b8, b9) h9 hm)) (a1, a2, a3, a4, a5, a6, a7, a8, a9) h
theorem lp10 {A1 A2 A3 A4 A5 A6 A7 A8 A9 A10 : Type} (W : Nat → A1 → A2 → A3 → A4 → A5 → A6 → A7 → A8 → A9 → A10 → Prop) (I : A1 → A2 → A3 → A4 → A5 → A6 → A7 → A8 → A9 → A10 → Prop) (μ : A1 → A2 → A3 → A4 → A5 → A6 → A7 → A8 → A9 → A10 → Nat) (hs : ∀ (n : Nat) (a1 : A1) (a2 : A2) (a3 : A3) (a4 : A4) (a5 : A5) (a6 : A6) (a7 : A7) (a8 : A8) (a9 : A9) (a10 : A10), I a1 a2 a3 a4 a5 a6 a7 a8 a9 a10 → (∀ (b1 : A1) (b2 : A2) (b3 : A3) (b4 : A4) (b5 : A5) (b6 : A6) (b7 : A7) (b8 : A8) (b9 : A9) (b10 : A10), I b1 b2 b3 b4 b5 b6 b7 b8 b9 b10 → μ b1 b2 b3 b4 b5 b6 b7 b8 b9 b10 < μ a1 a2 a3 a4 a5 a6 a7 a8 a9 a10 → W n b1 b2 b3 b4 b5 b6 b7 b8 b9 b10) → W (n + 1) a1 a2 a3 a4 a5 a6 a7 a8 a9 a10) (a1 : A1) (a2 : A2) (a3 : A3) (a4 : A4) (a5 : A5) (a6 : A6) (a7 : A7) (a8 : A8) (a9 : A9) (a10 : A10) (h : I a1 a2 a3 a4 a5 a6 a7 a8 a9 a10) : ∃ n, W n a1 a2 a3 a4 a5 a6 a7 a8 a9 a10 :=
  loop_m (σ := A1 × A2 × A3 × A4 × A5 × A6 × A7 × A8 × A9 × A10) (fun n s => W n s.1 s.2.1 s.2.2.1 s.2.2.2.1 s.2.2.2.2.1 s.2.2.2.2.2.1 s.2.2.2.2.2.2.1 s.2.2.2.2.2.2.2.1 s.2.2.2.2.2.2.2.2.1 s.2.2.2.2.2.2.2.2.2) (fun s => I s.1 s.2.1 s.2.2.1 s.2.2.2.1 s.2.2.2.2.1 s.2.2.2.2.2.1 s.2.2.2.2.2.2.1 s.2.2.2.2.2.2.2.1 s.2.2.2.2.2.2.2.2.1 s.2.2.2.2.2.2.2.2.2) (fun s => μ s.1 s.2.1 s.2.2.1 s.2.2.2.1 s.2.2.2.2.1 s.2.2.2.2.2.1 s.2.2.2.2.2.2.1 s.2.2.2.2.2.2.2.1 s.2.2.2.2.2.2.2.2.1 s.2.2.2.2.2.2.2.2.2) (fun n s hI hk => hs n s.1 s.2.1 s.2.2.1 s.2.2.2.1 s.2.2.2.2.1 s.2.2.2.2.2.1 s.2.2.2.2.2.2.1 s.2.2.2.2.2.2.2.1 s.2.2.2.2.2.2.2.2.1 s.2.2.2.2.2.2.2.2.2 hI (fun b1 b2 b3 b4 b5 b6 b7 b8 b9 b10 h9 hm => hk (b1, b2, b3, b4, b5, b6, b7, b8, b9, b10) h9 hm)) (a1, a2, a3, a4, a5, a6, a7, a8, a9, a10) h
theorem lp11 {A1 A2 A3 A4 A5 A6 A7 A8 A9 A10 A11 : Type} (W : Nat → A1 → A2 → A3 → A4 → A5 → A6 → A7 → A8 → A9 → A10 → A11 → Prop) (I : A1 → A2 → A3 → A4 → A5 → A6 → A7 → A8 → A9 → A10 → A11 → Prop) (μ : A1 → A2 → A3 → A4 → A5 → A6 → A7 → A8 → A9 → A10 → A11 → Nat) (hs : ∀ (n : Nat) (a1 : A1) (a2 : A2) (a3 : A3) (a4 : A4) (a5 : A5) (a6 : A6) (a7 : A7) (a8 : A8) (a9 : A9) (a10 : A10) (a11 : A11), I a1 a2 a3 a4 a5 a6 a7 a8 a9 a10 a11 → (∀ (b1 : A1) (b2 : A2) (b3 : A3) (b4 : A4) (b5 : A5) (b6 : A6) (b7 : A7) (b8 : A8) (b9 : A9) (b10 : A10) (b11 : A11), I b1 b2 b3 b4 b5 b6 b7 b8 b9 b10 b11 → μ b1 b2 b3 b4 b5 b6 b7 b8 b9 b10 b11 < μ a1 a2 a3 a4 a5 a6 a7 a8 a9 a10 a11 → W n b1 b2 b3 b4 b5 b6 b7 b8 b9 b10 b11) → W (n + 1) a1 a2 a3 a4 a5 a6 a7 a8 a9 a10 a11) (a1 : A1) (a2 : A2) (a3 : A3) (a4 : A4) (a5 : A5) (a6 : A6) (a7 : A7) (a8 : A8) (a9 : A9) (a10 : A10) (a11 : A11) (h : I a1 a2 a3 a4 a5 a6 a7 a8 a9 a10 a11) : ∃ n, W n a1 a2 a3 a4 a5 a6 a7 a8 a9 a10 a11 :=
  loop_m (σ := A1 × A2 × A3 × A4 × A5 × A6 × A7 × A8 × A9 × A10 × A11) (fun n s => W n s.1 s.2.1 s.2.2.1 s.2.2.2.1 s.2.2.2.2.1 s.2.2.2.2.2.1 s.2.2.2.2.2.2.1 s.2.2.2.2.2.2.2.1 s.2.2.2.2.2.2.2.2.1 s.2.2.2.2.2.2.2.2.2.1 s.2.2.2.2.2.2.2.2.2.2) (fun s => I s.1 s.2.1 s.2.2.1 s.2.2.2.1 s.2.2.2.2.1 s.2.2.2.2.2.1 s.2.2.2.2.2.2.1 s.2.2.2.2.2.2.2.1 s.2.2.2.2.2.2.2.2.1 s.2.2.2.2.2.2.2.2.2.1 s.2.2.2.2.2.2.2.2.2.2) (fun s => μ s.1 s.2.1 s.2.2.1 s.2.2.2.1 s.2.2.2.2.1 s.2.2.2.2.2.1 s.2.2.2.2.2.2.1 s.2.2.2.2.2.2.2.1 s.2.2.2.2.2.2.2.2.1 s.2.2.2.2.2.2.2.2.2.1 s.2.2.2.2.2.2.2.2.2.2) (fun n s hI hk => hs n s.1 s.2.1 s.2.2.1 s.2.2.2.1 s.2.2.2.2.1 s.2.2.2.2.2.1 s.2.2.2.2.2.2.1 s.2.2.2.2.2.2.2.1 s.2.2.2.2.2.2.2.2.1 s.2.2.2.2.2.2.2.2.2.1 s.2.2.2.2.2.2.2.2.2.2 hI (fun b1 b2 b3 b4 b5 b6 b7 b8 b9 b10 b11 h9 hm => hk (b1, b2, b3, b4, b5, b6, b7, b8, b9, b10, b11) h9 hm)) (a1, a2, a3, a4, a5, a6, a7, a8, a9, a10, a11) h
theorem lp12 {A1 A2 A3 A4 A5 A6 A7 A8 A9 A10 A11 A12 : Type} (W : Nat → A1 → A2 → A3 → A4 → A5 → A6 → A7 → A8 → A9 → A10 → A11 → A12 → Prop) (I : A1 → A2 → A3 → A4 → A5 → A6 → A7 → A8 → A9 → A10 → A11 → A12 → Prop) (μ : A1 → A2 → A3 → A4 → A5 → A6 → A7 → A8 → A9 → A10 → A11 → A12 → Nat) (hs : ∀ (n : Nat) (a1 : A1) (a2 : A2) (a3 : A3) (a4 : A4) (a5 : A5) (a6 : A6) (a7 : A7) (a8 : A8) (a9 : A9) (a10 : A10) (a11 : A11) (a12 : A12), I a1 a2 a3 a4 a5 a6 a7 a8 a9 a10 a11 a12 → (∀ (b1 : A1) (b2 : A2) (b3 : A3) (b4 : A4) (b5 : A5) (b6 : A6) (b7 : A7) (b8 : A8) (b9 : A9) (b10 : A10) (b11 : A11) (b12 : A12), I b1 b2 b3 b4 b5 b6 b7 b8 b9 b10 b11 b12 → μ b1 b2 b3 b4 b5 b6 b7 b8 b9 b10 b11 b12 < μ a1 a2 a3 a4 a5 a6 a7 a8 a9 a10 a11 a12 → W n b1 b2 b3 b4 b5 b6 b7 b8 b9 b10 b11 b12) → W (n + 1) a1 a2 a3 a4 a5 a6 a7 a8 a9 a10 a11 a12) (a1 : A1) (a2 : A2) (a3 : A3) (a4 : A4) (a5 : A5) (a6 : A6) (a7 : A7) (a8 : A8) (a9 : A9) (a10 : A10) (a11 : A11) (a12 : A12) (h : I a1 a2 a3 a4 a5 a6 a7 a8 a9 a10 a11 a12) : ∃ n, W n a1 a2 a3 a4 a5 a6 a7 a8 a9 a10 a11 a12 :=
  loop_m (σ := A1 × A2 × A3 × A4 × A5 × A6 × A7 × A8 × A9 × A10 × A11 × A12) (fun n s => W n s.1 s.2.1 s.2.2.1 s.2.2.2.1 s.2.2.2.2.1 s.2.2.2.2.2.1 s.2.2.2.2.2.2.1 s.2.2.2.2.2.2.2.1 s.2.2.2.2.2.2.2.2.1 s.2.2.2.2.2.2.2.2.2.1 s.2.2.2.2.2.2.2.2.2.2.1 s.2.2.2.2.2.2.2.2.2.2.2) (fun s => I s.1 s.2.1 s.2.2.1 s.2.2.2.1 s.2.2.2.2.1 s.2.2.2.2.2.1 s.2.2.2.2.2.2.1 s.2.2.2.2.2.2.2.1 s.2.2.2.2.2.2.2.2.1 s.2.2.2.2.2.2.2.2.2.1 s.2.2.2.2.2.2.2.2.2.2.1 s.2.2.2.2.2.2.2.2.2.2.2) (fun s => μ s.1 s.2.1 s.2.2.1 s.2.2.2.1 s.2.2.2.2.1 s.2.2.2.2.2.1 s.2.2.2.2.2.2.1 s.2.2.2.2.2.2.2.1 s.2.2.2.2.2.2.2.2.1 s.2.2.2.2.2.2.2.2.2.1 s.2.2.2.2.2.2.2.2.2.2.1 s.2.2.2.2.2.2.2.2.2.2.2) (fun n s hI hk => hs n s.1 s.2.1 s.2.2.1 s.2.2.2.1 s.2.2.2.2.1 s.2.2.2.2.2.1 s.2.2.2.2.2.2.1 s.2.2.2.2.2.2.2.1 s.2.2.2.2.2.2.2.2.1 s.2.2.2.2.2.2.2.2.2.1 s.2.2.2.2.2.2.2.2.2.2.1 s.2.2.2.2.2.2.2.2.2.2.2 hI (fun b1 b2 b3 b4 b5 b6 b7 b8 b9 b10 b11 b12 h9 hm => hk (b1, b2, b3, b4, b5, b6, b7, b8, b9, b10, b11, b12) h9 hm)) (a1, a2, a3, a4, a5, a6, a7, a8, a9, a10, a11, a12) h
theorem lp13 {A1 A2 A3 A4 A5 A6 A7 A8 A9 A10 A11 A12 A13 : Type} (W : Nat → A1 → A2 → A3 → A4 → A5 → A6 → A7 → A8 → A9 → A10 → A11 → A12 → A13 → Prop) (I : A1 → A2 → A3 → A4 → A5 → A6 → A7 → A8 → A9 → A10 → A11 → A12 → A13 → Prop) (μ : A1 → A2 → A3 → A4 → A5 → A6 → A7 → A8 → A9 → A10 → A11 → A12 → A13 → Nat) (hs : ∀ (n : Nat) (a1 : A1) (a2 : A2) (a3 : A3) (a4 : A4) (a5 : A5) (a6 : A6) (a7 : A7) (a8 : A8) (a9 : A9) (a10 : A10) (a11 : A11) (a12 : A12) (a13 : A13), I a1 a2 a3 a4 a5 a6 a7 a8 a9 a10 a11 a12 a13 → (∀ (b1 : A1) (b2 : A2) (b3 : A3) (b4 : A4) (b5 : A5) (b6 : A6) (b7 : A7) (b8 : A8) (b9 : A9) (b10 : A10) (b11 : A11) (b12 : A12) (b13 : A13), I b1 b2 b3 b4 b5 b6 b7 b8 b9 b10 b11 b12 b13 → μ b1 b2 b3 b4 b5 b6 b7 b8 b9 b10 b11 b12 b13 < μ a1 a2 a3 a4 a5 a6 a7 a8 a9 a10 a11 a12 a13 → W n b1 b2 b3 b4 b5 b6 b7 b8 b9 b10 b11 b12 b13) → W (n + 1) a1 a2 a3 a4 a5 a6 a7 a8 a9 a10 a11 a12 a13) (a1 : A1) (a2 : A2) (a3 : A3) (a4 : A4) (a5 : A5) (a6 : A6) (a7 : A7) (a8 : A8) (a9 : A9) (a10 : A10) (a11 : A11) (a12 : A12) (a13 : A13) (h : I a1 a2 a3 a4 a5 a6 a7 a8 a9 a10 a11 a12 a13) : ∃ n, W n a1 a2 a3 a4 a5 a6 a7 a8 a9 a10 a11 a12 a13 :=
  loop_m (σ := A1 × A2 × A3 × A4 × A5 × A6 × A7 × A8 × A9 × A10 × A11 × A12 × A13) (fun n s => W n s.1 s.2.1 s.2.2.1 s.2.2.2.1 s.2.2.2.2.1 s.2.2.2.2.2.1 s.2.2.2.2.2.2.1 s.2.2.2.2.2.2.2.1 s.2.2.2.2.2.2.2.2.1 s.2.2.2.2.2.2.2.2.2.1 s.2.2.2.2.2.2.2.2.2.2.1 s.2.2.2.2.2.2.2.2.2.2.2.1 s.2.2.2.2.2.2.2.2.2.2.2.2) (fun s => I s.1 s.2.1 s.2.2.1 s.2.2.2.1 s.2.2.2.2.1 s.2.2.2.2.2.1 s.2.2.2.2.2.2.1 s.2.2.2.2.2.2.2.1 s.2.2.2.2.2.2.2.2.1 s.2.2.2.2.2.2.2.2.2.1 s.2.2.2.2.2.2.2.2.2.2.1 s.2.2.2.2.2.2.2.2.2.2.2.1 s.2.2.2.2.2.2.2.2.2.2.2.2) (fun s => μ s.1 s.2.1 s.2.2.1 s.2.2.2.1 s.2.2.2.2.1 s.2.2.2.2.2.1 s.2.2.2.2.2.2.1 s.2.2.2.2.2.2.2.1 s.2.2.2.2.2.2.2.2.1 s.2.2.2.2.2.2.2.2.2.1 s.2.2.2.2.2.2.2.2.2.2.1 s.2.2.2.2.2.2.2.2.2.2.2.1 s.2.2.2.2.2.2.2.2.2.2.2.2) (fun n s hI hk => hs n s.1 s.2.1 s.2.2.1 s.2.2.2.1 s.2.2.2.2.1 s.2.2.2.2.2.1 s.2.2.2.2.2.2.1 s.2.2.2.2.2.2.2.1 s.2.2.2.2.2.2.2.2.1 s.2.2.2.2.2.2.2.2.2.1 s.2.2.2.2.2.2.2.2.2.2.1 s.2.2.2.2.2.2.2.2.2.2.2.1 s.2.2.2.2.2.2.2.2.2.2.2.2 hI (fun b1 b2 b3 b4 b5 b6 b7 b8 b9 b10 b11 b12 b13 h9 hm => hk (b1, b2, b3, b4, b5, b6, b7, b8, b9, b10, b11, b12, b13) h9 hm)) (a1, a2, a3, a4, a5, a6, a7, a8, a9, a10, a11, a12, a13) h
theorem lp14 {A1 A2 A3 A4 A5 A6 A7 A8 A9 A10 A11 A12 A13 A14 : Type} (W : Nat → A1 → A2 → A3 → A4 → A5 → A6 → A7 → A8 → A9 → A10 → A11 → A12 → A13 → A14 → Prop) (I : A1 → A2 → A3 → A4 → A5 → A6 → A7 → A8 → A9 → A10 → A11 → A12 → A13 → A14 → Prop) (μ : A1 → A2 → A3 → A4 → A5 → A6 → A7 → A8 → A9 → A10 → A11 → A12 → A13 → A14 → Nat) (hs : ∀ (n : Nat) (a1 : A1) (a2 : A2) (a3 : A3) (a4 : A4) (a5 : A5) (a6 : A6) (a7 : A7) (a8 : A8) (a9 : A9) (a10 : A10) (a11 : A11) (a12 : A12) (a13 : A13) (a14 : A14), I a1 a2 a3 a4 a5 a6 a7 a8 a9 a10 a11 a12 a13 a14 → (∀ (b1 : A1) (b2 : A2) (b3 : A3) (b4 : A4) (b5 : A5) (b6 : A6) (b7 : A7) (b8 : A8) (b9 : A9) (b10 : A10) (b11 : A11) (b12 : A12) (b13 : A13) (b14 : A14), I b1 b2 b3 b4 b5 b6 b7 b8 b9 b10 b11 b12 b13 b14 → μ b1 b2 b3 b4 b5 b6 b7 b8 b9 b10 b11 b12 b13 b14 < μ a1 a2 a3 a4 a5 a6 a7 a8 a9 a10 a11 a12 a13 a14 → W n b1 b2 b3 b4 b5 b6 b7 b8 b9 b10 b11 b12 b13 b14) → W (n + 1) a1 a2 a3 a4 a5 a6 a7 a8 a9 a10 a11 a12 a13 a14) (a1 : A1) (a2 : A2) (a3 : A3) (a4 : A4) (a5 : A5) (a6 : A6) (a7 : A7) (a8 : A8) (a9 : A9) (a10 : A10) (a11 : A11) (a12 : A12) (a13 : A13) (a14 : A14) (h : I a1 a2 a3 a4 a5 a6 a7 a8 a9 a10 a11 a12 a13 a14) : ∃ n, W n a1 a2 a3 a4 a5 a6 a7 a8 a9 a10 a11 a12 a13 a14 :=
  loop_m (σ := A1 × A2 × A3 × A4 × A5 × A6 × A7 × A8 × A9 × A10 × A11 × A12 × A13 × A14) (fun n s => W n s.1 s.2.1 s.2.2.1 s.2.2.2.1 s.2.2.2.2.1 s.2.2.2.2.2.1 s.2.2.2.2.2.2.1 s.2.2.2.2.2.2.2.1 s.2.2.2.2.2.2.2.2.1 s.2.2.2.2.2.2.2.2.2.1 s.2.2.2.2.2.2.2.2.2.2.1 s.2.2.2.2.2.2.2.2.2.2.2.1 s.2.2.2.2.2.2.2.2.2.2.2.2.1 s.2.2.2.2.2.2.2.2.2.2.2.2.2) (fun s => I s.1 s.2.1 s.2.2.1 s.2.2.2.1 s.2.2.2.2.1 s.2.2.2.2.2.1 s.2.2.2.2.2.2.1 s.2.2.2.2.2.2.2.1 s.2.2.2.2.2.2.2.2.1 s.2.2.2.2.2.2.2.2.2.1 s.2.2.2.2.2.2.2.2.2.2.1 s.2.2.2.2.2.2.2.2.2.2.2.1 s.2.2.2.2.2.2.2.2.2.2.2.2.1 s.2.2.2.2.2.2.2.2.2.2.2.2.2) (fun s => μ s.1 s.2.1 s.2.2.1 s.2.2.2.1 s.2.2.2.2.1 s.2.2.2.2.2.1 s.2.2.2.2.2.2.1 s.2.2.2.2.2.2.2.1 s.2.2.2.2.2.2.2.2.1 s.2.2.2.2.2.2.2.2.2.1 s.2.2.2.2.2.2.2.2.2.2.1 s.2.2.2.2.2.2.2.2.2.2.2.1 s.2.2.2.2.2.2.2.2.2.2.2.2.1 s.2.2.2.2.2.2.2.2.2.2.2.2.2) (fun n s hI hk => hs n s.1 s.2.1 s.2.2.1 s.2.2.2.1 s.2.2.2.2.1 s.2.2.2.2.2.1 s.2.2.2.2.2.2.1 s.2.2.2.2.2.2.2.1 s.2.2.2.2.2.2.2.2.1 s.2.2.2.2.2.2.2.2.2.1 s.2.2.2.2.2.2.2.2.2.2.1 s.2.2.2.2.2.2.2.2.2.2.2.1 s.2.2.2.2.2.2.2.2.2.2.2.2.1 s.2.2.2.2.2.2.2.2.2.2.2.2.2 hI (fun b1 b2 b3 b4 b5 b6 b7 b8 b9 b10 b11 b12 b13 b14 h9 hm => hk (b1, b2, b3, b4, b5, b6, b7, b8, b9, b10, b11, b12, b13, b14) h9 hm)) (a1, a2, a3, a4, a5, a6, a7, a8, a9, a10, a11, a12, a13, a14) h
theorem lp15 {A1 A2 A3 A4 A5 A6 A7 A8 A9 A10 A11 A12 A13 A14 A15 : Type} (W : Nat → A1 → A2 → A3 → A4 → A5 → A6 → A7 → A8 → A9 → A10 → A11 → A12 → A13 → A14 → A15 → Prop) (I : A1 → A2 → A3 → A4 → A5 → A6 → A7 → A8 → A9 → A10 → A11 → A12 → A13 → A14 → A15 → Prop) (μ : A1 → A2 → A3 → A4 → A5 → A6 → A7 → A8 → A9 → A10 → A11 → A12 → A13 → A14 → A15 → Nat) (hs : ∀ (n : Nat) (a1 : A1) (a2 : A2) (a3 : A3) (a4 : A4) (a5 : A5) (a6 : A6) (a7 : A7) (a8 : A8) (a9 : A9) (a10 : A10) (a11 : A11) (a12 : A12) (a13 : A13) (a14 : A14) (a15 : A15), I a1 a2 a3 a4 a5 a6 a7 a8 a9 a10 a11 a12 a13 a14 a15 → (∀ (b1 : A1) (b2 : A2) (b3 : A3) (b4 : A4) (b5 : A5) (b6 : A6) (b7 : A7) (b8 : A8) (b9 : A9) (b10 : A10) (b11 : A11) (b12 : A12) (b13 : A13) (b14 : A14) (b15 : A15), I b1 b2 b3 b4 b5 b6 b7 b8 b9 b10 b11 b12 b13 b14 b15 → μ b1 b2 b3 b4 b5 b6 b7 b8 b9 b10 b11 b12 b13 b14 b15 < μ a1 a2 a3 a4 a5 a6 a7 a8 a9 a10 a11 a12 a13 a14 a15 → W n b1 b2 b3 b4 b5 b6 b7 b8 b9 b10 b11 b12 b13 b14 b15) → W (n + 1) a1 a2 a3 a4 a5 a6 a7 a8 a9 a10 a11 a12 a13 a14 a15) (a1 : A1) (a2 : A2) (a3 : A3) (a4 : A4) (a5 : A5) (a6 : A6) (a7 : A7) (a8 : A8) (a9 : A9) (a10 : A10) (a11 : A11) (a12 : A12) (a13 : A13) (a14 : A14) (a15 : A15) (h : I a1 a2 a3 a4 a5 a6 a7 a8 a9 a10 a11 a12 a13 a14 a15) : ∃ n, W n a1 a2 a3 a4 a5 a6 a7 a8 a9 a10 a11 a12 a13 a14 a15 :=
  loop_m (σ := A1 × A2 × A3 × A4 × A5 × A6 × A7 × A8 × A9 × A10 × A11 × A12 × A13 × A14 × A15) (fun n s => W n s.1 s.2.1 s.2.2.1 s.2.2.2.1 s.2.2.2.2.1 s.2.2.2.2.2.1 s.2.2.2.2.2.2.1 s.2.2.2.2.2.2.2.1 s.2.2.2.2.2.2.2.2.1 s.2.2.2.2.2.2.2.2.2.1 s.2.2.2.2.2.2.2.2.2.2.1 s.2.2.2.2.2.2.2.2.2.2.2.1 s.2.2.2.2.2.2.2.2.2.2.2.2.1 s.2.2.2.2.2.2.2.2.2.2.2.2.2.1 s.2.2.2.2.2.2.2.2.2.2.2.2.2.2) (fun s => I s.1 s.2.1 s.2.2.1 s.2.2.2.1 s.2.2.2.2.1 s.2.2.2.2.2.1 s.2.2.2.2.2.2.1 s.2.2.2.2.2.2.2.1 s.2.2.2.2.2.2.2.2.1 s.2.2.2.2.2.2.2.2.2.1 s.2.2.2.2.2.2.2.2.2.2.1 s.2.2.2.2.2.2.2.2.2.2.2.1 s.2.2.2.2.2.2.2.2.2.2.2.2.1 s.2.2.2.2.2.2.2.2.2.2.2.2.2.1 s.2.2.2.2.2.2.2.2.2.2.2.2.2.2) (fun s => μ s.1 s.2.1 s.2.2.1 s.2.2.2.1 s.2.2.2.2.1 s.2.2.2.2.2.1 s.2.2.2.2.2.2.1 s.2.2.2.2.2.2.2.1 s.2.2.2.2.2.2.2.2.1 s.2.2.2.2.2.2.2.2.2.1 s.2.2.2.2.2.2.2.2.2.2.1 s.2.2.2.2.2.2.2.2.2.2.2.1 s.2.2.2.2.2.2.2.2.2.2.2.2.1 s.2.2.2.2.2.2.2.2.2.2.2.2.2.1 s.2.2.2.2.2.2.2.2.2.2.2.2.2.2) (fun n s hI hk => hs n s.1 s.2.1 s.2.2.1 s.2.2.2.1 s.2.2.2.2.1 s.2.2.2.2.2.1 s.2.2.2.2.2.2.1 s.2.2.2.2.2.2.2.1 s.2.2.2.2.2.2.2.2.1 s.2.2.2.2.2.2.2.2.2.1 s.2.2.2.2.2.2.2.2.2.2.1 s.2.2.2.2.2.2.2.2.2.2.2.1 s.2.2.2.2.2.2.2.2.2.2.2.2.1 s.2.2.2.2.2.2.2.2.2.2.2.2.2.1 s.2.2.2.2.2.2.2.2.2.2.2.2.2.2 hI (fun b1 b2 b3 b4 b5 b6 b7 b8 b9 b10 b11 b12 b13 b14 b15 h9 hm => hk (b1, b2, b3, b4, b5, b6, b7, b8, b9, b10, b11, b12, b13, b14, b15) h9 hm)) (a1, a2, a3, a4, a5, a6, a7, a8, a9, a10, a11, a12, a13, a14, a15) h
theorem lp16 {A1 A2 A3 A4 A5 A6 A7 A8 A9 A10 A11 A12 A13 A14 A15 A16 : Type} (W : Nat → A1 → A2 → A3 → A4 → A5 → A6 → A7 → A8 → A9 → A10 → A11 → A12 → A13 → A14 → A15 → A16 → Prop) (I : A1 → A2 → A3 → A4 → A5 → A6 → A7 → A8 → A9 → A10 → A11 → A12 → A13 → A14 → A15 → A16 → Prop) (μ : A1 → A2 → A3 → A4 → A5 → A6 → A7 → A8 → A9 → A10 → A11 → A12 → A13 → A14 → A15 → A16 → Nat) (hs : ∀ (n : Nat) (a1 : A1) (a2 : A2) (a3 : A3) (a4 : A4) (a5 : A5) (a6 : A6) (a7 : A7) (a8 : A8) (a9 : A9) (a10 : A10) (a11 : A11) (a12 : A12) (a13 : A13) (a14 : A14) (a15 : A15) (a16 : A16), I a1 a2 a3 a4 a5 a6 a7 a8 a9 a10 a11 a12 a13 a14 a15 a16 → (∀ (b1 : A1) (b2 : A2) (b3 : A3) (b4 : A4) (b5 : A5) (b6 : A6) (b7 : A7) (b8 : A8) (b9 : A9) (b10 : A10) (b11 : A11) (b12 : A12) (b13 : A13) (b14 : A14) (b15 : A15) (b16 : A16), I b1 b2 b3 b4 b5 b6 b7 b8 b9 b10 b11 b12 b13 b14 b15 b16 → μ b1 b2 b3 b4 b5 b6 b7 b8 b9 b10 b11 b12 b13 b14 b15 b16 < μ a1 a2 a3 a4 a5 a6 a7 a8 a9 a10 a11 a12 a13 a14 a15 a16 → W n b1 b2 b3 b4 b5 b6 b7 b8 b9 b10 b11 b12 b13 b14 b15 b16) → W (n + 1) a1 a2 a3 a4 a5 a6 a7 a8 a9 a10 a11 a12 a13 a14 a15 a16) (a1 : A1) (a2 : A2) (a3 : A3) (a4 : A4) (a5 : A5) (a6 : A6) (a7 : A7) (a8 : A8) (a9 : A9) (a10 : A10) (a11 : A11) (a12 : A12) (a13 : A13) (a14 : A14) (a15 : A15) (a16 : A16) (h : I a1 a2 a3 a4 a5 a6 a7 a8 a9 a10 a11 a12 a13 a14 a15 a16) : ∃ n, W n a1 a2 a3 a4 a5 a6 a7 a8 a9 a10 a11 a12 a13 a14 a15 a16 :=
  loop_m (σ := A1 × A2 × A3 × A4 × A5 × A6 × A7 × A8 × A9 × A10 × A11 × A12 × A13 × A14 × A15 × A16) (fun n s => W n s.1 s.2.1 s.2.2.1 s.2.2.2.1 s.2.2.2.2.1 s.2.2.2.2.2.1 s.2.2.2.2.2.2.1 s.2.2.2.2.2.2.2.1 s.2.2.2.2.2.2.2.2.1 s.2.2.2.2.2.2.2.2.2.1 s.2.2.2.2.2.2.2.2.2.2.1 s.2.2.2.2.2.2.2.2.2.2.2.1 s.2.2.2.2.2.2.2.2.2.2.2.2.1 s.2.2.2.2.2.2.2.2.2.2.2.2.2.1 s.2.2.2.2.2.2.2.2.2.2.2.2.2.2.1 s.2.2.2.2.2.2.2.2.2.2.2.2.2.2.2) (fun s => I s.1 s.2.1 s.2.2.1 s.2.2.2.1 s.2.2.2.2.1 s.2.2.2.2.2.1 s.2.2.2.2.2.2.1 s.2.2.2.2.2.2.2.1 s.2.2.2.2.2.2.2.2.1 s.2.2.2.2.2.2.2.2.2.1 s.2.2.2.2.2.2.2.2.2.2.1 s.2.2.2.2.2.2.2.2.2.2.2.1 s.2.2.2.2.2.2.2.2.2.2.2.2.1 s.2.2.2.2.2.2.2.2.2.2.2.2.2.1 s.2.2.2.2.2.2.2.2.2.2.2.2.2.2.1 s.2.2.2.2.2.2.2.2.2.2.2.2.2.2.2) (fun s => μ s.1 s.2.1 s.2.2.1 s.2.2.2.1 s.2.2.2.2.1 s.2.2.2.2.2.1 s.2.2.2.2.2.2.1 s.2.2.2.2.2.2.2.1 s.2.2.2.2.2.2.2.2.1 s.2.2.2.2.2.2.2.2.2.1 s.2.2.2.2.2.2.2.2.2.2.1 s.2.2.2.2.2.2.2.2.2.2.2.1 s.2.2.2.2.2.2.2.2.2.2.2.2.1 s.2.2.2.2.2.2.2.2.2.2.2.2.2.1 s.2.2.2.2.2.2.2.2.2.2.2.2.2.2.1 s.2.2.2.2.2.2.2.2.2.2.2.2.2.2.2) (fun n s hI hk => hs n s.1 s.2.1 s.2.2.1 s.2.2.2.1 s.2.2.2.2.1 s.2.2.2.2.2.1 s.2.2.2.2.2.2.1 s.2.2.2.2.2.2.2.1 s.2.2.2.2.2.2.2.2.1 s.2.2.2.2.2.2.2.2.2.1 s.2.2.2.2.2.2.2.2.2.2.1 s.2.2.2.2.2.2.2.2.2.2.2.1 s.2.2.2.2.2.2.2.2.2.2.2.2.1 s.2.2.2.2.2.2.2.2.2.2.2.2.2.1 s.2.2.2.2.2.2.2.2.2.2.2.2.2.2.1 s.2.2.2.2.2.2.2.2.2.2.2.2.2.2.2 hI (fun b1 b2 b3 b4 b5 b6 b7 b8 b9 b10 b11 b12 b13 b14 b15 b16 h9 hm => hk (b1, b2, b3, b4, b5, b6, b7, b8, b9, b10, b11, b12, b13, b14, b15, b16) h9 hm)) (a1, a2, a3, a4, a5, a6, a7, a8, a9, a10, a11, a12, a13, a14, a15, a16) h
theorem pk_least (P : Nat → Prop) (h : ∃ k, P k) : ∃ k, P k ∧ ∀ j, j < k → ¬ P j := by
  obtain ⟨k, hk⟩ := h
  induction k using Nat.strongRecOn with
  | ind k ih =>
    by_cases e : ∃ j, j < k ∧ P j
    · obtain ⟨j, hj, pj⟩ := e
      exact ih j hj pj
    · exact ⟨k, hk, fun j hj pj => e ⟨j, hj, pj⟩⟩
theorem rp1 {ρ A1 : Type} (W : Nat → (ρ → Prop) → A1 → Prop) (ok : A1 → Prop) (μ : A1 → Nat) (val : A1 → ρ)
    (hs : ∀ (d : Nat) (post : ρ → Prop) (a1 : A1), ok a1 → post (val a1) → (∀ (post' : ρ → Prop) (b1 : A1), ok b1 → μ b1 < μ a1 → post' (val b1) → W d post' b1) → W (d + 1) post a1) :
    ∀ (d : Nat) (post : ρ → Prop) (a1 : A1), ok a1 → μ a1 < d → post (val a1) → W d post a1 := by
  intro d
  induction d with
  | zero => intro post a1 _ h; omega
  | succ d ih =>
    intro post a1 ho hm hp
    exact hs d post a1 ho hp (fun post' b1 ho' hm' hp' => ih post' b1 ho' (by omega) hp')
theorem rp2 {ρ A1 A2 : Type} (W : Nat → (ρ → Prop) → A1 → A2 → Prop) (ok : A1 → A2 → Prop) (μ : A1 → A2 → Nat) (val : A1 → A2 → ρ)
    (hs : ∀ (d : Nat) (post : ρ → Prop) (a1 : A1) (a2 : A2), ok a1 a2 → post (val a1 a2) → (∀ (post' : ρ → Prop) (b1 : A1) (b2 : A2), ok b1 b2 → μ b1 b2 < μ a1 a2 → post' (val b1 b2) → W d post' b1 b2) → W (d + 1) post a1 a2) :
    ∀ (d : Nat) (post : ρ → Prop) (a1 : A1) (a2 : A2), ok a1 a2 → μ a1 a2 < d → post (val a1 a2) → W d post a1 a2 := by
  intro d
  induction d with
  | zero => intro post a1 a2 _ h; omega
  | succ d ih =>
    intro post a1 a2 ho hm hp
    exact hs d post a1 a2 ho hp (fun post' b1 b2 ho' hm' hp' => ih post' b1 b2 ho' (by omega) hp')
theorem rp3 {ρ A1 A2 A3 : Type} (W : Nat → (ρ → Prop) → A1 → A2 → A3 → Prop) (ok : A1 → A2 → A3 → Prop) (μ : A1 → A2 → A3 → Nat) (val : A1 → A2 → A3 → ρ)
    (hs : ∀ (d : Nat) (post : ρ → Prop) (a1 : A1) (a2 : A2) (a3 : A3), ok a1 a2 a3 → post (val a1 a2 a3) → (∀ (post' : ρ → Prop) (b1 : A1) (b2 : A2) (b3 : A3), ok b1 b2 b3 → μ b1 b2 b3 < μ a1 a2 a3 → post' (val b1 b2 b3) → W d post' b1 b2 b3) → W (d + 1) post a1 a2 a3) :
    ∀ (d : Nat) (post : ρ → Prop) (a1 : A1) (a2 : A2) (a3 : A3), ok a1 a2 a3 → μ a1 a2 a3 < d → post (val a1 a2 a3) → W d post a1 a2 a3 := by
  intro d
  induction d with
  | zero => intro post a1 a2 a3 _ h; omega
  | succ d ih =>
    intro post a1 a2 a3 ho hm hp
    exact hs d post a1 a2 a3 ho hp (fun post' b1 b2 b3 ho' hm' hp' => ih post' b1 b2 b3 ho' (by omega) hp')
theorem rp4 {ρ A1 A2 A3 A4 : Type} (W : Nat → (ρ → Prop) → A1 → A2 → A3 → A4 → Prop) (ok : A1 → A2 → A3 → A4 → Prop) (μ : A1 → A2 → A3 → A4 → Nat) (val : A1 → A2 → A3 → A4 → ρ)
    (hs : ∀ (d : Nat) (post : ρ → Prop) (a1 : A1) (a2 : A2) (a3 : A3) (a4 : A4), ok a1 a2 a3 a4 → post (val a1 a2 a3 a4) → (∀ (post' : ρ → Prop) (b1 : A1) (b2 : A2) (b3 : A3) (b4 : A4), ok b1 b2 b3 b4 → μ b1 b2 b3 b4 < μ a1 a2 a3 a4 → post' (val b1 b2 b3 b4) → W d post' b1 b2 b3 b4) → W (d + 1) post a1 a2 a3 a4) :
    ∀ (d : Nat) (post : ρ → Prop) (a1 : A1) (a2 : A2) (a3 : A3) (a4 : A4), ok a1 a2 a3 a4 → μ a1 a2 a3 a4 < d → post (val a1 a2 a3 a4) → W d post a1 a2 a3 a4 := by
  intro d
  induction d with
  | zero => intro post a1 a2 a3 a4 _ h; omega
  | succ d ih =>
    intro post a1 a2 a3 a4 ho hm hp
    exact hs d post a1 a2 a3 a4 ho hp (fun post' b1 b2 b3 b4 ho' hm' hp' => ih post' b1 b2 b3 b4 ho' (by omega) hp')
theorem rp5 {ρ A1 A2 A3 A4 A5 : Type} (W : Nat → (ρ → Prop) → A1 → A2 → A3 → A4 → A5 → Prop) (ok : A1 → A2 → A3 → A4 → A5 → Prop) (μ : A1 → A2 → A3 → A4 → A5 → Nat) (val : A1 → A2 → A3 → A4 → A5 → ρ)
    (hs : ∀ (d : Nat) (post : ρ → Prop) (a1 : A1) (a2 : A2) (a3 : A3) (a4 : A4) (a5 : A5), ok a1 a2 a3 a4 a5 → post (val a1 a2 a3 a4 a5) → (∀ (post' : ρ → Prop) (b1 : A1) (b2 : A2) (b3 : A3) (b4 : A4) (b5 : A5), ok b1 b2 b3 b4 b5 → μ b1 b2 b3 b4 b5 < μ a1 a2 a3 a4 a5 → post' (val b1 b2 b3 b4 b5) → W d post' b1 b2 b3 b4 b5) → W (d + 1) post a1 a2 a3 a4 a5) :
    ∀ (d : Nat) (post : ρ → Prop) (a1 : A1) (a2 : A2) (a3 : A3) (a4 : A4) (a5 : A5), ok a1 a2 a3 a4 a5 → μ a1 a2 a3 a4 a5 < d → post (val a1 a2 a3 a4 a5) → W d post a1 a2 a3 a4 a5 := by
  intro d
  induction d with
  | zero => intro post a1 a2 a3 a4 a5 _ h; omega
  | succ d ih =>
    intro post a1 a2 a3 a4 a5 ho hm hp
    exact hs d post a1 a2 a3 a4 a5 ho hp (fun post' b1 b2 b3 b4 b5 ho' hm' hp' => ih post' b1 b2 b3 b4 b5 ho' (by omega) hp')
theorem rp6 {ρ A1 A2 A3 A4 A5 A6 : Type} (W : Nat → (ρ → Prop) → A1 → A2 → A3 → A4 → A5 → A6 → Prop) (ok : A1 → A2 → A3 → A4 → A5 → A6 → Prop) (μ : A1 → A2 → A3 → A4 → A5 → A6 → Nat) (val : A1 → A2 → A3 → A4 → A5 → A6 → ρ)
    (hs : ∀ (d : Nat) (post : ρ → Prop) (a1 : A1) (a2 : A2) (a3 : A3) (a4 : A4) (a5 : A5) (a6 : A6), ok a1 a2 a3 a4 a5 a6 → post (val a1 a2 a3 a4 a5 a6) → (∀ (post' : ρ → Prop) (b1 : A1) (b2 : A2) (b3 : A3) (b4 : A4) (b5 : A5) (b6 : A6), ok b1 b2 b3 b4 b5 b6 → μ b1 b2 b3 b4 b5 b6 < μ a1 a2 a3 a4 a5 a6 → post' (val b1 b2 b3 b4 b5 b6) → W d post' b1 b2 b3 b4 b5 b6) → W (d + 1) post a1 a2 a3 a4 a5 a6) :
    ∀ (d : Nat) (post : ρ → Prop) (a1 : A1) (a2 : A2) (a3 : A3) (a4 : A4) (a5 : A5) (a6 : A6), ok a1 a2 a3 a4 a5 a6 → μ a1 a2 a3 a4 a5 a6 < d → post (val a1 a2 a3 a4 a5 a6) → W d post a1 a2 a3 a4 a5 a6 := by
  intro d
  induction d with
  | zero => intro post a1 a2 a3 a4 a5 a6 _ h; omega
  | succ d ih =>
    intro post a1 a2 a3 a4 a5 a6 ho hm hp
    exact hs d post a1 a2 a3 a4 a5 a6 ho hp (fun post' b1 b2 b3 b4 b5 b6 ho' hm' hp' => ih post' b1 b2 b3 b4 b5 b6 ho' (by omega) hp')
theorem rec_p {σ ρ : Type} (W : Nat → (ρ → Prop) → σ → Prop) (ok : σ → Prop) (μ : σ → Nat) (val : σ → ρ)
    (hs : ∀ d s post, ok s → post (val s) → (∀ s' post', ok s' → μ s' < μ s → post' (val s') → W d post' s') → W (d + 1) post s) :
    ∀ d s post, ok s → μ s < d → post (val s) → W d post s := by
  intro d
  induction d with
  | zero => intro s post _ h; omega
  | succ d ih =>
    intro s post ho hm hp
    exact hs d s post ho hp (fun s' post' ho' hm' hp' => ih s' post' ho' (by omega) hp')
theorem rec_q {σ ρ : Type} (W : Nat → (ρ → Prop) → σ → Prop) (ok : σ → Prop) (μ : σ → Nat) (Q : σ → ρ → Prop)
    (hs : ∀ d s post, ok s → (∀ r, Q s r → post r) → (∀ s' post', ok s' → μ s' < μ s → (∀ r, Q s' r → post' r) → W d post' s') → W (d + 1) post s) :
    ∀ d s post, ok s → μ s < d → (∀ r, Q s r → post r) → W d post s := by
  intro d
  induction d with
  | zero => intro s post _ h; omega
  | succ d ih =>
    intro s post ho hm hp
    exact hs d s post ho hp (fun s' post' ho' hm' hp' => ih s' post' ho' (by omega) hp')
def bx_sum (f : Nat → Int32) : Nat → Int32
  | 0 => 0
  | n + 1 => bx_sum f n + f n
theorem ek_u {A : Prop} {B : Nat → Prop} {k N : Nat} (hk : k < N) (h : B k) : (some k = none → A) ∧ (∀ y : Nat, some k = some y → (y < N ∧ B y)) :=
  ⟨fun z => absurd z (Option.some_ne_none k), fun _ e => (by cases e; exact ⟨hk, h⟩)⟩
theorem ek_nu {A : Prop} {B : Nat → Prop} (h : A) : ((none : Option Nat) = none → A) ∧ (∀ y : Nat, (none : Option Nat) = some y → B y) :=
  ⟨fun _ => h, fun _ e => (by cases e)⟩
theorem ek_if {c d A B : Prop} (e : c ↔ d) (f : d → A) (g : ¬ d → B) : (c → A) ∧ (¬ c → B) :=
  ⟨fun z => f (e.mp z), fun z => g (fun y => z (e.mpr y))⟩
theorem ek_v {α : Sort _} {P : α → Prop} {a b : α} (e : a = b) (h : P b) : P a := e ▸ h
theorem co_some {x : Option Nat} {A : Prop} {B : Nat → Prop} (i : Nat) (h : B i) (hx : x = some i := by rfl) : (x = none → A) ∧ (∀ y : Nat, x = some y → B y) := by
  subst hx
  exact ⟨fun e => (nomatch e), fun y e => Option.some.inj e ▸ h⟩
theorem co_none {x : Option Nat} {A : Prop} {B : Nat → Prop} (h : A) (hx : x = none := by rfl) : (x = none → A) ∧ (∀ y : Nat, x = some y → B y) := by
  subst hx
  exact ⟨fun _ => h, fun y e => (nomatch e)⟩
theorem co_any {x : Option Nat} {A : Prop} {B : Nat → Prop} (hn : x = none → A) (hs : ∀ i : Nat, x = some i → B i) : (x = none → A) ∧ (∀ y : Nat, x = some y → B y) := ⟨hn, hs⟩
theorem co_2 {P : Nat → Prop} (h0 : P 0) (h1 : P 1) {i : Nat} (hi : i < 2) : P i :=
  match i, hi with
  | 0, _ => h0
  | 1, _ => h1
theorem co_3 {P : Nat → Prop} (h0 : P 0) (h1 : P 1) (h2 : P 2) {i : Nat} (hi : i < 3) : P i :=
  match i, hi with
  | 0, _ => h0
  | 1, _ => h1
  | 2, _ => h2
theorem co_4 {P : Nat → Prop} (h0 : P 0) (h1 : P 1) (h2 : P 2) (h3 : P 3) {i : Nat} (hi : i < 4) : P i :=
  match i, hi with
  | 0, _ => h0
  | 1, _ => h1
  | 2, _ => h2
  | 3, _ => h3
theorem co_dec {N : Nat} {P : Nat → Prop} [DecidablePred P] (h : (List.range N).all (fun i => decide (P i)) = true) {i : Nat} (hi : i < N) : P i := by
  have := List.all_eq_true.mp h i (List.mem_range.mpr hi)
  exact of_decide_eq_true this
theorem co_tab {α : Type} {l : List α} {d : α} {P : α → Prop} (h : ∀ a, a ∈ l → P a) {i : Nat} (hi : i < l.length) : P (l.getD i d) := by
  rw [List.getD_eq_getElem?_getD, List.getElem?_eq_getElem hi]
  exact h _ (List.getElem_mem hi)
theorem pk_mu {x : Int32} {L : Nat} (h0 : ¬ x < 0) (h : ¬ nI L ≤ x) (hL : L < 2 ^ 31) : ∃ j : Nat, j < L ∧ x = nI j ∧ x + 1 = nI (j + 1) ∧ x.toNatClampNeg = j ∧ L - (x + 1).toNatClampNeg < L - x.toNatClampNeg := by
  obtain ⟨j, hj, rfl⟩ := nI_of h0
  have hl : j < L := Nat.not_le.mp fun q => h (nI_le q hj)
  refine ⟨j, hl, rfl, nI_1 j, nI_clamp hj, ?_⟩
  rw [nI_1, nI_clamp (by omega), nI_clamp hj]
  omega
theorem op_s {α : Type} {r : Option α} {A : Prop} {B : α → Prop} {y : α} (h : r = some y) (b : B y) : (r = none → A) ∧ ∀ z, r = some z → B z :=
  ⟨fun e => (by rw [h] at e; cases e), fun z e => (by rw [h] at e; cases e; exact b)⟩
def l_holds {α : Type} (a : Nat → Option Nat) (LP : List Nat) (p : Nat → α) (c : Nat) (b : Nat → α) : Prop :=
  ∀ j, j < c → ∃ y, a j = some y ∧ y ∈ LP ∧ p y = b j
theorem l_holds_0 {α : Type} {a : Nat → Option Nat} {LP : List Nat} {p b : Nat → α} : l_holds a LP p 0 b := fun j h => absurd h (Nat.not_lt_zero j)
theorem l_in_new (LP : List Nat) (q : Nat) : q ∈ LP ++ [q] := List.mem_append.mpr (Or.inr (List.mem_singleton.mpr rfl))
def l_sum (b : Nat → Int32) : Nat → Int32
  | 0 => 0
  | k + 1 => l_sum b k + b k
theorem sb_shr0 (x : Int32) : x >>> ((0 : Int32) &&& 31) = x := by
  rw [show ((0 : Int32) &&& 31) = 0 by decide]
  simp
theorem sb_shl0 (x : Int32) : x <<< ((0 : Int32) &&& 31) = x := by
  rw [show ((0 : Int32) &&& 31) = 0 by decide]
  simp
theorem sb_cl0 : (0 : Int32).toNatClampNeg = 0 := by decide
theorem sb_m1 {p : Nat} (h : 0 < p) : nI p + (-1) = nI (p - 1) := by
  obtain ⟨q, rfl⟩ : ∃ q, p = q + 1 := ⟨p - 1, by omega⟩
  exact pk_m1 q
def sb_b (c : Nat) : Int32 := (nI c).toInt8.toInt32
theorem sb_byte : ∀ c, c < 256 → sb_b c &&& 255 = nI c ∧ ((nI c).toUInt32 % 65536).toInt32 = nI c ∧ nI c ≤ 255 := by decide +kernel
def sb_Fit (a : Nat → Int32) : Prop := ∀ j, fits .byte (.int (a j)) = true
def sb_Lat (t : Nat → Nat) (n : Nat) (a : Nat → Int32) : Prop := ∀ j, j < n → t j < 256 ∧ a j = sb_b (t j)
theorem sb_fitB (c : Nat) : fits .byte (.int (sb_b c)) = true := pk_fb _
theorem sb_fit0 : sb_Fit (fun _ => 0) := fun _ => by
  show fits .byte (.int 0) = true
  decide
theorem sb_fitU {a : Nat → Int32} {k : Nat} {x : Int32} (h : sb_Fit a) (hx : fits .byte (.int x) = true) : sb_Fit (upd a k x) := by
  intro j
  by_cases e : j = k
  · subst e
    rw [pk_us]
    exact hx
  · rw [pk_un e]
    exact h j
def sb_cat (t : Nat → Nat) (n : Nat) (s : Nat → Nat) : Nat → Nat := fun j => if j < n then t j else s (j - n)
theorem sb_cat_lo {t s : Nat → Nat} {n j : Nat} (h : j < n) : sb_cat t n s j = t j := if_pos h
theorem sb_cat_hi {t s : Nat → Nat} {n j : Nat} : sb_cat t n s (n + j) = s j := by
  show (if n + j < n then t (n + j) else s (n + j - n)) = s j
  rw [if_neg (by omega), Nat.add_sub_cancel_left]
theorem sb_latPut {t s : Nat → Nat} {n w : Nat} {a a' : Nat → Int32} (h : sb_Lat t n a) (hk : ∀ j, j < n → a' j = a j) (hs : ∀ i, i < w → s i < 256 ∧ a' (n + i) = sb_b (s i)) : sb_Lat (sb_cat t n s) (n + w) a' := by
  intro j hj
  by_cases e : j < n
  · rw [sb_cat_lo e, hk j e]
    exact h j e
  · obtain ⟨i, rfl⟩ : ∃ i, j = n + i := ⟨j - n, by omega⟩
    rw [sb_cat_hi]
    exact hs i (by omega)
theorem sb_latKeep {t : Nat → Nat} {n : Nat} {a a' : Nat → Int32} (h : sb_Lat t n a) (hk : ∀ j, j < n → a' j = a j) : sb_Lat t n a' := fun j hj => by
  rw [hk j hj]
  exact h j hj
def sb_cap (q m : Nat) : Nat := if q ≤ m then m else if 2 * m + 2 < q then q else 2 * m + 2
def sb_Room (q m mc ms : Nat) : Prop := q ≤ m ∨ (1 ≤ mc ∧ sb_cap q m ≤ ms ∧ sb_cap q m ≤ 65536)
theorem sb_cap_ge (q m : Nat) : q ≤ sb_cap q m := by
  unfold sb_cap
  split
  · omega
  · split <;> omega
theorem sb_cap_gem (q m : Nat) : m ≤ sb_cap q m := by
  unfold sb_cap
  split
  · omega
  · split <;> omega
theorem sb_cap_le {q m mc ms : Nat} (hm : m ≤ 65536) (hr : sb_Room q m mc ms) : sb_cap q m ≤ 65536 := by
  rcases hr with h | h
  · rw [sb_cap, if_pos h]
    exact hm
  · exact h.2.2
theorem sb_at {P : Int32 → Prop} {x y : Int32} (e : x = y) (h : P y) : P x := e ▸ h
def sb_dg (w : Nat) : Nat := if w < 10 then 1 else if w < 100 then 2 else if w < 1000 then 3 else if w < 10000 then 4 else if w < 100000 then 5 else if w < 1000000 then 6 else if w < 10000000 then 7 else if w < 100000000 then 8 else if w < 1000000000 then 9 else 10
def sb_dec (v : Nat) : Nat → Nat := fun i => 48 + v / 10 ^ (sb_dg v - 1 - i) % 10
theorem sb_dg_in (w : Nat) : 1 ≤ sb_dg w ∧ sb_dg w ≤ 10 := by
  unfold sb_dg
  constructor <;> (repeat' split) <;> omega
theorem sb_dg100 {w : Nat} (h : 100 ≤ w) (hw : w < 2 ^ 31) : sb_dg w = sb_dg (w / 100) + 2 := by
  rw [sb_dg, sb_dg, if_neg (show ¬ w < 10 by omega), if_neg (show ¬ w < 100 by omega)]
  by_cases h3 : w < 1000
  · rw [if_pos h3, if_pos (show w / 100 < 10 by omega)]
  rw [if_neg h3, if_neg (show ¬ w / 100 < 10 by omega)]
  by_cases h4 : w < 10000
  · rw [if_pos h4, if_pos (show w / 100 < 100 by omega)]
  rw [if_neg h4, if_neg (show ¬ w / 100 < 100 by omega)]
  by_cases h5 : w < 100000
  · rw [if_pos h5, if_pos (show w / 100 < 1000 by omega)]
  rw [if_neg h5, if_neg (show ¬ w / 100 < 1000 by omega)]
  by_cases h6 : w < 1000000
  · rw [if_pos h6, if_pos (show w / 100 < 10000 by omega)]
  rw [if_neg h6, if_neg (show ¬ w / 100 < 10000 by omega)]
  by_cases h7 : w < 10000000
  · rw [if_pos h7, if_pos (show w / 100 < 100000 by omega)]
  rw [if_neg h7, if_neg (show ¬ w / 100 < 100000 by omega)]
  by_cases h8 : w < 100000000
  · rw [if_pos h8, if_pos (show w / 100 < 1000000 by omega)]
  rw [if_neg h8, if_neg (show ¬ w / 100 < 1000000 by omega)]
  by_cases h9 : w < 1000000000
  · rw [if_pos h9, if_pos (show w / 100 < 10000000 by omega)]
  rw [if_neg h9, if_neg (show ¬ w / 100 < 10000000 by omega)]
  rw [if_pos (show w / 100 < 100000000 by omega)]
theorem sb_negT {w : Nat} (h : w < 2 ^ 31) : (-nI w).toInt = -(w : Int) := by
  rw [Int32.toInt_neg, nI_toInt h]
  exact Int.bmod_eq_of_le (by omega) (by omega)
theorem sb_nle {a b : Nat} (ha : a < 2 ^ 31) (hb : b < 2 ^ 31) : -nI a ≤ -nI b ↔ b ≤ a := by
  rw [Int32.le_iff_toInt_le, sb_negT ha, sb_negT hb]
  omega
theorem sb_nlt {a b : Nat} (ha : a < 2 ^ 31) (hb : b < 2 ^ 31) : -nI a < -nI b ↔ b < a := by
  rw [Int32.lt_iff_toInt_lt, sb_negT ha, sb_negT hb]
  omega
theorem sb_cmp {A B : Prop} {x : Int32} (v c : Nat) (f : c ≤ v → A) (g : v < c → B) (hv : v < 2 ^ 31) (hx : x = -nI c := by rfl) (hc : c < 2 ^ 31 := by omega) : (-nI v ≤ x → A) ∧ (¬ -nI v ≤ x → B) := by
  subst hx
  rw [sb_nle hv hc]
  exact ⟨f, fun z => g (by omega)⟩
theorem sb_ndiv {w : Nat} (hw : w < 2 ^ 31) : (-nI w) / 100 = -nI (w / 100) := by
  apply Int32.toInt_inj.mp
  have h100 : (100 : Int32).toInt = 100 := by decide
  rw [Int32.toInt_div, sb_negT hw, h100, sb_negT (by omega), Int.neg_tdiv, Int.tdiv_eq_ediv_of_nonneg (by omega), Int.bmod_eq_of_le (by omega) (by omega)]
  omega
theorem sb_nrem {w : Nat} (hw : w < 2 ^ 31) : (-nI (w / 100)) * 100 - (-nI w) = nI (w % 100) := by
  have h := pk_rem (a := w) (d := 100) hw (by decide) (by decide)
  rw [pk_div hw (by decide) (by decide)] at h
  rw [← h]
  show (-nI (w / 100)) * nI 100 - (-nI w) = nI w - nI (w / 100) * nI 100
  rw [Int32.neg_mul, Int32.sub_neg, Int32.add_comm, ← Int32.sub_eq_add_neg]
end
section
/-! rows on bits, shifts and unsigned numbers, to paste: each family out of a closed proof of our own, whole with what it rests on; each by itself clean at Lean in its own claim (generation 39, form 5). Take a family whole -/
/-! ===== Int32 by its bits: bt x i ===== -/
def bt (x : Int32) (i : Nat) : Bool := x.toBitVec.getLsbD i
theorem b_ext {x y : Int32} (h : ∀ i, i < 32 → bt x i = bt y i) : x = y := Int32.toBitVec_inj.mp (BitVec.eq_of_getLsbD_eq (fun i hi => h i hi))
theorem b_or (x y : Int32) (i : Nat) : bt (x ||| y) i = (bt x i || bt y i) := by unfold bt; rw [Int32.toBitVec_or, BitVec.getLsbD_or]
theorem b_and (x y : Int32) (i : Nat) : bt (x &&& y) i = (bt x i && bt y i) := by unfold bt; rw [Int32.toBitVec_and, BitVec.getLsbD_and]
theorem b_xor (x y : Int32) (i : Nat) : bt (x ^^^ y) i = (bt x i ^^ bt y i) := by unfold bt; rw [Int32.toBitVec_xor, BitVec.getLsbD_xor]
theorem b_big {x : Int32} {i : Nat} (h : 32 ≤ i) : bt x i = false := BitVec.getLsbD_of_ge _ _ h
theorem b_255 (i : Nat) : bt 255 i = decide (i < 8) := by
  rcases Nat.lt_or_ge i 32 with h | h
  · exact (by decide +kernel : ∀ i, i < 32 → bt 255 i = decide (i < 8)) i h
  · rw [b_big h, decide_eq_false (by omega)]
theorem b_65535 (i : Nat) : bt 65535 i = decide (i < 16) := by
  rcases Nat.lt_or_ge i 32 with h | h
  · exact (by decide +kernel : ∀ i, i < 32 → bt 65535 i = decide (i < 16)) i h
  · rw [b_big h, decide_eq_false (by omega)]
theorem b_m1 : ∀ i, i < 32 → bt (-1) i = true := by decide +kernel
theorem b_0 (i : Nat) : bt 0 i = false := BitVec.getLsbD_zero
theorem s_l : ∀ n, n < 32 → ((nI n &&& 31).toBitVec.smod 32).toNat = n := by decide +kernel
theorem s_u : ∀ n, n < 32 → (((nI n).toUInt32 &&& Int32.toUInt32 31).toBitVec % 32).toNat = n := by decide +kernel
theorem b_shl (n : Nat) (hn : n < 32) (x : Int32) {i : Nat} (hi : i < 32) : bt (x <<< (nI n &&& 31)) i = (decide (n ≤ i) && bt x (i - n)) := by
  unfold bt
  rw [Int32.toBitVec_shiftLeft]
  show (x.toBitVec <<< ((nI n &&& 31).toBitVec.smod 32).toNat).getLsbD i = _
  rw [s_l n hn, BitVec.getLsbD_shiftLeft]
  rcases Nat.lt_or_ge i n with h | h
  · simp [h, Nat.not_le.mpr h]
  · simp [hi, h, Nat.not_lt.mpr h]
theorem b_ushr (n : Nat) (hn : n < 32) (x : Int32) (i : Nat) : bt ((x.toUInt32 >>> ((nI n).toUInt32 &&& Int32.toUInt32 31)).toInt32) i = bt x (n + i) := by
  show (x.toUInt32 >>> ((nI n).toUInt32 &&& Int32.toUInt32 31)).toBitVec.getLsbD i = x.toUInt32.toBitVec.getLsbD (n + i)
  rw [UInt32.toBitVec_shiftRight]
  show (x.toUInt32.toBitVec >>> (((nI n).toUInt32 &&& Int32.toUInt32 31).toBitVec % 32).toNat).getLsbD i = _
  rw [s_u n hn, BitVec.getLsbD_ushiftRight]
theorem b_sshr (n : Nat) (hn : n < 32) (x : Int32) {i : Nat} (hi : i < 32) : bt (x >>> (nI n &&& 31)) i = if n + i < 32 then bt x (n + i) else bt x 31 := by
  unfold bt
  rw [Int32.toBitVec_shiftRight]
  show (x.toBitVec.sshiftRight ((nI n &&& 31).toBitVec.smod 32).toNat).getLsbD i = _
  rw [s_l n hn, BitVec.getLsbD_sshiftRight, BitVec.msb_eq_getLsbD_last]
  simp [hi]
theorem b_shl8 (x : Int32) {i : Nat} (hi : i < 32) : bt (x <<< ((8 : Int32) &&& 31)) i = (decide (8 ≤ i) && bt x (i - 8)) := b_shl 8 (by omega) x hi
theorem b_shl16 (x : Int32) {i : Nat} (hi : i < 32) : bt (x <<< ((16 : Int32) &&& 31)) i = (decide (16 ≤ i) && bt x (i - 16)) := b_shl 16 (by omega) x hi
theorem b_shl24 (x : Int32) {i : Nat} (hi : i < 32) : bt (x <<< ((24 : Int32) &&& 31)) i = (decide (24 ≤ i) && bt x (i - 24)) := b_shl 24 (by omega) x hi
theorem b_sshr8 (x : Int32) {i : Nat} (hi : i < 32) : bt (x >>> ((8 : Int32) &&& 31)) i = if 8 + i < 32 then bt x (8 + i) else bt x 31 := b_sshr 8 (by omega) x hi
end
section
/-! numbers and bits of this claim -/
theorem sg_ix (k f w : Nat) : nI k * nI f + nI w = nI (k * f + w) := by rw [pk_mul, nI_add]
theorem sg_ix8 (f w : Nat) : (8 : Int32) * nI f + nI w = nI (8 * f + w) := sg_ix 8 f w
theorem sg_m8 (f : Nat) : (8 : Int32) * nI f = nI (8 * f) := pk_mul 8 f
theorem sg_m64 (f : Nat) : (64 : Int32) * nI f = nI (64 * f) := pk_mul 64 f
theorem sg_nm1 : ∀ p, p < 16 → nI p ≠ -1 := by decide +kernel
theorem sg_inj {a b : Nat} (ha : a < 2 ^ 31) (hb : b < 2 ^ 31) (h : nI a = nI b) : a = b := (nI_eq ha hb).mp h
theorem sg_by : ∀ n, n < 128 → vp_nar .byte (nI n).toInt8.toInt32 = nI n := by
  have h : ∀ n, n < 128 → (nI n).toInt8.toInt32 = nI n := by decide +kernel
  intro n hn
  rw [pk_vb, h n hn]
theorem sg_by' : ∀ n, n < 128 → vp_nar .byte (nI n) = nI n := by
  have h : ∀ n, n < 128 → (nI n).toInt8.toInt32 = nI n := by decide +kernel
  intro n hn
  rw [vp_nar_byte, h n hn]
theorem sg_bm1 : vp_nar .byte (-1) = -1 := by rw [vp_nar_byte]; decide
theorem sg_bm1' : vp_nar .byte ((-1 : Int32).toInt8.toInt32) = -1 := by rw [vp_nar_byte]; decide
theorem sg_b0 : vp_nar .byte 0 = 0 := by rw [vp_nar_byte]; decide
theorem sg_b1 : vp_nar .byte 1 = 1 := by rw [vp_nar_byte]; decide
theorem sg_z0 : vp_nar .boolean 0 = 0 := rfl
theorem sg_z1 : vp_nar .boolean 1 = 1 := rfl
theorem sg_nar {x : Int32} (h : x = 0 ∨ x = 1) : narrow .boolean (.int x) = .int x := by rcases h with rfl | rfl <;> rfl
theorem sg_fit {x : Int32} (h : x = 0 ∨ x = 1) : fits .boolean (.int x) = true := by rcases h with rfl | rfl <;> rfl
/-! masks -/
theorem sg_and0 {x m : Int32} (k : Nat) (hk : k < 32) (hm : ∀ i, i < 32 → bt m i = decide (i = k)) : x &&& m = 0 ↔ bt x k = false := by
  constructor
  · intro h
    have e := congrArg (fun z => bt z k) h
    simp only [b_and, b_0, hm k hk] at e
    simpa using e
  · intro h
    apply b_ext
    intro i hi
    rw [b_and, b_0, hm i hi]
    by_cases e : i = k
    · subst e; simp [h]
    · simp [e]
theorem sg_sub {x m : Int32} : x &&& m = m ↔ ∀ i, i < 32 → bt m i = true → bt x i = true := by
  constructor
  · intro h i hi hm
    have e := congrArg (fun z => bt z i) h
    simp only [b_and, hm] at e
    simpa using e
  · intro h
    apply b_ext
    intro i hi
    rw [b_and]
    cases e : bt m i with
    | false => simp
    | true => simp [h i hi e]
theorem sg_k1 : ∀ i, i < 32 → bt 1 i = decide (i = 0) := by decide +kernel
theorem sg_k2 : ∀ i, i < 32 → bt 2 i = decide (i = 1) := by decide +kernel
theorem sg_k4 : ∀ i, i < 32 → bt 4 i = decide (i = 2) := by decide +kernel
theorem sg_k8 : ∀ i, i < 32 → bt 8 i = decide (i = 3) := by decide +kernel
theorem sg_k16 : ∀ i, i < 32 → bt 16 i = decide (i = 4) := by decide +kernel
theorem sg_k24 : ∀ i, i < 32 → bt 24 i = decide (i = 3 ∨ i = 4) := by decide +kernel
theorem sg_k32 : ∀ i, i < 32 → bt 32 i = decide (i = 5) := by decide +kernel
theorem sg_k15 : ∀ i, i < 32 → bt 15 i = decide (i < 4) := by decide +kernel
theorem sg_a1 (x : Int32) : x &&& 1 = 0 ↔ bt x 0 = false := sg_and0 0 (by omega) sg_k1
theorem sg_a2 (x : Int32) : x &&& 2 = 0 ↔ bt x 1 = false := sg_and0 1 (by omega) sg_k2
theorem sg_a4 (x : Int32) : x &&& 4 = 0 ↔ bt x 2 = false := sg_and0 2 (by omega) sg_k4
theorem sg_a16 (x : Int32) : x &&& 16 = 0 ↔ bt x 4 = false := sg_and0 4 (by omega) sg_k16
theorem sg_a32 (x : Int32) : x &&& 32 = 0 ↔ bt x 5 = false := sg_and0 5 (by omega) sg_k32
theorem sg_e8 (x : Int32) : x &&& 8 = 8 ↔ bt x 3 = true := by
  rw [sg_sub]
  constructor
  · intro h; exact h 3 (by omega) (by decide +kernel)
  · intro h i hi hm
    rw [sg_k8 i hi] at hm
    rw [of_decide_eq_true hm]; exact h
theorem sg_e16 (x : Int32) : x &&& 16 = 16 ↔ bt x 4 = true := by
  rw [sg_sub]
  constructor
  · intro h; exact h 4 (by omega) (by decide +kernel)
  · intro h i hi hm
    rw [sg_k16 i hi] at hm
    rw [of_decide_eq_true hm]; exact h
theorem sg_e24 (x : Int32) : x &&& 24 = 24 ↔ bt x 3 = true ∧ bt x 4 = true := by
  rw [sg_sub]
  constructor
  · intro h; exact ⟨h 3 (by omega) (by decide +kernel), h 4 (by omega) (by decide +kernel)⟩
  · intro h i hi hm
    rw [sg_k24 i hi] at hm
    rcases of_decide_eq_true hm with e | e
    · rw [e]; exact h.1
    · rw [e]; exact h.2
theorem sg_or_and (x m k : Int32) (h : m &&& k = 0) : (x ||| m) &&& k = x &&& k := by
  apply b_ext
  intro i hi
  have e := congrArg (fun z => bt z i) h
  simp only [b_and, b_0] at e
  rw [b_and, b_and, b_or]
  revert e
  cases bt x i <;> cases bt m i <;> cases bt k i <;> simp
/-- the frame of an entry -/
def sg_fr (e : Int32) : Nat := ((e >>> ((8 : Int32) &&& 31)) &&& 15).toNatClampNeg
theorem sg_fr_lt (e : Int32) : sg_fr e < 16 := by
  obtain ⟨j, hj, h⟩ := pk_andE (e >>> ((8 : Int32) &&& 31)) (m := 15) 4 (by decide)
  have hj' : j < 16 := hj
  unfold sg_fr
  rw [h, nI_clamp (by omega)]; exact hj'
theorem sg_fr_eq (e : Int32) : (e >>> ((8 : Int32) &&& 31)) &&& 15 = nI (sg_fr e) := by
  obtain ⟨j, hj, h⟩ := pk_andE (e >>> ((8 : Int32) &&& 31)) (m := 15) 4 (by decide)
  have hj' : j < 16 := hj
  unfold sg_fr
  rw [h, nI_clamp (by omega)]
theorem sg_fr_or (x m : Int32) (hm : ∀ i, i < 4 → bt m (8 + i) = false) : sg_fr (x ||| m) = sg_fr x := by
  unfold sg_fr
  congr 1
  apply b_ext
  intro i hi
  rw [b_and, b_and, b_sshr8 _ hi, b_sshr8 _ hi, sg_k15 i hi]
  by_cases h : i < 4
  · rw [if_pos (by omega), if_pos (by omega), b_or, hm i h]; simp
  · simp [h]
/-- what marks leave as it is -/
def sg_E (a b : Int32) : Prop := a &&& 1 = b &&& 1 ∧ a &&& 2 = b &&& 2 ∧ a &&& 4 = b &&& 4 ∧ a &&& 6 = b &&& 6 ∧ a &&& 32 = b &&& 32 ∧ sg_fr a = sg_fr b
theorem sg_E_rf (a : Int32) : sg_E a a := ⟨rfl, rfl, rfl, rfl, rfl, rfl⟩
theorem sg_E_tr {a b c : Int32} (h : sg_E a b) (g : sg_E b c) : sg_E a c := ⟨h.1.trans g.1, h.2.1.trans g.2.1, h.2.2.1.trans g.2.2.1, h.2.2.2.1.trans g.2.2.2.1, h.2.2.2.2.1.trans g.2.2.2.2.1, h.2.2.2.2.2.trans g.2.2.2.2.2⟩
theorem sg_E_or8 (x : Int32) : sg_E (x ||| 8) x := ⟨sg_or_and _ _ _ (by decide), sg_or_and _ _ _ (by decide), sg_or_and _ _ _ (by decide), sg_or_and _ _ _ (by decide), sg_or_and _ _ _ (by decide), sg_fr_or _ _ (by decide +kernel)⟩
theorem sg_E_or24 (x : Int32) : sg_E (x ||| 24) x := ⟨sg_or_and _ _ _ (by decide), sg_or_and _ _ _ (by decide), sg_or_and _ _ _ (by decide), sg_or_and _ _ _ (by decide), sg_or_and _ _ _ (by decide), sg_fr_or _ _ (by decide +kernel)⟩
/-- the words with marks at i -/
def sg_mW (W : Nat → Int32) (i : Nat) (m : Int32) : Nat → Int32 := if W i &&& m = m then W else upd W i (W i ||| m)
def sg_mL (l : Int32) (W : Nat → Int32) (i : Nat) (m : Int32) : Int32 := if W i &&& m = m then l else l ||| ((1 : Int32) <<< (nI (i / 8) &&& 31))
theorem sg_mW_t {W : Nat → Int32} {i : Nat} {m : Int32} (h : W i &&& m = m) : sg_mW W i m = W := if_pos h
theorem sg_mL_t {l : Int32} {W : Nat → Int32} {i : Nat} {m : Int32} (h : W i &&& m = m) : sg_mL l W i m = l := if_pos h
theorem sg_mW_f {W : Nat → Int32} {i : Nat} {m : Int32} (h : ¬ W i &&& m = m) : sg_mW W i m = upd W i (W i ||| m) := if_neg h
theorem sg_mL_f {l : Int32} {W : Nat → Int32} {i : Nat} {m : Int32} (h : ¬ W i &&& m = m) : sg_mL l W i m = l ||| ((1 : Int32) <<< (nI (i / 8) &&& 31)) := if_neg h
theorem sg_mW_has (W : Nat → Int32) (i : Nat) (m : Int32) : sg_mW W i m i &&& m = m := by
  by_cases h : W i &&& m = m
  · rw [sg_mW_t h]; exact h
  · rw [sg_mW_f h, pk_us, sg_sub]
    intro j _ hm
    rw [b_or, hm, Bool.or_true]
theorem sg_mW_keep {W : Nat → Int32} {i j : Nat} {m k : Int32} (h : W j &&& k = k) : sg_mW W i m j &&& k = k := by
  by_cases e : W i &&& m = m
  · rw [sg_mW_t e]; exact h
  · rw [sg_mW_f e]
    by_cases q : j = i
    · subst q
      rw [pk_us, sg_sub]
      intro a ha hm
      rw [b_or, sg_sub.mp h a ha hm, Bool.true_or]
    · rw [pk_un q]; exact h
theorem sg_mW_E {W : Nat → Int32} {i j : Nat} {m : Int32} (hm : m = 8 ∨ m = 24) : sg_E (sg_mW W i m j) (W j) := by
  by_cases e : W i &&& m = m
  · rw [sg_mW_t e]; exact sg_E_rf _
  · rw [sg_mW_f e]
    by_cases q : j = i
    · subst q
      rw [pk_us]
      rcases hm with rfl | rfl
      · exact sg_E_or8 _
      · exact sg_E_or24 _
    · rw [pk_un q]; exact sg_E_rf _
/-! what is allowed -/
def sg_AL (gd e wr us : Int32) : Prop := (us = 0 ∨ ¬ e &&& 4 = 0) ∧ (wr = 0 ∨ ¬ e &&& 2 = 0 ∨ (us = 0 ∧ gd = 0))
theorem sg_AL_6 {gd e wr us : Int32} : sg_AL gd (e &&& 6) wr us ↔ sg_AL gd e wr us := by
  unfold sg_AL
  rw [Int32.and_assoc, Int32.and_assoc, (by decide : (6 : Int32) &&& 4 = 4), (by decide : (6 : Int32) &&& 2 = 2)]
theorem sg_AL_and {gd d t wr us : Int32} : sg_AL gd ((d &&& t) &&& 6) wr us ↔ (sg_AL gd d wr us ∧ sg_AL gd t wr us) := by
  rw [sg_AL_6]
  unfold sg_AL
  rw [sg_a4, sg_a4, sg_a4, sg_a2, sg_a2, sg_a2, b_and, b_and]
  cases bt d 2 <;> cases bt t 2 <;> cases bt d 1 <;> cases bt t 1 <;> simp <;> grind
theorem sg_AL_E {gd a b wr us : Int32} (h : sg_E a b) : sg_AL gd a wr us ↔ sg_AL gd b wr us := by
  unfold sg_AL
  rw [h.2.1, h.2.2.1]
theorem sg_nn6 (x : Int32) : ¬ (x &&& 6) < 0 := by
  have h : (x &&& 6) = (x &&& 7) &&& 6 := by rw [Int32.and_assoc]; rfl
  obtain ⟨j, hj, e⟩ := pk_andE x (m := 7) 3 (by decide)
  rw [h, e]
  exact (by decide +kernel : ∀ j, j < 8 → ¬ (nI j &&& 6) < 0) j hj
def sg_nd (wr us : Int32) : Int32 := if wr = 0 then (if us = 0 then 1 else 2) else (if us = 0 then 4 else 8)
def sg_R (gd gv la rg : Int32) : Prop := ∀ wr us, ¬ rg &&& sg_nd wr us = 0 → sg_AL gd gv wr us ∧ (wr = 0 ∨ la &&& 16 = 16)
theorem sg_R_in {gd gv la rg : Int32} (h2 : ¬ rg &&& 2 = 0 → ¬ gv &&& 4 = 0) (h4 : ¬ rg &&& 4 = 0 → la &&& 16 = 16 ∧ (¬ gv &&& 2 = 0 ∨ gd = 0)) (h8 : ¬ rg &&& 8 = 0 → la &&& 16 = 16 ∧ ¬ gv &&& 2 = 0 ∧ ¬ gv &&& 4 = 0) : sg_R gd gv la rg := by
  intro wr us h
  unfold sg_nd at h
  by_cases hw : wr = 0
  · rw [if_pos hw] at h
    by_cases hu : us = 0
    · exact ⟨⟨Or.inl hu, Or.inl hw⟩, Or.inl hw⟩
    · rw [if_neg hu] at h
      exact ⟨⟨Or.inr (h2 h), Or.inl hw⟩, Or.inl hw⟩
  · rw [if_neg hw] at h
    by_cases hu : us = 0
    · rw [if_pos hu] at h
      refine ⟨⟨Or.inl hu, Or.inr ?_⟩, Or.inr (h4 h).1⟩
      rcases (h4 h).2 with g | g
      · exact Or.inl g
      · exact Or.inr ⟨hu, g⟩
    · rw [if_neg hu] at h
      exact ⟨⟨Or.inr (h8 h).2.2, Or.inr (Or.inl (h8 h).2.1)⟩, Or.inr (h8 h).1⟩
end
section
/-! how many of the first n frames hold x -/
def sg_hc (h : Nat → Int32) (x : Int32) : Nat → Nat
  | 0 => 0
  | n + 1 => sg_hc h x n + (if h n = x then 1 else 0)
theorem sg_hc_le (h : Nat → Int32) (x : Int32) (n : Nat) : sg_hc h x n ≤ n := by
  induction n with
  | zero => exact Nat.le_refl _
  | succ n ih => unfold sg_hc; split <;> omega
theorem sg_hc_ge {h : Nat → Int32} {x y : Int32} {f n : Nat} (hf : n ≤ f) : sg_hc (upd h f y) x n = sg_hc h x n := by
  induction n with
  | zero => rfl
  | succ n ih =>
    unfold sg_hc
    rw [ih (by omega), pk_un (show n ≠ f by omega)]
theorem sg_hc_upd {h : Nat → Int32} {x y : Int32} {f n : Nat} (hf : f < n) : sg_hc (upd h f y) x n + (if h f = x then 1 else 0) = sg_hc h x n + (if y = x then 1 else 0) := by
  induction n with
  | zero => omega
  | succ n ih =>
    unfold sg_hc
    by_cases e : f = n
    · subst e
      rw [sg_hc_ge (Nat.le_refl _), pk_us]; omega
    · rw [pk_un (show n ≠ f by omega)]
      have := ih (by omega)
      omega
theorem sg_hc_0 {h : Nat → Int32} {x : Int32} {n : Nat} (e : sg_hc h x n = 0) : ∀ g, g < n → h g ≠ x := by
  induction n with
  | zero => intro g hg; omega
  | succ n ih =>
    intro g hg
    unfold sg_hc at e
    by_cases q : h n = x
    · rw [if_pos q] at e; omega
    · rw [if_neg q] at e
      by_cases z : g = n
      · rw [z]; exact q
      · exact ih (by omega) g (by omega)
theorem sg_hc_pos {h : Nat → Int32} {x : Int32} {n g : Nat} (hg : g < n) (e : h g = x) : 1 ≤ sg_hc h x n := by
  rcases Nat.eq_zero_or_pos (sg_hc h x n) with z | z
  · exact absurd e (sg_hc_0 z g hg)
  · exact z
theorem sg_hc_1 {h : Nat → Int32} {x : Int32} {n f g : Nat} (e : sg_hc h x n ≤ 1) (hf : f < n) (hg : g < n) (ef : h f = x) (eg : h g = x) : f = g := by
  induction n with
  | zero => omega
  | succ n ih =>
    unfold sg_hc at e
    by_cases q : h n = x
    · rw [if_pos q] at e
      have z : sg_hc h x n = 0 := by omega
      have a : f = n := by
        by_cases w : f = n
        · exact w
        · exact absurd ef (sg_hc_0 z f (by omega))
      have b : g = n := by
        by_cases w : g = n
        · exact w
        · exact absurd eg (sg_hc_0 z g (by omega))
      omega
    · rw [if_neg q] at e
      have a : f ≠ n := fun w => q (w ▸ ef)
      have b : g ≠ n := fun w => q (w ▸ eg)
      exact ih (by omega) (by omega) (by omega)
/-! a page that nobody uses is there -/
def sg_ss (h : Nat → Int32) (n : Nat) : Nat → Nat
  | 0 => 0
  | m + 1 => sg_ss h n m + sg_hc h (nI m) n
def sg_sd (x : Int32) : Nat → Nat
  | 0 => 0
  | m + 1 => sg_sd x m + (if x = nI m then 1 else 0)
theorem sg_sd_0 {x : Int32} {m : Nat} (h : ∀ p, p < m → x ≠ nI p) : sg_sd x m = 0 := by
  induction m with
  | zero => rfl
  | succ m ih =>
    unfold sg_sd
    rw [ih (fun p hp => h p (by omega)), if_neg (h m (by omega))]
theorem sg_sd_le {x : Int32} {m : Nat} (hm : m ≤ 16) : sg_sd x m ≤ 1 := by
  induction m with
  | zero => exact Nat.zero_le _
  | succ m ih =>
    unfold sg_sd
    by_cases q : x = nI m
    · rw [if_pos q, sg_sd_0 (fun p hp e => by
        have := sg_inj (a := m) (b := p) (by omega) (by omega) (q.symm.trans e)
        omega)]
      omega
    · rw [if_neg q]
      have := ih (by omega)
      omega
theorem sg_ss_s (h : Nat → Int32) (n m : Nat) : sg_ss h (n + 1) m = sg_ss h n m + sg_sd (h n) m := by
  induction m with
  | zero => rfl
  | succ m ih =>
    unfold sg_ss sg_sd
    rw [ih, show sg_hc h (nI m) (n + 1) = sg_hc h (nI m) n + (if h n = nI m then 1 else 0) from rfl]
    omega
theorem sg_ss_0 (h : Nat → Int32) (m : Nat) : sg_ss h 0 m = 0 := by
  induction m with
  | zero => rfl
  | succ m ih => unfold sg_ss; rw [ih]; rfl
theorem sg_ss_le {h : Nat → Int32} {n m : Nat} (hm : m ≤ 16) : sg_ss h n m ≤ n := by
  induction n with
  | zero => rw [sg_ss_0]; omega
  | succ n ih =>
    rw [sg_ss_s]
    have := sg_sd_le (x := h n) hm
    omega
theorem sg_ss_lt {h : Nat → Int32} {n m f : Nat} (hm : m ≤ 16) (hf : f < n) (e : h f = -1) : sg_ss h n m + 1 ≤ n := by
  induction n with
  | zero => omega
  | succ n ih =>
    rw [sg_ss_s]
    by_cases q : f = n
    · have z : sg_sd (h n) m = 0 := sg_sd_0 (fun p hp w => sg_nm1 p (by omega) (w.symm.trans (q ▸ e)))
      have := sg_ss_le (h := h) (n := n) hm
      omega
    · have := sg_sd_le (x := h n) hm
      have := ih (by omega)
      omega
theorem sg_ss_ge {h : Nat → Int32} {n m : Nat} (a : ∀ p, p < m → 1 ≤ sg_hc h (nI p) n) : m ≤ sg_ss h n m := by
  induction m with
  | zero => exact Nat.zero_le _
  | succ m ih =>
    unfold sg_ss
    have := ih (fun p hp => a p (by omega))
    have := a m (by omega)
    omega
theorem sg_ss_gt {h : Nat → Int32} {n m q : Nat} (a : ∀ p, p < m → 1 ≤ sg_hc h (nI p) n) (hq : q < m) (b : 2 ≤ sg_hc h (nI q) n) : m + 1 ≤ sg_ss h n m := by
  induction m with
  | zero => omega
  | succ m ih =>
    unfold sg_ss
    by_cases z : q = m
    · have := sg_ss_ge (m := m) (fun p hp => a p (by omega))
      rw [z] at b
      omega
    · have := ih (fun p hp => a p (by omega)) (by omega)
      have := a m (by omega)
      omega
theorem sg_free1 {h : Nat → Int32} {f : Nat} (hf : f < 16) (e : h f = -1) : ∃ p, p < 16 ∧ sg_hc h (nI p) 16 = 0 := by
  apply Classical.byContradiction
  intro no
  have a : ∀ p, p < 16 → 1 ≤ sg_hc h (nI p) 16 := fun p hp => Nat.pos_of_ne_zero (fun z => no ⟨p, hp, z⟩)
  have := sg_ss_ge a
  have := sg_ss_lt (m := 16) (Nat.le_refl _) hf e
  omega
theorem sg_free2 {h : Nat → Int32} {q : Nat} (hq : q < 16) (b : 2 ≤ sg_hc h (nI q) 16) : ∃ p, p < 16 ∧ sg_hc h (nI p) 16 = 0 := by
  apply Classical.byContradiction
  intro no
  have a : ∀ p, p < 16 → 1 ≤ sg_hc h (nI p) 16 := fun p hp => Nat.pos_of_ne_zero (fun z => no ⟨p, hp, z⟩)
  have := sg_ss_gt a hq b
  have := sg_ss_le (h := h) (n := 16) (m := 16) (Nat.le_refl _)
  omega
/-! memory: pages, users, the page of each frame, words away against words and the frames that are away -/
def sg_M (pg us he aw W G : Nat → Int32) : Prop :=
  (∀ f, f < 16 → (he f = -1 ∧ G f = 1) ∨ (G f = 0 ∧ ∃ p, p < 16 ∧ he f = nI p)) ∧
  (∀ p, p < 16 → us p = nI (sg_hc he (nI p) 16)) ∧
  (∀ f, f < 16 → ∀ w, w < 8 → (he f = -1 → W (8 * f + w) = aw (8 * f + w)) ∧ (∀ p, p < 16 → he f = nI p → W (8 * f + w) = pg (8 * p + w)))
theorem sg_M_use {pg us he aw W G pg' : Nat → Int32} {f p : Nat} (h : sg_M pg us he aw W G) (hf : f < 16) (e : he f = -1) (hp : p < 16) (z : sg_hc he (nI p) 16 = 0)
    (h1 : ∀ w, w < 8 → pg' (8 * p + w) = aw (8 * f + w)) (h2 : ∀ j, (j < 8 * p ∨ 8 * p + 8 ≤ j) → pg' j = pg j) :
    sg_M pg' (upd us p 1) (upd he f (nI p)) aw W (upd G f 0) := by
  refine ⟨?_, ?_, ?_⟩
  · intro g hg
    by_cases q : g = f
    · right; rw [q, pk_us, pk_us]; exact ⟨rfl, p, hp, rfl⟩
    · rw [pk_un q, pk_un q]; exact h.1 g hg
  · intro x hx
    have k := sg_hc_upd (h := he) (x := nI x) (y := nI p) (n := 16) hf
    rw [if_neg (show ¬ he f = nI x from fun w => sg_nm1 x hx (w.symm.trans e))] at k
    by_cases q : x = p
    · rw [q, pk_us]
      rw [q, if_pos rfl, z] at k
      rw [show sg_hc (upd he f (nI p)) (nI p) 16 = 1 by omega]; rfl
    · rw [if_neg (show ¬ nI p = nI x from fun w => q (sg_inj (by omega) (by omega) w).symm)] at k
      rw [pk_un q, h.2.1 x hx]
      congr 1
      omega
  · intro g hg w hw
    by_cases q : g = f
    · rw [q, pk_us]
      refine ⟨fun w => absurd w (sg_nm1 p hp), fun x hx ex => ?_⟩
      rw [← sg_inj (a := p) (b := x) (by omega) (by omega) ex, h1 w hw]
      exact (h.2.2 f hf w hw).1 e
    · rw [pk_un q]
      refine ⟨(h.2.2 g hg w hw).1, fun x hx ex => ?_⟩
      have hxp : x ≠ p := fun w => sg_hc_0 z g hg (w ▸ ex)
      rw [h2 _ (by omega)]
      exact (h.2.2 g hg w hw).2 x hx ex
theorem sg_M_G {pg us he aw W G G' : Nat → Int32} (h : sg_M pg us he aw W G) (e : ∀ f, f < 16 → G' f = G f) : sg_M pg us he aw W G' :=
  ⟨fun f hf => by rw [e f hf]; exact h.1 f hf, h.2⟩
theorem sg_M_split {pg us he aw W G pg' us' : Nat → Int32} {f p q : Nat} (h : sg_M pg us he aw W G) (hf : f < 16) (hp : p < 16) (e : he f = nI p) (hq : q < 16) (z : sg_hc he (nI q) 16 = 0)
    (h1 : ∀ w, w < 8 → pg' (8 * q + w) = pg (8 * p + w)) (h2 : ∀ j, (j < 8 * q ∨ 8 * q + 8 ≤ j) → pg' j = pg j)
    (h3 : us' q = 1) (h4 : us' p = nI (sg_hc he (nI p) 16 - 1)) (h5 : ∀ x, x < 16 → x ≠ q → x ≠ p → us' x = us x) :
    sg_M pg' us' (upd he f (nI q)) aw W G := by
  have hpq : p ≠ q := fun w => sg_hc_0 z f hf (w ▸ e)
  refine ⟨?_, ?_, ?_⟩
  · intro g hg
    by_cases y : g = f
    · right
      rw [y, pk_us]
      refine ⟨?_, q, hq, rfl⟩
      rcases h.1 f hf with k | k
      · exact absurd (e.symm.trans k.1) (sg_nm1 p hp)
      · exact k.1
    · rw [pk_un y]; exact h.1 g hg
  · intro x hx
    have k := sg_hc_upd (h := he) (x := nI x) (y := nI q) (n := 16) hf
    rw [e] at k
    by_cases y : x = q
    · rw [y, if_pos rfl, z, if_neg (show ¬ nI p = nI q from fun w => hpq (sg_inj (by omega) (by omega) w))] at k
      rw [y, h3, show sg_hc (upd he f (nI q)) (nI q) 16 = 1 by omega]; rfl
    · rw [if_neg (show ¬ nI q = nI x from fun w => y (sg_inj (by omega) (by omega) w).symm)] at k
      by_cases yp : x = p
      · rw [yp, if_pos rfl] at k
        rw [yp, h4]
        congr 1
        omega
      · rw [if_neg (show ¬ nI p = nI x from fun w => yp (sg_inj (by omega) (by omega) w).symm)] at k
        rw [h5 x hx y yp, h.2.1 x hx]
        congr 1
        omega
  · intro g hg w hw
    by_cases y : g = f
    · rw [y, pk_us]
      refine ⟨fun w => absurd w (sg_nm1 q hq), fun x hx ex => ?_⟩
      rw [← sg_inj (a := q) (b := x) (by omega) (by omega) ex, h1 w hw]
      exact (h.2.2 f hf w hw).2 p hp e
    · rw [pk_un y]
      refine ⟨(h.2.2 g hg w hw).1, fun x hx ex => ?_⟩
      have hxq : x ≠ q := fun w => sg_hc_0 z g hg (w ▸ ex)
      rw [h2 _ (by omega)]
      exact (h.2.2 g hg w hw).2 x hx ex
theorem sg_M_set {pg us he aw W G : Nat → Int32} {f p w : Nat} {v : Int32} (h : sg_M pg us he aw W G) (hf : f < 16) (hw : w < 8) (hp : p < 16) (e : he f = nI p) (z : sg_hc he (nI p) 16 ≤ 1) :
    sg_M (upd pg (8 * p + w) v) us he aw (upd W (8 * f + w) v) G := by
  refine ⟨h.1, h.2.1, ?_⟩
  intro g hg y hy
  by_cases a : g = f
  · subst a
    refine ⟨fun k => absurd (e.symm.trans k) (sg_nm1 p hp), fun x hx ex => ?_⟩
    have hx' := sg_inj (a := p) (b := x) (by omega) (by omega) (e.symm.trans ex)
    rw [← hx']
    by_cases b : y = w
    · rw [b, pk_us, pk_us]
    · rw [pk_un (show 8 * g + y ≠ 8 * g + w by omega), pk_un (show 8 * p + y ≠ 8 * p + w by omega)]
      exact (h.2.2 g hg y hy).2 p hp e
  · rw [pk_un (show 8 * g + y ≠ 8 * f + w by omega)]
    refine ⟨(h.2.2 g hg y hy).1, fun x hx ex => ?_⟩
    have hxp : x ≠ p := fun k => a (sg_hc_1 z hg hf (k ▸ ex) e)
    rw [pk_un (show 8 * x + y ≠ 8 * p + w by omega)]
    exact (h.2.2 g hg y hy).2 x hx ex
theorem sg_M_seta {pg us he aw W G : Nat → Int32} {f w : Nat} {v : Int32} (h : sg_M pg us he aw W G) (hf : f < 16) (hw : w < 8) (e : he f = -1) :
    sg_M pg us he (upd aw (8 * f + w) v) (upd W (8 * f + w) v) G := by
  refine ⟨h.1, h.2.1, ?_⟩
  intro g hg y hy
  by_cases a : 8 * g + y = 8 * f + w
  · have ag : g = f := by omega
    subst ag
    rw [a, pk_us, pk_us]
    exact ⟨fun _ => rfl, fun x hx ex => absurd (ex.symm.trans e) (sg_nm1 x hx)⟩
  · rw [pk_un a, pk_un a]
    exact h.2.2 g hg y hy
theorem sg_M_steal {pg us he aw W G aw' us' : Nat → Int32} {f p : Nat} (h : sg_M pg us he aw W G) (hf : f < 16) (hp : p < 16) (e : he f = nI p)
    (h1 : ∀ w, w < 8 → aw' (8 * f + w) = W (8 * f + w)) (h2 : ∀ j, (j < 8 * f ∨ 8 * f + 8 ≤ j) → aw' j = aw j)
    (h4 : us' p = nI (sg_hc he (nI p) 16 - 1)) (h5 : ∀ x, x < 16 → x ≠ p → us' x = us x) :
    sg_M pg us' (upd he f (-1)) aw' W (upd G f 1) := by
  refine ⟨?_, ?_, ?_⟩
  · intro g hg
    by_cases y : g = f
    · left; rw [y, pk_us, pk_us]; exact ⟨rfl, rfl⟩
    · rw [pk_un y, pk_un y]; exact h.1 g hg
  · intro x hx
    have k := sg_hc_upd (h := he) (x := nI x) (y := -1) (n := 16) hf
    rw [e, if_neg (show ¬ (-1 : Int32) = nI x from fun w => sg_nm1 x hx w.symm)] at k
    by_cases yp : x = p
    · rw [yp, if_pos rfl] at k
      rw [yp, h4]
      congr 1
      omega
    · rw [if_neg (show ¬ nI p = nI x from fun w => yp (sg_inj (by omega) (by omega) w).symm)] at k
      rw [h5 x hx yp, h.2.1 x hx]
      congr 1
      omega
  · intro g hg w hw
    by_cases y : g = f
    · rw [y, pk_us]
      refine ⟨fun _ => (h1 w hw).symm, fun x hx ex => absurd ex.symm (sg_nm1 x hx)⟩
    · rw [pk_un y, h2 _ (by omega)]
      exact h.2.2 g hg w hw
theorem sg_M_merge {pg us he aw W G us' : Nat → Int32} {f g p q : Nat} (h : sg_M pg us he aw W G) (hf : f < 16) (hg : g < 16) (hp : p < 16) (hq : q < 16) (e : he f = nI p) (eg : he g = nI q)
    (hs : ∀ w, w < 8 → W (8 * f + w) = W (8 * g + w))
    (h3 : p ≠ q → us' q = nI (sg_hc he (nI q) 16 + 1)) (h4 : p ≠ q → us' p = nI (sg_hc he (nI p) 16 - 1)) (h6 : p = q → us' p = us p) (h5 : ∀ x, x < 16 → x ≠ q → x ≠ p → us' x = us x) :
    sg_M pg us' (upd he f (nI q)) aw W G := by
  refine ⟨?_, ?_, ?_⟩
  · intro i hi
    by_cases y : i = f
    · right
      rw [y, pk_us]
      refine ⟨?_, q, hq, rfl⟩
      rcases h.1 f hf with k | k
      · exact absurd (e.symm.trans k.1) (sg_nm1 p hp)
      · exact k.1
    · rw [pk_un y]; exact h.1 i hi
  · intro x hx
    have k := sg_hc_upd (h := he) (x := nI x) (y := nI q) (n := 16) hf
    rw [e] at k
    by_cases y : x = q
    · by_cases hpq : p = q
      · rw [y, if_pos rfl, hpq, if_pos rfl] at k
        rw [y, ← hpq, h6 hpq, h.2.1 p hp, hpq]
        congr 1
        omega
      · rw [y, if_pos rfl, if_neg (show ¬ nI p = nI q from fun w => hpq (sg_inj (by omega) (by omega) w))] at k
        rw [y, h3 hpq]
        congr 1
        omega
    · rw [if_neg (show ¬ nI q = nI x from fun w => y (sg_inj (by omega) (by omega) w).symm)] at k
      by_cases yp : x = p
      · rw [yp, if_pos rfl] at k
        rw [yp, h4 (fun w => y (yp.trans w))]
        congr 1
        omega
      · rw [if_neg (show ¬ nI p = nI x from fun w => yp (sg_inj (by omega) (by omega) w).symm)] at k
        rw [h5 x hx y yp, h.2.1 x hx]
        congr 1
        omega
  · intro i hi w hw
    by_cases y : i = f
    · rw [y, pk_us]
      refine ⟨fun w => absurd w (sg_nm1 q hq), fun x hx ex => ?_⟩
      rw [← sg_inj (a := q) (b := x) (by omega) (by omega) ex, hs w hw]
      exact (h.2.2 g hg w hw).2 q hq eg
    · rw [pk_un y]
      exact h.2.2 i hi w hw
theorem sg_M_he {pg us he aw W G : Nat → Int32} {f : Nat} (h : sg_M pg us he aw W G) (hf : f < 16) (g : G f = 0) : ∃ p, p < 16 ∧ he f = nI p := by
  rcases h.1 f hf with k | k
  · rw [g] at k; exact absurd k.2 (by decide)
  · exact k.2
theorem sg_M_pos {pg us he aw W G : Nat → Int32} {f p : Nat} (h : sg_M pg us he aw W G) (hf : f < 16) (e : he f = nI p) : 1 ≤ sg_hc he (nI p) 16 := sg_hc_pos hf e
end
section
/-! what is remembered -/
def sg_bg (e : Int32) (t : Nat) : Nat := (if sg_fr e ≤ 7 then 0 else 8) + t
theorem sg_bg_lt (e : Int32) {t : Nat} (h : t < 8) : sg_bg e t < 16 := by unfold sg_bg; split <;> omega
theorem sg_bg_E {a b : Int32} (h : sg_E a b) (t : Nat) : sg_bg a t = sg_bg b t := by unfold sg_bg; rw [h.2.2.2.2.2]
/-- a line: the root's frame r, the directory's word d, the table's word t; the remembered table, frame and rights -/
def sg_L (W G : Nat → Int32) (gd : Int32) (r d t : Nat) (tb lt rg : Int32) : Prop :=
  G r = 0 ∧ ¬ W (8 * r + d) &&& 1 = 0 ∧ W (8 * r + d) &&& 8 = 8 ∧
  ((¬ W (8 * r + d) &&& 32 = 0 ∧ tb = -1 ∧ lt = nI (sg_bg (W (8 * r + d)) t) ∧ G (sg_bg (W (8 * r + d)) t) = 0 ∧ sg_R gd (W (8 * r + d) &&& 6) (W (8 * r + d)) rg) ∨
   (W (8 * r + d) &&& 32 = 0 ∧ tb = nI (sg_fr (W (8 * r + d))) ∧ G (sg_fr (W (8 * r + d))) = 0 ∧ ¬ W (8 * sg_fr (W (8 * r + d)) + t) &&& 1 = 0 ∧ W (8 * sg_fr (W (8 * r + d)) + t) &&& 8 = 8 ∧
     lt = nI (sg_fr (W (8 * sg_fr (W (8 * r + d)) + t))) ∧ G (sg_fr (W (8 * sg_fr (W (8 * r + d)) + t))) = 0 ∧
     sg_R gd ((W (8 * r + d) &&& W (8 * sg_fr (W (8 * r + d)) + t)) &&& 6) (W (8 * sg_fr (W (8 * r + d)) + t)) rg))
theorem sg_L_G {W G G' : Nat → Int32} {gd : Int32} {r d t : Nat} {tb lt rg : Int32} (h : sg_L W G gd r d t tb lt rg) (k : ∀ j, G j = 0 → G' j = 0) : sg_L W G' gd r d t tb lt rg := by
  obtain ⟨h1, h2, h3, h4⟩ := h
  refine ⟨k _ h1, h2, h3, ?_⟩
  rcases h4 with ⟨a, b, c, d, e⟩ | ⟨a, b, c, d, e, f, g, i⟩
  · exact Or.inl ⟨a, b, c, k _ d, e⟩
  · exact Or.inr ⟨a, b, k _ c, d, e, f, k _ g, i⟩
theorem sg_L_steal {W G G' : Nat → Int32} {gd : Int32} {r d t f : Nat} {tb lt rg : Int32} (h : sg_L W G gd r d t tb lt rg) (k : ∀ j, j ≠ f → G' j = G j) (hr : r ≠ f) (ht : tb ≠ nI f) (hl : lt ≠ nI f) : sg_L W G' gd r d t tb lt rg := by
  obtain ⟨h1, h2, h3, h4⟩ := h
  refine ⟨(k _ hr).trans h1, h2, h3, ?_⟩
  rcases h4 with ⟨a, b, c, d, e⟩ | ⟨a, b, c, d, e, f, g, i⟩
  · exact Or.inl ⟨a, b, c, (k _ (fun z => hl (by rw [c, z]))).trans d, e⟩
  · exact Or.inr ⟨a, b, (k _ (fun z => ht (by rw [b, z]))).trans c, d, e, f, (k _ (fun z => hl (by rw [f, z]))).trans g, i⟩
theorem sg_L_upd {W G : Nat → Int32} {gd v : Int32} {r d t f w : Nat} {tb lt rg : Int32} (h : sg_L W G gd r d t tb lt rg) (hd : d < 8) (ht : t < 8) (hw : w < 8)
    (a : ¬ (r = f ∧ d = w)) (b : ¬ (tb = nI f ∧ t = w)) : sg_L (upd W (8 * f + w) v) G gd r d t tb lt rg := by
  unfold sg_L at h ⊢
  have e1 : upd W (8 * f + w) v (8 * r + d) = W (8 * r + d) := pk_un (by omega)
  rw [e1]
  obtain ⟨h1, h2, h3, h4⟩ := h
  refine ⟨h1, h2, h3, ?_⟩
  rcases h4 with h4 | h4
  · exact Or.inl h4
  · have e2 : upd W (8 * f + w) v (8 * sg_fr (W (8 * r + d)) + t) = W (8 * sg_fr (W (8 * r + d)) + t) := by
      apply pk_un
      intro z
      apply b
      have q : sg_fr (W (8 * r + d)) = f := by omega
      exact ⟨by rw [h4.2.1, q], by omega⟩
    rw [e2]
    exact Or.inr h4
def sg_C (W G : Nat → Int32) (gd : Int32) (rr lt rg tb : Nat → Int32) : Prop :=
  ∀ c, c < 3 → ∀ d, d < 8 → ∀ t, t < 8 → rg (64 * c + 8 * d + t) = 0 ∨
    ∃ r, r < 16 ∧ rr c = nI r ∧ sg_L W G gd r d t (tb (8 * c + d)) (lt (64 * c + 8 * d + t)) (rg (64 * c + 8 * d + t))
theorem sg_C_0 {W G : Nat → Int32} {gd : Int32} {rr lt rg tb : Nat → Int32} (h : ∀ k, k < 192 → rg k = 0) : sg_C W G gd rr lt rg tb := fun c hc d hd t ht => Or.inl (h _ (by omega))
theorem sg_C_G {W G G' : Nat → Int32} {gd : Int32} {rr lt rg tb : Nat → Int32} (h : sg_C W G gd rr lt rg tb) (k : ∀ j, G j = 0 → G' j = 0) : sg_C W G' gd rr lt rg tb := by
  intro c hc d hd t ht
  rcases h c hc d hd t ht with h | ⟨r, hr, er, h⟩
  · exact Or.inl h
  · exact Or.inr ⟨r, hr, er, sg_L_G h k⟩
/-- a word of a frame is forgotten in room c -/
def sg_F (f w : Nat) (rr rg tb rg' tb' : Nat → Int32) (c : Nat) : Prop :=
  ∀ d, d < 8 → ∀ t, t < 8 → rg' (64 * c + 8 * d + t) = 0 ∨
    (rg' (64 * c + 8 * d + t) = rg (64 * c + 8 * d + t) ∧ tb' (8 * c + d) = tb (8 * c + d) ∧ ¬ (rr c = nI f ∧ d = w) ∧ ¬ (tb (8 * c + d) = nI f ∧ t = w))
theorem sg_C_F {W G : Nat → Int32} {gd v : Int32} {rr lt rg tb rg' tb' : Nat → Int32} {f w : Nat} (h : sg_C W G gd rr lt rg tb) (hf : f < 16) (hw : w < 8) (k : ∀ c, c < 3 → sg_F f w rr rg tb rg' tb' c) :
    sg_C (upd W (8 * f + w) v) G gd rr lt rg' tb' := by
  intro c hc d hd t ht
  rcases k c hc d hd t ht with z | ⟨k1, k2, k3, k4⟩
  · exact Or.inl z
  · rw [k1, k2]
    rcases h c hc d hd t ht with h | ⟨r, hr, er, h⟩
    · exact Or.inl h
    · refine Or.inr ⟨r, hr, er, sg_L_upd h hd ht hw ?_ k4⟩
      intro z
      exact k3 ⟨by rw [er, z.1], z.2⟩
/-- a frame is taken away -/
theorem sg_C_steal {W G : Nat → Int32} {gd : Int32} {rr lt rg tb rg' : Nat → Int32} {f : Nat} {v : Int32} (h : sg_C W G gd rr lt rg tb)
    (k : ∀ c, c < 3 → ∀ d, d < 8 → ∀ t, t < 8 → rg' (64 * c + 8 * d + t) = 0 ∨ (rg' (64 * c + 8 * d + t) = rg (64 * c + 8 * d + t) ∧ rr c ≠ nI f ∧ tb (8 * c + d) ≠ nI f ∧ lt (64 * c + 8 * d + t) ≠ nI f)) :
    sg_C W (upd G f v) gd rr lt rg' tb := by
  intro c hc d hd t ht
  rcases k c hc d hd t ht with z | ⟨k1, k2, k3, k4⟩
  · exact Or.inl z
  · rw [k1]
    rcases h c hc d hd t ht with h | ⟨r, hr, er, h⟩
    · exact Or.inl h
    · exact Or.inr ⟨r, hr, er, sg_L_steal h (fun j hj => pk_un hj) (fun z => k2 (by rw [er, z])) k3 k4⟩
/-- a line more -/
theorem sg_C_add {W G : Nat → Int32} {gd tf re may : Int32} {rr lt rg tb : Nat → Int32} {c d t r : Nat} (h : sg_C W G gd rr lt rg tb) (hc : c < 3) (hd : d < 8) (ht : t < 8) (hr : r < 16) (er : rr c = nI r)
    (hL : sg_L W G gd r d t tf re may) : sg_C W G gd rr (upd lt (64 * c + 8 * d + t) re) (upd rg (64 * c + 8 * d + t) may) (upd tb (8 * c + d) tf) := by
  intro c' hc' d' hd' t' ht'
  by_cases e : c' = c ∧ d' = d
  · obtain ⟨e1, e2⟩ := e
    subst e1; subst e2
    rw [pk_us]
    by_cases e3 : t' = t
    · subst e3
      rw [pk_us, pk_us]
      exact Or.inr ⟨r, hr, er, hL⟩
    · rw [pk_un (show 64 * c' + 8 * d' + t' ≠ 64 * c' + 8 * d' + t by omega), pk_un (show 64 * c' + 8 * d' + t' ≠ 64 * c' + 8 * d' + t by omega)]
      rcases h c' hc' d' hd' t' ht' with h | ⟨r', hr', er', h⟩
      · exact Or.inl h
      · have e4 : r' = r := sg_inj (by omega) (by omega) (er'.symm.trans er)
        subst e4
        refine Or.inr ⟨r', hr', er', ?_⟩
        have e5 : tf = tb (8 * c' + d') := by
          rcases hL.2.2.2 with a | a <;> rcases h.2.2.2 with b | b
          · rw [a.2.1, b.2.1]
          · exact absurd b.1 a.1
          · exact absurd a.1 b.1
          · rw [a.2.1, b.2.1]
        rw [e5]; exact h
  · have e1 : 64 * c' + 8 * d' + t' ≠ 64 * c + 8 * d + t := by omega
    have e2 : 8 * c' + d' ≠ 8 * c + d := by omega
    rw [pk_un e1, pk_un e1, pk_un e2]
    exact h c' hc' d' hd' t' ht'
/-- a room anew -/
theorem sg_C_room {W G : Nat → Int32} {gd : Int32} {rr lt rg tb rr' rg' tb' : Nat → Int32} {c : Nat} (h : sg_C W G gd rr lt rg tb) (hc : c < 3)
    (h1 : ∀ j, j ≠ c → rr' j = rr j) (h2 : ∀ k, 64 * c ≤ k → k < 64 * c + 64 → rg' k = 0) (h3 : ∀ k, (k < 64 * c ∨ 64 * c + 64 ≤ k) → rg' k = rg k) (h4 : ∀ k, (k < 8 * c ∨ 8 * c + 8 ≤ k) → tb' k = tb k) :
    sg_C W G gd rr' lt rg' tb' := by
  intro c' hc' d hd t ht
  by_cases e : c' = c
  · subst e; exact Or.inl (h2 _ (by omega) (by omega))
  · rw [h1 _ e, h3 _ (by omega), h4 _ (by omega)]
    exact h c' hc' d hd t ht
/-! words taken apart -/
def sg_O (op fi se nu W : Nat → Int32) : Prop := ∀ i, i < 128 → op i = 0 ∨
  (op i = (W i &&& 15) + 1 ∧ fi i = (W i >>> ((4 : Int32) &&& 31)) &&& 3 ∧ se i = (W i >>> ((6 : Int32) &&& 31)) &&& 3 ∧ nu i = (W i >>> ((8 : Int32) &&& 31)) &&& 511)
theorem sg_O_upd {op fi se nu W : Nat → Int32} {k : Nat} {v : Int32} (h : sg_O op fi se nu W) : sg_O (upd op k 0) fi se nu (upd W k v) := by
  intro i hi
  by_cases e : i = k
  · rw [e, pk_us]; exact Or.inl rfl
  · rw [pk_un e, pk_un e]; exact h i hi
theorem sg_O_take {op fi se nu W : Nat → Int32} {k : Nat} (h : sg_O op fi se nu W) : sg_O (upd op k ((W k &&& 15) + 1)) (upd fi k ((W k >>> ((4 : Int32) &&& 31)) &&& 3)) (upd se k ((W k >>> ((6 : Int32) &&& 31)) &&& 3)) (upd nu k ((W k >>> ((8 : Int32) &&& 31)) &&& 511)) W := by
  intro i hi
  by_cases e : i = k
  · rw [e, pk_us, pk_us, pk_us, pk_us]; exact Or.inr ⟨rfl, rfl, rfl, rfl⟩
  · rw [pk_un e, pk_un e, pk_un e, pk_un e]; exact h i hi
/-! the state that an access works on -/
def sg_S (pg us he aw rr lt rg tb op fi se nu : Nat → Int32) (gd : Int32) (W G : Nat → Int32) : Prop := sg_M pg us he aw W G ∧ sg_C W G gd rr lt rg tb ∧ sg_O op fi se nu W
def sg_P (pa ro rm : Int32) (rr : Nat → Int32) (yr : Int32) : Prop :=
  (pa = 0 ∧ yr = -1) ∨ (pa = 1 ∧ ∃ r c, r < 16 ∧ c < 3 ∧ ro = nI r ∧ yr = nI r ∧ rm = nI c ∧ rr c = nI r)
def sg_Fa (fa fc yc : Int32) : Prop := (fa = -1 ∧ yc = -1) ∨ (0 ≤ fa ∧ yc = fc)
end
section
/-! X: words, pages -/
section
variable {f_paging f_guard f_root f_logged f_room f_oldest f_dirWord f_tableFrame f_tableWord f_target f_reached f_faultAddress f_faultCode f_accesses f_faults f_pc f_savedPc f_cause f_output f_outputs f_traps f_user f_savedUser f_stopped f_trapped f_any f_keptPaging f_keptGuard f_keptRoot : Int32} {a_page a_users a_held a_away a_roomRoot a_leadsTo a_rights a_table a_register a_ops a_first a_second a_numbers a_kept : Nat → Int32} {y_root y_keptRoot y_faultCode y_first y_second y_goal y_code y_behindTrap : Int32} {W G : Nat → Int32}
theorem xs_word {post : Int32 → Prop} {f w : Nat} (hM : sg_M a_page a_users a_held a_away W G) (hf : f < 16) (hw : w < 8) (h : post (W (8 * f + w))) : wpX_word post (f_paging, f_guard, f_root, f_logged, f_room, f_oldest, f_dirWord, f_tableFrame, f_tableWord, f_target, f_reached, f_faultAddress, f_faultCode, f_accesses, f_faults, f_pc, f_savedPc, f_cause, f_output, f_outputs, f_traps, f_user, f_savedUser, f_stopped, f_trapped, f_any, f_keptPaging, f_keptGuard, f_keptRoot, a_page, a_users, a_held, a_away, a_roomRoot, a_leadsTo, a_rights, a_table, a_register, a_ops, a_first, a_second, a_numbers, a_kept) (nI f) (nI w) := by
  refine And.intro (vp_in_nI hf (by omega)) ?_
  rw [nI_clamp (show f < 2 ^ 31 by omega)]
  rcases hM.1 f hf with ⟨e, _⟩ | ⟨_, p, hp, e⟩
  · rw [e, sg_ix8 f w, nI_clamp (show 8 * f + w < 2 ^ 31 by omega)]
    refine br_f (by decide) ⟨vp_in_nI (by omega) (by omega), ?_⟩
    rw [← (hM.2.2 f hf w hw).1 e]; exact h
  · rw [e, sg_ix8 p w, nI_clamp (show 8 * p + w < 2 ^ 31 by omega)]
    refine br_t (nI_pos' (by omega)) ⟨vp_in_nI hf (by omega), vp_in_nI (by omega) (by omega), ?_⟩
    rw [← (hM.2.2 f hf w hw).2 p hp e]; exact h
theorem xs_free {q : Nat → Nat} (hu : ∀ p, p < 16 → a_users p = nI (q p) ∧ q p ≤ 16) (hx : ∃ p, p < 16 ∧ q p = 0) : ∃ p, p < 16 ∧ q p = 0 ∧ ∀ post : Int32 → Prop, post (nI p) → wpX_freePage post (f_paging, f_guard, f_root, f_logged, f_room, f_oldest, f_dirWord, f_tableFrame, f_tableWord, f_target, f_reached, f_faultAddress, f_faultCode, f_accesses, f_faults, f_pc, f_savedPc, f_cause, f_output, f_outputs, f_traps, f_user, f_savedUser, f_stopped, f_trapped, f_any, f_keptPaging, f_keptGuard, f_keptRoot, a_page, a_users, a_held, a_away, a_roomRoot, a_leadsTo, a_rights, a_table, a_register, a_ops, a_first, a_second, a_numbers, a_kept) := by
  obtain ⟨p, ⟨hp, hz⟩, hl⟩ := pk_least (fun p => p < 16 ∧ q p = 0) hx
  refine ⟨p, hp, hz, fun post h => ?_⟩
  have key : ∀ d i, i + d = p → wX_freePage_2 post f_paging f_guard f_root f_logged f_room f_oldest f_dirWord f_tableFrame f_tableWord f_target f_reached f_faultAddress f_faultCode f_accesses f_faults f_pc f_savedPc f_cause f_output f_outputs f_traps f_user f_savedUser f_stopped f_trapped f_any f_keptPaging f_keptGuard f_keptRoot a_page a_users a_held a_away a_roomRoot a_leadsTo a_rights a_table a_register a_ops a_first a_second a_numbers a_kept (d + 1) (nI i) := by
    intro d
    induction d with
    | zero =>
      intro i hi
      have ei : i = p := by omega
      subst ei
      refine And.intro (vp_in_nI hp (by omega)) ?_
      rw [nI_clamp (show i < 2 ^ 31 by omega), (hu i hp).1, hz]
      exact br_t (by decide) h
    | succ d ih =>
      intro i hi
      have hi16 : i < 16 := by omega
      have hne : q i ≠ 0 := fun z => hl i (by omega) ⟨hi16, z⟩
      have hle := (hu i hi16).2
      refine And.intro (vp_in_nI hi16 (by omega)) ?_
      rw [nI_clamp (show i < 2 ^ 31 by omega), (hu i hi16).1]
      exact br_f (nI_nle (by omega) (by omega)) (nm_r (nI_1 i) (ih (i + 1) (by omega)))
  exact Exists.intro (p + 1) (key p 0 (by omega))
theorem xs_use32 {f p : Nat} (hf : f < 16) (hp : p < 16) : ∀ (d i : Nat) (pg : Nat → Int32), i + d = 8 → ∃ pg' : Nat → Int32, (∀ w, i ≤ w → w < 8 → pg' (8 * p + w) = a_away (8 * f + w)) ∧ (∀ j, (j < 8 * p + i ∨ 8 * p + 8 ≤ j) → pg' j = pg j) ∧ ∀ post : SX → Prop, post (f_paging, f_guard, f_root, f_logged, f_room, f_oldest, f_dirWord, f_tableFrame, f_tableWord, f_target, f_reached, f_faultAddress, f_faultCode, f_accesses, f_faults, f_pc, f_savedPc, f_cause, f_output, f_outputs, f_traps, f_user, f_savedUser, f_stopped, f_trapped, f_any, f_keptPaging, f_keptGuard, f_keptRoot, pg', a_users, a_held, a_away, a_roomRoot, a_leadsTo, a_rights, a_table, a_register, a_ops, a_first, a_second, a_numbers, a_kept) → wX_use_32 post (nI f) (nI p) f_paging f_guard f_root f_logged f_room f_oldest f_dirWord f_tableFrame f_tableWord f_target f_reached f_faultAddress f_faultCode f_accesses f_faults f_pc f_savedPc f_cause f_output f_outputs f_traps f_user f_savedUser f_stopped f_trapped f_any f_keptPaging f_keptGuard f_keptRoot (d + 1) (nI i) pg a_users a_held a_away a_roomRoot a_leadsTo a_rights a_table a_register a_ops a_first a_second a_numbers a_kept := by
  intro d
  induction d with
  | zero =>
    intro i pg hi
    refine ⟨pg, fun w h1 h2 => by omega, fun j _ => rfl, fun post h => ?_⟩
    have e : i = 8 := by omega
    subst e
    exact br_t (by decide) h
  | succ d ih =>
    intro i pg hi
    obtain ⟨pg', h1, h2, h3⟩ := ih (i + 1) (upd pg (8 * p + i) (a_away (8 * f + i))) (by omega)
    refine ⟨pg', ?_, ?_, fun post h => ?_⟩
    · intro w hw hw8
      by_cases e : w = i
      · rw [e, h2 _ (by omega), pk_us]
      · exact h1 w (by omega) hw8
    · intro j hj
      rw [h2 j (by omega), pk_un (by omega)]
    · refine br_f (nI_ge (b := 8) (by omega) (by omega)) ?_
      rw [sg_ix8 f i, sg_ix8 p i, nI_clamp (show 8 * f + i < 2 ^ 31 by omega), nI_clamp (show 8 * p + i < 2 ^ 31 by omega)]
      exact ⟨vp_in_nI (by omega) (by omega), vp_in_nI (by omega) (by omega), nm_e (nm_r (nI_1 i) (h3 post h))⟩
theorem xs_use {f : Nat} (hM : sg_M a_page a_users a_held a_away W G) (hf : f < 16) : ∃ pg us he : Nat → Int32, sg_M pg us he a_away W (upd G f 0) ∧ ∀ post : SX → Prop, post (f_paging, f_guard, f_root, f_logged, f_room, f_oldest, f_dirWord, f_tableFrame, f_tableWord, f_target, f_reached, f_faultAddress, f_faultCode, f_accesses, f_faults, f_pc, f_savedPc, f_cause, f_output, f_outputs, f_traps, f_user, f_savedUser, f_stopped, f_trapped, f_any, f_keptPaging, f_keptGuard, f_keptRoot, pg, us, he, a_away, a_roomRoot, a_leadsTo, a_rights, a_table, a_register, a_ops, a_first, a_second, a_numbers, a_kept) → wpX_use post (f_paging, f_guard, f_root, f_logged, f_room, f_oldest, f_dirWord, f_tableFrame, f_tableWord, f_target, f_reached, f_faultAddress, f_faultCode, f_accesses, f_faults, f_pc, f_savedPc, f_cause, f_output, f_outputs, f_traps, f_user, f_savedUser, f_stopped, f_trapped, f_any, f_keptPaging, f_keptGuard, f_keptRoot, a_page, a_users, a_held, a_away, a_roomRoot, a_leadsTo, a_rights, a_table, a_register, a_ops, a_first, a_second, a_numbers, a_kept) (nI f) := by
  rcases hM.1 f hf with ⟨e, eg⟩ | ⟨eg, p, hp, e⟩
  · obtain ⟨p, hp, hz, hfree⟩ := xs_free (f_paging := f_paging) (f_guard := f_guard) (f_root := f_root) (f_logged := f_logged) (f_room := f_room) (f_oldest := f_oldest) (f_dirWord := f_dirWord) (f_tableFrame := f_tableFrame) (f_tableWord := f_tableWord) (f_target := f_target) (f_reached := f_reached) (f_faultAddress := f_faultAddress) (f_faultCode := f_faultCode) (f_accesses := f_accesses) (f_faults := f_faults) (f_pc := f_pc) (f_savedPc := f_savedPc) (f_cause := f_cause) (f_output := f_output) (f_outputs := f_outputs) (f_traps := f_traps) (f_user := f_user) (f_savedUser := f_savedUser) (f_stopped := f_stopped) (f_trapped := f_trapped) (f_any := f_any) (f_keptPaging := f_keptPaging) (f_keptGuard := f_keptGuard) (f_keptRoot := f_keptRoot) (a_page := a_page) (a_users := a_users) (a_held := a_held) (a_away := a_away) (a_roomRoot := a_roomRoot) (a_leadsTo := a_leadsTo) (a_rights := a_rights) (a_table := a_table) (a_register := a_register) (a_ops := a_ops) (a_first := a_first) (a_second := a_second) (a_numbers := a_numbers) (a_kept := a_kept) (q := fun p => sg_hc a_held (nI p) 16) (fun p hp => ⟨hM.2.1 p hp, sg_hc_le _ _ _⟩) (sg_free1 hf e)
    obtain ⟨pg, h1, h2, h3⟩ := xs_use32 (f_paging := f_paging) (f_guard := f_guard) (f_root := f_root) (f_logged := f_logged) (f_room := f_room) (f_oldest := f_oldest) (f_dirWord := f_dirWord) (f_tableFrame := f_tableFrame) (f_tableWord := f_tableWord) (f_target := f_target) (f_reached := f_reached) (f_faultAddress := f_faultAddress) (f_faultCode := f_faultCode) (f_accesses := f_accesses) (f_faults := f_faults) (f_pc := f_pc) (f_savedPc := f_savedPc) (f_cause := f_cause) (f_output := f_output) (f_outputs := f_outputs) (f_traps := f_traps) (f_user := f_user) (f_savedUser := f_savedUser) (f_stopped := f_stopped) (f_trapped := f_trapped) (f_any := f_any) (f_keptPaging := f_keptPaging) (f_keptGuard := f_keptGuard) (f_keptRoot := f_keptRoot) (a_users := upd a_users p 1) (a_held := upd a_held f (nI p)) (a_away := a_away) (a_roomRoot := a_roomRoot) (a_leadsTo := a_leadsTo) (a_rights := a_rights) (a_table := a_table) (a_register := a_register) (a_ops := a_ops) (a_first := a_first) (a_second := a_second) (a_numbers := a_numbers) (a_kept := a_kept) hf hp 8 0 a_page (by omega)
    refine ⟨pg, _, _, sg_M_use hM hf e hp hz (fun w hw => h1 w (Nat.zero_le _) hw) (fun j hj => h2 j (by omega)), fun post h => ?_⟩
    refine And.intro (vp_in_nI hf (by omega)) ?_
    rw [nI_clamp (show f < 2 ^ 31 by omega), e]
    refine br_t (by decide) (hfree _ ?_)
    refine And.intro (vp_in_nI hp (by omega)) ?_
    rw [nI_clamp (show p < 2 ^ 31 by omega), sg_b1, sg_by p (by omega)]
    exact nm_e ⟨vp_in_nI hf (by omega), nm_e ⟨9, h3 post h⟩⟩
  · refine ⟨a_page, a_users, a_held, sg_M_G hM (fun g hg => ?_), fun post h => ?_⟩
    · by_cases z : g = f
      · rw [z, pk_us, eg]
      · rw [pk_un z]
    · refine And.intro (vp_in_nI hf (by omega)) ?_
      rw [nI_clamp (show f < 2 ^ 31 by omega), e]
      exact br_f (nI_pos (by omega)) h
end
end
section
/-! X: a word is forgotten -/
theorem sg_ix3 (c d w : Nat) : ((64 : Int32) * nI c + 8 * nI d) + nI w = nI (64 * c + 8 * d + w) := by rw [sg_m64, sg_m8, nI_add, nI_add]
section
variable {f_paging f_guard f_root f_logged f_room f_oldest f_dirWord f_tableFrame f_tableWord f_target f_reached f_faultAddress f_faultCode f_accesses f_faults f_pc f_savedPc f_cause f_output f_outputs f_traps f_user f_savedUser f_stopped f_trapped f_any f_keptPaging f_keptGuard f_keptRoot : Int32} {a_page a_users a_held a_away a_roomRoot a_leadsTo a_rights a_table a_register a_ops a_first a_second a_numbers a_kept : Nat → Int32} {y_root y_keptRoot y_faultCode y_first y_second y_goal y_code y_behindTrap : Int32} {W G : Nat → Int32}
theorem xs_fw59 {c f w : Nat} (hc : c < 3) (hw : w < 8) : ∀ (n d : Nat) (rg : Nat → Int32), d + n = 8 → ∃ rg' : Nat → Int32, (∀ k, rg' k = rg k ∨ rg' k = 0) ∧ (∀ d', d ≤ d' → d' < 8 → a_table (8 * c + d') = nI f → rg' (64 * c + 8 * d' + w) = 0) ∧ (∀ k, (k < 64 * c ∨ 64 * c + 64 ≤ k) → rg' k = rg k) ∧ ∀ post : SX → Prop, post (f_paging, f_guard, f_root, f_logged, f_room, f_oldest, f_dirWord, f_tableFrame, f_tableWord, f_target, f_reached, f_faultAddress, f_faultCode, f_accesses, f_faults, f_pc, f_savedPc, f_cause, f_output, f_outputs, f_traps, f_user, f_savedUser, f_stopped, f_trapped, f_any, f_keptPaging, f_keptGuard, f_keptRoot, a_page, a_users, a_held, a_away, a_roomRoot, a_leadsTo, rg', a_table, a_register, a_ops, a_first, a_second, a_numbers, a_kept) → wX_forgetWord_59 post (nI c) (nI f) (nI w) f_paging f_guard f_root f_logged f_room f_oldest f_dirWord f_tableFrame f_tableWord f_target f_reached f_faultAddress f_faultCode f_accesses f_faults f_pc f_savedPc f_cause f_output f_outputs f_traps f_user f_savedUser f_stopped f_trapped f_any f_keptPaging f_keptGuard f_keptRoot (n + 1) (nI d) a_page a_users a_held a_away a_roomRoot a_leadsTo rg a_table a_register a_ops a_first a_second a_numbers a_kept := by
  intro n
  induction n with
  | zero =>
    intro d rg hd
    refine ⟨rg, fun k => Or.inl rfl, fun d' h1 h2 => by omega, fun k _ => rfl, fun post h => ?_⟩
    have e : d = 8 := by omega
    subst e
    exact br_t (by decide) h
  | succ n ih =>
    intro d rg hd
    have hd8 : ¬ (8 : Int32) ≤ nI d := nI_ge (b := 8) (by omega) (by omega)
    have hin : vp_in (nI (8 * c + d)) 24 := vp_in_nI (by omega) (by omega)
    by_cases e : a_table (8 * c + d) = nI f
    · obtain ⟨rg', h1, h2, h3, h4⟩ := ih (d + 1) (upd rg (64 * c + 8 * d + w) 0) (by omega)
      refine ⟨rg', ?_, ?_, ?_, fun post h => ?_⟩
      · intro k
        rcases h1 k with q | q
        · by_cases z : k = 64 * c + 8 * d + w
          · right; rw [q, z, pk_us]
          · left; rw [q, pk_un z]
        · exact Or.inr q
      · intro d' hd1 hd2 ed
        by_cases z : d' = d
        · rcases h1 (64 * c + 8 * d' + w) with q | q
          · rw [q, z, pk_us]
          · exact q
        · exact h2 d' (by omega) hd2 ed
      · intro k hk
        rw [h3 k hk, pk_un (by omega)]
      · refine br_f hd8 ?_
        rw [sg_ix8 c d, sg_ix3 c d w, nI_clamp (show 8 * c + d < 2 ^ 31 by omega), nI_clamp (show 64 * c + 8 * d + w < 2 ^ 31 by omega), sg_b0]
        exact ⟨hin, br_t e ⟨vp_in_nI (by omega) (by omega), nm_e (nm_r (nI_1 d) (h4 post h))⟩⟩
    · obtain ⟨rg', h1, h2, h3, h4⟩ := ih (d + 1) rg (by omega)
      refine ⟨rg', h1, ?_, h3, fun post h => ?_⟩
      · intro d' hd1 hd2 ed
        by_cases z : d' = d
        · exact absurd (z ▸ ed) e
        · exact h2 d' (by omega) hd2 ed
      · refine br_f hd8 ?_
        rw [sg_ix8 c d, nI_clamp (show 8 * c + d < 2 ^ 31 by omega)]
        exact ⟨hin, br_f e (nm_r (nI_1 d) (h4 post h))⟩
theorem xs_fw25 {c f w : Nat} (hc : c < 3) (hw : w < 8) : ∀ (n t : Nat) (rg : Nat → Int32), t + n = 8 → ∃ rg' : Nat → Int32, (∀ k, rg' k = rg k ∨ rg' k = 0) ∧ (∀ t', t ≤ t' → t' < 8 → rg' (64 * c + 8 * w + t') = 0) ∧ (∀ k, (k < 64 * c ∨ 64 * c + 64 ≤ k) → rg' k = rg k) ∧ ∀ post : SX → Prop, (∃ n59, wX_forgetWord_59 post (nI c) (nI f) (nI w) f_paging f_guard f_root f_logged f_room f_oldest f_dirWord f_tableFrame f_tableWord f_target f_reached f_faultAddress f_faultCode f_accesses f_faults f_pc f_savedPc f_cause f_output f_outputs f_traps f_user f_savedUser f_stopped f_trapped f_any f_keptPaging f_keptGuard f_keptRoot n59 0 a_page a_users a_held a_away a_roomRoot a_leadsTo rg' a_table a_register a_ops a_first a_second a_numbers a_kept) → wX_forgetWord_25 post (nI c) (nI f) (nI w) f_paging f_guard f_root f_logged f_room f_oldest f_dirWord f_tableFrame f_tableWord f_target f_reached f_faultAddress f_faultCode f_accesses f_faults f_pc f_savedPc f_cause f_output f_outputs f_traps f_user f_savedUser f_stopped f_trapped f_any f_keptPaging f_keptGuard f_keptRoot (n + 1) (nI t) a_page a_users a_held a_away a_roomRoot a_leadsTo rg a_table a_register a_ops a_first a_second a_numbers a_kept := by
  intro n
  induction n with
  | zero =>
    intro t rg ht
    refine ⟨rg, fun k => Or.inl rfl, fun d' h1 h2 => by omega, fun k _ => rfl, fun post h => ?_⟩
    have e : t = 8 := by omega
    subst e
    exact br_t (by decide) h
  | succ n ih =>
    intro t rg ht
    obtain ⟨rg', h1, h2, h3, h4⟩ := ih (t + 1) (upd rg (64 * c + 8 * w + t) 0) (by omega)
    refine ⟨rg', ?_, ?_, ?_, fun post h => ?_⟩
    · intro k
      rcases h1 k with q | q
      · by_cases z : k = 64 * c + 8 * w + t
        · right; rw [q, z, pk_us]
        · left; rw [q, pk_un z]
      · exact Or.inr q
    · intro t' hd1 hd2
      by_cases z : t' = t
      · rcases h1 (64 * c + 8 * w + t') with q | q
        · rw [q, z, pk_us]
        · exact q
      · exact h2 t' (by omega) hd2
    · intro k hk
      rw [h3 k hk, pk_un (by omega)]
    · refine br_f (nI_ge (b := 8) (by omega) (by omega)) ?_
      rw [sg_ix3 c w t, nI_clamp (show 64 * c + 8 * w + t < 2 ^ 31 by omega), sg_b0]
      exact ⟨vp_in_nI (by omega) (by omega), nm_e (nm_r (nI_1 t) (h4 post h))⟩
theorem xs_fw {c f w : Nat} (hc : c < 3) (hw : w < 8) : ∃ rg tb : Nat → Int32, sg_F f w a_roomRoot a_rights a_table rg tb c ∧ (∀ k, (k < 64 * c ∨ 64 * c + 64 ≤ k) → rg k = a_rights k) ∧ (∀ k, (k < 8 * c ∨ 8 * c + 8 ≤ k) → tb k = a_table k) ∧ ∀ post : SX → Prop, post (f_paging, f_guard, f_root, f_logged, f_room, f_oldest, f_dirWord, f_tableFrame, f_tableWord, f_target, f_reached, f_faultAddress, f_faultCode, f_accesses, f_faults, f_pc, f_savedPc, f_cause, f_output, f_outputs, f_traps, f_user, f_savedUser, f_stopped, f_trapped, f_any, f_keptPaging, f_keptGuard, f_keptRoot, a_page, a_users, a_held, a_away, a_roomRoot, a_leadsTo, rg, tb, a_register, a_ops, a_first, a_second, a_numbers, a_kept) → wpX_forgetWord post (f_paging, f_guard, f_root, f_logged, f_room, f_oldest, f_dirWord, f_tableFrame, f_tableWord, f_target, f_reached, f_faultAddress, f_faultCode, f_accesses, f_faults, f_pc, f_savedPc, f_cause, f_output, f_outputs, f_traps, f_user, f_savedUser, f_stopped, f_trapped, f_any, f_keptPaging, f_keptGuard, f_keptRoot, a_page, a_users, a_held, a_away, a_roomRoot, a_leadsTo, a_rights, a_table, a_register, a_ops, a_first, a_second, a_numbers, a_kept) (nI c) (nI f) (nI w) := by
  by_cases e : a_roomRoot c = nI f
  · obtain ⟨g1, p1, p2, p3, p4⟩ := xs_fw25 (f_paging := f_paging) (f_guard := f_guard) (f_root := f_root) (f_logged := f_logged) (f_room := f_room) (f_oldest := f_oldest) (f_dirWord := f_dirWord) (f_tableFrame := f_tableFrame) (f_tableWord := f_tableWord) (f_target := f_target) (f_reached := f_reached) (f_faultAddress := f_faultAddress) (f_faultCode := f_faultCode) (f_accesses := f_accesses) (f_faults := f_faults) (f_pc := f_pc) (f_savedPc := f_savedPc) (f_cause := f_cause) (f_output := f_output) (f_outputs := f_outputs) (f_traps := f_traps) (f_user := f_user) (f_savedUser := f_savedUser) (f_stopped := f_stopped) (f_trapped := f_trapped) (f_any := f_any) (f_keptPaging := f_keptPaging) (f_keptGuard := f_keptGuard) (f_keptRoot := f_keptRoot) (a_page := a_page) (a_users := a_users) (a_held := a_held) (a_away := a_away) (a_roomRoot := a_roomRoot) (a_leadsTo := a_leadsTo) (a_table := upd a_table (8 * c + w) (-1)) (a_register := a_register) (a_ops := a_ops) (a_first := a_first) (a_second := a_second) (a_numbers := a_numbers) (a_kept := a_kept) (f := f) hc hw 8 0 a_rights (by omega)
    obtain ⟨g2, q1, q2, q3, q4⟩ := xs_fw59 (f_paging := f_paging) (f_guard := f_guard) (f_root := f_root) (f_logged := f_logged) (f_room := f_room) (f_oldest := f_oldest) (f_dirWord := f_dirWord) (f_tableFrame := f_tableFrame) (f_tableWord := f_tableWord) (f_target := f_target) (f_reached := f_reached) (f_faultAddress := f_faultAddress) (f_faultCode := f_faultCode) (f_accesses := f_accesses) (f_faults := f_faults) (f_pc := f_pc) (f_savedPc := f_savedPc) (f_cause := f_cause) (f_output := f_output) (f_outputs := f_outputs) (f_traps := f_traps) (f_user := f_user) (f_savedUser := f_savedUser) (f_stopped := f_stopped) (f_trapped := f_trapped) (f_any := f_any) (f_keptPaging := f_keptPaging) (f_keptGuard := f_keptGuard) (f_keptRoot := f_keptRoot) (a_page := a_page) (a_users := a_users) (a_held := a_held) (a_away := a_away) (a_roomRoot := a_roomRoot) (a_leadsTo := a_leadsTo) (a_table := upd a_table (8 * c + w) (-1)) (a_register := a_register) (a_ops := a_ops) (a_first := a_first) (a_second := a_second) (a_numbers := a_numbers) (a_kept := a_kept) (f := f) hc hw 8 0 g1 (by omega)
    refine ⟨g2, _, ?_, fun k hk => (q3 k hk).trans (p3 k hk), fun k hk => pk_un (x := -1) (show k ≠ 8 * c + w by omega), fun post h => ?_⟩
    · intro d hd t ht
      by_cases z : g2 (64 * c + 8 * d + t) = 0
      · exact Or.inl z
      · right
        have a1 : g2 (64 * c + 8 * d + t) = g1 (64 * c + 8 * d + t) := (q1 _).resolve_right z
        have a2 : g1 (64 * c + 8 * d + t) = a_rights (64 * c + 8 * d + t) := (p1 _).resolve_right (fun y => z (a1.trans y))
        have hdw : d ≠ w := fun y => z (a1.trans (by rw [y]; exact p2 t (Nat.zero_le _) ht))
        have a3 : upd a_table (8 * c + w) (-1) (8 * c + d) = a_table (8 * c + d) := pk_un (by omega)
        refine ⟨a1.trans a2, a3, fun y => hdw y.2, fun y => z ?_⟩
        rw [y.2]
        exact q2 d (Nat.zero_le _) hd (a3.trans y.1)
    · refine And.intro (vp_in_nI hc (by omega)) ?_
      rw [nI_clamp (show c < 2 ^ 31 by omega), sg_ix8 c w, nI_clamp (show 8 * c + w < 2 ^ 31 by omega), sg_bm1]
      exact br_t e ⟨vp_in_nI (by omega) (by omega), nm_e ⟨9, p4 post ⟨9, q4 post h⟩⟩⟩
  · obtain ⟨g2, q1, q2, q3, q4⟩ := xs_fw59 (f_paging := f_paging) (f_guard := f_guard) (f_root := f_root) (f_logged := f_logged) (f_room := f_room) (f_oldest := f_oldest) (f_dirWord := f_dirWord) (f_tableFrame := f_tableFrame) (f_tableWord := f_tableWord) (f_target := f_target) (f_reached := f_reached) (f_faultAddress := f_faultAddress) (f_faultCode := f_faultCode) (f_accesses := f_accesses) (f_faults := f_faults) (f_pc := f_pc) (f_savedPc := f_savedPc) (f_cause := f_cause) (f_output := f_output) (f_outputs := f_outputs) (f_traps := f_traps) (f_user := f_user) (f_savedUser := f_savedUser) (f_stopped := f_stopped) (f_trapped := f_trapped) (f_any := f_any) (f_keptPaging := f_keptPaging) (f_keptGuard := f_keptGuard) (f_keptRoot := f_keptRoot) (a_page := a_page) (a_users := a_users) (a_held := a_held) (a_away := a_away) (a_roomRoot := a_roomRoot) (a_leadsTo := a_leadsTo) (a_table := a_table) (a_register := a_register) (a_ops := a_ops) (a_first := a_first) (a_second := a_second) (a_numbers := a_numbers) (a_kept := a_kept) (f := f) hc hw 8 0 a_rights (by omega)
    refine ⟨g2, a_table, ?_, fun k hk => q3 k hk, fun k hk => rfl, fun post h => ?_⟩
    · intro d hd t ht
      by_cases z : g2 (64 * c + 8 * d + t) = 0
      · exact Or.inl z
      · right
        refine ⟨(q1 _).resolve_right z, rfl, fun y => e y.1, fun y => z ?_⟩
        rw [y.2]
        exact q2 d (Nat.zero_le _) hd y.1
    · refine And.intro (vp_in_nI hc (by omega)) ?_
      rw [nI_clamp (show c < 2 ^ 31 by omega)]
      exact br_f e ⟨9, q4 post h⟩
theorem xs_w152 {f w : Nat} (hw : w < 8) : ∃ rg tb : Nat → Int32, (∀ c, c < 3 → sg_F f w a_roomRoot a_rights a_table rg tb c) ∧ ∀ post : SX → Prop, post (f_paging, f_guard, f_root, f_logged, f_room, f_oldest, f_dirWord, f_tableFrame, f_tableWord, f_target, f_reached, f_faultAddress, f_faultCode, f_accesses, f_faults, f_pc, f_savedPc, f_cause, f_output, f_outputs, f_traps, f_user, f_savedUser, f_stopped, f_trapped, f_any, f_keptPaging, f_keptGuard, f_keptRoot, a_page, a_users, a_held, a_away, a_roomRoot, a_leadsTo, rg, tb, a_register, a_ops, a_first, a_second, a_numbers, a_kept) → wX_write_152 post (nI f) (nI w) 4 (nI 0) f_paging f_guard f_root f_logged f_room f_oldest f_dirWord f_tableFrame f_tableWord f_target f_reached f_faultAddress f_faultCode f_accesses f_faults f_pc f_savedPc f_cause f_output f_outputs f_traps f_user f_savedUser f_stopped f_trapped f_any f_keptPaging f_keptGuard f_keptRoot a_page a_users a_held a_away a_roomRoot a_leadsTo a_rights a_table a_register a_ops a_first a_second a_numbers a_kept := by
  obtain ⟨g0, b0, F0', r0, t0, k0⟩ := xs_fw (f_paging := f_paging) (f_guard := f_guard) (f_root := f_root) (f_logged := f_logged) (f_room := f_room) (f_oldest := f_oldest) (f_dirWord := f_dirWord) (f_tableFrame := f_tableFrame) (f_tableWord := f_tableWord) (f_target := f_target) (f_reached := f_reached) (f_faultAddress := f_faultAddress) (f_faultCode := f_faultCode) (f_accesses := f_accesses) (f_faults := f_faults) (f_pc := f_pc) (f_savedPc := f_savedPc) (f_cause := f_cause) (f_output := f_output) (f_outputs := f_outputs) (f_traps := f_traps) (f_user := f_user) (f_savedUser := f_savedUser) (f_stopped := f_stopped) (f_trapped := f_trapped) (f_any := f_any) (f_keptPaging := f_keptPaging) (f_keptGuard := f_keptGuard) (f_keptRoot := f_keptRoot) (a_page := a_page) (a_users := a_users) (a_held := a_held) (a_away := a_away) (a_roomRoot := a_roomRoot) (a_leadsTo := a_leadsTo) (a_rights := a_rights) (a_table := a_table) (a_register := a_register) (a_ops := a_ops) (a_first := a_first) (a_second := a_second) (a_numbers := a_numbers) (a_kept := a_kept) (c := 0) (f := f) (by omega) hw
  obtain ⟨g1, b1, F1, r1, t1, k1⟩ := xs_fw (f_paging := f_paging) (f_guard := f_guard) (f_root := f_root) (f_logged := f_logged) (f_room := f_room) (f_oldest := f_oldest) (f_dirWord := f_dirWord) (f_tableFrame := f_tableFrame) (f_tableWord := f_tableWord) (f_target := f_target) (f_reached := f_reached) (f_faultAddress := f_faultAddress) (f_faultCode := f_faultCode) (f_accesses := f_accesses) (f_faults := f_faults) (f_pc := f_pc) (f_savedPc := f_savedPc) (f_cause := f_cause) (f_output := f_output) (f_outputs := f_outputs) (f_traps := f_traps) (f_user := f_user) (f_savedUser := f_savedUser) (f_stopped := f_stopped) (f_trapped := f_trapped) (f_any := f_any) (f_keptPaging := f_keptPaging) (f_keptGuard := f_keptGuard) (f_keptRoot := f_keptRoot) (a_page := a_page) (a_users := a_users) (a_held := a_held) (a_away := a_away) (a_roomRoot := a_roomRoot) (a_leadsTo := a_leadsTo) (a_rights := g0) (a_table := b0) (a_register := a_register) (a_ops := a_ops) (a_first := a_first) (a_second := a_second) (a_numbers := a_numbers) (a_kept := a_kept) (c := 1) (f := f) (by omega) hw
  obtain ⟨g2, b2, F2, r2, t2, k2⟩ := xs_fw (f_paging := f_paging) (f_guard := f_guard) (f_root := f_root) (f_logged := f_logged) (f_room := f_room) (f_oldest := f_oldest) (f_dirWord := f_dirWord) (f_tableFrame := f_tableFrame) (f_tableWord := f_tableWord) (f_target := f_target) (f_reached := f_reached) (f_faultAddress := f_faultAddress) (f_faultCode := f_faultCode) (f_accesses := f_accesses) (f_faults := f_faults) (f_pc := f_pc) (f_savedPc := f_savedPc) (f_cause := f_cause) (f_output := f_output) (f_outputs := f_outputs) (f_traps := f_traps) (f_user := f_user) (f_savedUser := f_savedUser) (f_stopped := f_stopped) (f_trapped := f_trapped) (f_any := f_any) (f_keptPaging := f_keptPaging) (f_keptGuard := f_keptGuard) (f_keptRoot := f_keptRoot) (a_page := a_page) (a_users := a_users) (a_held := a_held) (a_away := a_away) (a_roomRoot := a_roomRoot) (a_leadsTo := a_leadsTo) (a_rights := g1) (a_table := b1) (a_register := a_register) (a_ops := a_ops) (a_first := a_first) (a_second := a_second) (a_numbers := a_numbers) (a_kept := a_kept) (c := 2) (f := f) (by omega) hw
  refine ⟨g2, b2, ?_, fun post h => ?_⟩
  · intro c hc d hd t ht
    rcases (show c = 0 ∨ c = 1 ∨ c = 2 by omega) with z | z | z
    · subst z
      rw [r2 _ (by omega), r1 _ (by omega), t2 _ (by omega), t1 _ (by omega)]
      exact F0' d hd t ht
    · subst z
      rw [r2 _ (by omega), t2 _ (by omega), ← r0 (64 * 1 + 8 * d + t) (by omega), ← t0 (8 * 1 + d) (by omega)]
      exact F1 d hd t ht
    · subst z
      rw [← r0 (64 * 2 + 8 * d + t) (by omega), ← t0 (8 * 2 + d) (by omega), ← r1 (64 * 2 + 8 * d + t) (by omega), ← t1 (8 * 2 + d) (by omega)]
      exact F2 d hd t ht
  · refine br_f (by decide) (k0 _ ?_)
    refine nm_r (nI_1 0) ?_
    refine br_f (by decide) (k1 _ ?_)
    refine nm_r (nI_1 1) ?_
    refine br_f (by decide) (k2 _ ?_)
    refine nm_r (nI_1 2) ?_
    exact br_t (by decide) h
theorem xs_w137 {f w : Nat} (hf : f < 16) (hw : w < 8) : ∃ rg tb : Nat → Int32, (∀ c, c < 3 → sg_F f w a_roomRoot a_rights a_table rg tb c) ∧ ∀ post : SX → Prop, post (f_paging, f_guard, f_root, f_logged, f_room, f_oldest, f_dirWord, f_tableFrame, f_tableWord, f_target, f_reached, f_faultAddress, f_faultCode, f_accesses, f_faults, f_pc, f_savedPc, f_cause, f_output, f_outputs, f_traps, f_user, f_savedUser, f_stopped, f_trapped, f_any, f_keptPaging, f_keptGuard, f_keptRoot, a_page, a_users, a_held, a_away, a_roomRoot, a_leadsTo, rg, tb, a_register, upd a_ops (8 * f + w) 0, a_first, a_second, a_numbers, a_kept) → wX_write_137 post (nI f) (nI w) f_paging f_guard f_root f_logged f_room f_oldest f_dirWord f_tableFrame f_tableWord f_target f_reached f_faultAddress f_faultCode f_accesses f_faults f_pc f_savedPc f_cause f_output f_outputs f_traps f_user f_savedUser f_stopped f_trapped f_any f_keptPaging f_keptGuard f_keptRoot a_page a_users a_held a_away a_roomRoot a_leadsTo a_rights a_table a_register a_ops a_first a_second a_numbers a_kept := by
  obtain ⟨rg, tb, h1, h2⟩ := xs_w152 (f_paging := f_paging) (f_guard := f_guard) (f_root := f_root) (f_logged := f_logged) (f_room := f_room) (f_oldest := f_oldest) (f_dirWord := f_dirWord) (f_tableFrame := f_tableFrame) (f_tableWord := f_tableWord) (f_target := f_target) (f_reached := f_reached) (f_faultAddress := f_faultAddress) (f_faultCode := f_faultCode) (f_accesses := f_accesses) (f_faults := f_faults) (f_pc := f_pc) (f_savedPc := f_savedPc) (f_cause := f_cause) (f_output := f_output) (f_outputs := f_outputs) (f_traps := f_traps) (f_user := f_user) (f_savedUser := f_savedUser) (f_stopped := f_stopped) (f_trapped := f_trapped) (f_any := f_any) (f_keptPaging := f_keptPaging) (f_keptGuard := f_keptGuard) (f_keptRoot := f_keptRoot) (a_page := a_page) (a_users := a_users) (a_held := a_held) (a_away := a_away) (a_roomRoot := a_roomRoot) (a_leadsTo := a_leadsTo) (a_rights := a_rights) (a_table := a_table) (a_register := a_register) (a_ops := upd a_ops (8 * f + w) 0) (a_first := a_first) (a_second := a_second) (a_numbers := a_numbers) (a_kept := a_kept) (f := f) hw
  refine ⟨rg, tb, h1, fun post h => ?_⟩
  unfold wX_write_137
  rw [sg_ix8 f w, nI_clamp (show 8 * f + w < 2 ^ 31 by omega), sg_b0]
  exact ⟨vp_in_nI (by omega) (by omega), nm_e ⟨4, h2 post h⟩⟩
end
end
section
/-! X: a word is written -/
theorem sg_dec {n : Nat} (h : 1 ≤ n) (h2 : n ≤ 16) : vp_nar .byte ((nI n - 1).toInt8.toInt32) = nI (n - 1) := by
  have e : nI n - 1 = nI (n - 1) := by
    have := nI_pred (n - 1)
    rwa [show n - 1 + 1 = n by omega] at this
  rw [e, sg_by _ (by omega)]
theorem sg_inc {n : Nat} (h2 : n ≤ 16) : vp_nar .byte ((nI n + 1).toInt8.toInt32) = nI (n + 1) := by
  rw [nI_1, sg_by _ (by omega)]
section
variable {f_paging f_guard f_root f_logged f_room f_oldest f_dirWord f_tableFrame f_tableWord f_target f_reached f_faultAddress f_faultCode f_accesses f_faults f_pc f_savedPc f_cause f_output f_outputs f_traps f_user f_savedUser f_stopped f_trapped f_any f_keptPaging f_keptGuard f_keptRoot : Int32} {a_page a_users a_held a_away a_roomRoot a_leadsTo a_rights a_table a_register a_ops a_first a_second a_numbers a_kept : Nat → Int32} {y_root y_keptRoot y_faultCode y_first y_second y_goal y_code y_behindTrap : Int32} {W G : Nat → Int32}
theorem xs_w81 {f w p q : Nat} {v : Int32} (hp : p < 16) (hq : q < 16) (hpq : p ≠ q) : ∀ (d i : Nat) (pg : Nat → Int32), i + d = 8 → ∃ pg' : Nat → Int32, (∀ w, i ≤ w → w < 8 → pg' (8 * q + w) = pg (8 * p + w)) ∧ (∀ j, (j < 8 * q + i ∨ 8 * q + 8 ≤ j) → pg' j = pg j) ∧ ∀ post : SX → Prop, wX_write_124 post (nI f) (nI w) v (nI q) f_paging f_guard f_root f_logged f_room f_oldest f_dirWord f_tableFrame f_tableWord f_target f_reached f_faultAddress f_faultCode f_accesses f_faults f_pc f_savedPc f_cause f_output f_outputs f_traps f_user f_savedUser f_stopped f_trapped f_any f_keptPaging f_keptGuard f_keptRoot pg' a_users a_held a_away a_roomRoot a_leadsTo a_rights a_table a_register a_ops a_first a_second a_numbers a_kept → wX_write_81 post (nI f) (nI w) v (nI p) (nI q) f_paging f_guard f_root f_logged f_room f_oldest f_dirWord f_tableFrame f_tableWord f_target f_reached f_faultAddress f_faultCode f_accesses f_faults f_pc f_savedPc f_cause f_output f_outputs f_traps f_user f_savedUser f_stopped f_trapped f_any f_keptPaging f_keptGuard f_keptRoot (d + 1) (nI i) pg a_users a_held a_away a_roomRoot a_leadsTo a_rights a_table a_register a_ops a_first a_second a_numbers a_kept := by
  intro d
  induction d with
  | zero =>
    intro i pg hi
    refine ⟨pg, fun w h1 h2 => by omega, fun j _ => rfl, fun post h => ?_⟩
    have e : i = 8 := by omega
    subst e
    exact br_t (by decide) h
  | succ d ih =>
    intro i pg hi
    obtain ⟨pg', h1, h2, h3⟩ := ih (i + 1) (upd pg (8 * q + i) (pg (8 * p + i))) (by omega)
    refine ⟨pg', ?_, ?_, fun post h => ?_⟩
    · intro w hw hw8
      by_cases e : w = i
      · rw [e, h2 _ (by omega), pk_us]
      · rw [h1 w (by omega) hw8, pk_un (by omega)]
    · intro j hj
      rw [h2 j (by omega), pk_un (by omega)]
    · refine br_f (nI_ge (b := 8) (by omega) (by omega)) ?_
      rw [sg_ix8 p i, sg_ix8 q i, nI_clamp (show 8 * p + i < 2 ^ 31 by omega), nI_clamp (show 8 * q + i < 2 ^ 31 by omega)]
      exact ⟨vp_in_nI (by omega) (by omega), vp_in_nI (by omega) (by omega), nm_e (nm_r (nI_1 i) (h3 post h))⟩
theorem xs_w124 {f w q : Nat} {v : Int32} (hf : f < 16) (hw : w < 8) (hq : q < 16) : ∃ rg tb : Nat → Int32, (∀ c, c < 3 → sg_F f w a_roomRoot a_rights a_table rg tb c) ∧ ∀ post : SX → Prop, post (f_paging, f_guard, f_root, f_logged, f_room, f_oldest, f_dirWord, f_tableFrame, f_tableWord, f_target, f_reached, f_faultAddress, f_faultCode, f_accesses, f_faults, f_pc, f_savedPc, f_cause, f_output, f_outputs, f_traps, f_user, f_savedUser, f_stopped, f_trapped, f_any, f_keptPaging, f_keptGuard, f_keptRoot, upd a_page (8 * q + w) v, a_users, a_held, a_away, a_roomRoot, a_leadsTo, rg, tb, a_register, upd a_ops (8 * f + w) 0, a_first, a_second, a_numbers, a_kept) → wX_write_124 post (nI f) (nI w) v (nI q) f_paging f_guard f_root f_logged f_room f_oldest f_dirWord f_tableFrame f_tableWord f_target f_reached f_faultAddress f_faultCode f_accesses f_faults f_pc f_savedPc f_cause f_output f_outputs f_traps f_user f_savedUser f_stopped f_trapped f_any f_keptPaging f_keptGuard f_keptRoot a_page a_users a_held a_away a_roomRoot a_leadsTo a_rights a_table a_register a_ops a_first a_second a_numbers a_kept := by
  obtain ⟨rg, tb, h1, h2⟩ := xs_w137 (f_paging := f_paging) (f_guard := f_guard) (f_root := f_root) (f_logged := f_logged) (f_room := f_room) (f_oldest := f_oldest) (f_dirWord := f_dirWord) (f_tableFrame := f_tableFrame) (f_tableWord := f_tableWord) (f_target := f_target) (f_reached := f_reached) (f_faultAddress := f_faultAddress) (f_faultCode := f_faultCode) (f_accesses := f_accesses) (f_faults := f_faults) (f_pc := f_pc) (f_savedPc := f_savedPc) (f_cause := f_cause) (f_output := f_output) (f_outputs := f_outputs) (f_traps := f_traps) (f_user := f_user) (f_savedUser := f_savedUser) (f_stopped := f_stopped) (f_trapped := f_trapped) (f_any := f_any) (f_keptPaging := f_keptPaging) (f_keptGuard := f_keptGuard) (f_keptRoot := f_keptRoot) (a_page := upd a_page (8 * q + w) v) (a_users := a_users) (a_held := a_held) (a_away := a_away) (a_roomRoot := a_roomRoot) (a_leadsTo := a_leadsTo) (a_rights := a_rights) (a_table := a_table) (a_register := a_register) (a_ops := a_ops) (a_first := a_first) (a_second := a_second) (a_numbers := a_numbers) (a_kept := a_kept) hf hw
  refine ⟨rg, tb, h1, fun post h => ?_⟩
  unfold wX_write_124
  rw [sg_ix8 q w, nI_clamp (show 8 * q + w < 2 ^ 31 by omega)]
  exact ⟨vp_in_nI (by omega) (by omega), nm_e (h2 post h)⟩
theorem xs_write {f w : Nat} {v : Int32} (hS : sg_S a_page a_users a_held a_away a_roomRoot a_leadsTo a_rights a_table a_ops a_first a_second a_numbers f_guard W G) (hf : f < 16) (hw : w < 8) :
    ∃ pg us he aw rg tb op : Nat → Int32, sg_S pg us he aw a_roomRoot a_leadsTo rg tb op a_first a_second a_numbers f_guard (upd W (8 * f + w) v) G ∧ ∀ post : SX → Prop, post (f_paging, f_guard, f_root, f_logged, f_room, f_oldest, f_dirWord, f_tableFrame, f_tableWord, f_target, f_reached, f_faultAddress, f_faultCode, f_accesses, f_faults, f_pc, f_savedPc, f_cause, f_output, f_outputs, f_traps, f_user, f_savedUser, f_stopped, f_trapped, f_any, f_keptPaging, f_keptGuard, f_keptRoot, pg, us, he, aw, a_roomRoot, a_leadsTo, rg, tb, a_register, op, a_first, a_second, a_numbers, a_kept) → wpX_write post (f_paging, f_guard, f_root, f_logged, f_room, f_oldest, f_dirWord, f_tableFrame, f_tableWord, f_target, f_reached, f_faultAddress, f_faultCode, f_accesses, f_faults, f_pc, f_savedPc, f_cause, f_output, f_outputs, f_traps, f_user, f_savedUser, f_stopped, f_trapped, f_any, f_keptPaging, f_keptGuard, f_keptRoot, a_page, a_users, a_held, a_away, a_roomRoot, a_leadsTo, a_rights, a_table, a_register, a_ops, a_first, a_second, a_numbers, a_kept) (nI f) (nI w) v := by
  obtain ⟨hM, hC, hO⟩ := hS
  rcases hM.1 f hf with ⟨e, eg⟩ | ⟨eg, p, hp, e⟩
  · obtain ⟨rg, tb, h1, h2⟩ := xs_w137 (f_paging := f_paging) (f_guard := f_guard) (f_root := f_root) (f_logged := f_logged) (f_room := f_room) (f_oldest := f_oldest) (f_dirWord := f_dirWord) (f_tableFrame := f_tableFrame) (f_tableWord := f_tableWord) (f_target := f_target) (f_reached := f_reached) (f_faultAddress := f_faultAddress) (f_faultCode := f_faultCode) (f_accesses := f_accesses) (f_faults := f_faults) (f_pc := f_pc) (f_savedPc := f_savedPc) (f_cause := f_cause) (f_output := f_output) (f_outputs := f_outputs) (f_traps := f_traps) (f_user := f_user) (f_savedUser := f_savedUser) (f_stopped := f_stopped) (f_trapped := f_trapped) (f_any := f_any) (f_keptPaging := f_keptPaging) (f_keptGuard := f_keptGuard) (f_keptRoot := f_keptRoot) (a_page := a_page) (a_users := a_users) (a_held := a_held) (a_away := upd a_away (8 * f + w) v) (a_roomRoot := a_roomRoot) (a_leadsTo := a_leadsTo) (a_rights := a_rights) (a_table := a_table) (a_register := a_register) (a_ops := a_ops) (a_first := a_first) (a_second := a_second) (a_numbers := a_numbers) (a_kept := a_kept) hf hw
    refine ⟨a_page, a_users, a_held, _, rg, tb, _, ⟨sg_M_seta hM hf hw e, sg_C_F hC hf hw h1, sg_O_upd hO⟩, fun post h => ?_⟩
    refine And.intro (vp_in_nI hf (by omega)) ?_
    rw [nI_clamp (show f < 2 ^ 31 by omega), e, sg_ix8 f w, nI_clamp (show 8 * f + w < 2 ^ 31 by omega)]
    exact br_f (by decide) ⟨vp_in_nI (by omega) (by omega), nm_e (h2 post h)⟩
  · by_cases h1 : sg_hc a_held (nI p) 16 ≤ 1
    · obtain ⟨rg, tb, k1, k2⟩ := xs_w124 (f_paging := f_paging) (f_guard := f_guard) (f_root := f_root) (f_logged := f_logged) (f_room := f_room) (f_oldest := f_oldest) (f_dirWord := f_dirWord) (f_tableFrame := f_tableFrame) (f_tableWord := f_tableWord) (f_target := f_target) (f_reached := f_reached) (f_faultAddress := f_faultAddress) (f_faultCode := f_faultCode) (f_accesses := f_accesses) (f_faults := f_faults) (f_pc := f_pc) (f_savedPc := f_savedPc) (f_cause := f_cause) (f_output := f_output) (f_outputs := f_outputs) (f_traps := f_traps) (f_user := f_user) (f_savedUser := f_savedUser) (f_stopped := f_stopped) (f_trapped := f_trapped) (f_any := f_any) (f_keptPaging := f_keptPaging) (f_keptGuard := f_keptGuard) (f_keptRoot := f_keptRoot) (a_page := a_page) (a_users := a_users) (a_held := a_held) (a_away := a_away) (a_roomRoot := a_roomRoot) (a_leadsTo := a_leadsTo) (a_rights := a_rights) (a_table := a_table) (a_register := a_register) (a_ops := a_ops) (a_first := a_first) (a_second := a_second) (a_numbers := a_numbers) (a_kept := a_kept) (v := v) hf hw hp
      refine ⟨_, a_users, a_held, a_away, rg, tb, _, ⟨sg_M_set hM hf hw hp e h1, sg_C_F hC hf hw k1, sg_O_upd hO⟩, fun post h => ?_⟩
      refine And.intro (vp_in_nI hf (by omega)) ?_
      rw [nI_clamp (show f < 2 ^ 31 by omega), e]
      refine br_t (nI_pos' (by omega)) ⟨vp_in_nI hf (by omega), nm_e ⟨vp_in_nI hp (by omega), ?_⟩⟩
      rw [nI_clamp (show p < 2 ^ 31 by omega), hM.2.1 p hp]
      exact br_t (nI_le (b := 1) h1 (by omega)) (k2 post h)
    · have hle := sg_hc_le a_held (nI p) 16
      obtain ⟨q, hq, hz, hfree⟩ := xs_free (f_paging := f_paging) (f_guard := f_guard) (f_root := f_root) (f_logged := f_logged) (f_room := f_room) (f_oldest := f_oldest) (f_dirWord := f_dirWord) (f_tableFrame := f_tableFrame) (f_tableWord := f_tableWord) (f_target := f_target) (f_reached := f_reached) (f_faultAddress := f_faultAddress) (f_faultCode := f_faultCode) (f_accesses := f_accesses) (f_faults := f_faults) (f_pc := f_pc) (f_savedPc := f_savedPc) (f_cause := f_cause) (f_output := f_output) (f_outputs := f_outputs) (f_traps := f_traps) (f_user := f_user) (f_savedUser := f_savedUser) (f_stopped := f_stopped) (f_trapped := f_trapped) (f_any := f_any) (f_keptPaging := f_keptPaging) (f_keptGuard := f_keptGuard) (f_keptRoot := f_keptRoot) (a_page := a_page) (a_users := a_users) (a_held := a_held) (a_away := a_away) (a_roomRoot := a_roomRoot) (a_leadsTo := a_leadsTo) (a_rights := a_rights) (a_table := a_table) (a_register := a_register) (a_ops := a_ops) (a_first := a_first) (a_second := a_second) (a_numbers := a_numbers) (a_kept := a_kept) (q := fun p => sg_hc a_held (nI p) 16) (fun p hp => ⟨hM.2.1 p hp, sg_hc_le _ _ _⟩) (sg_free2 hp (by omega))
      have hz' : sg_hc a_held (nI q) 16 = 0 := hz
      have hpq : p ≠ q := fun z => by rw [z] at h1; omega
      have uq : upd (upd a_users q 1) p (nI (sg_hc a_held (nI p) 16 - 1)) q = 1 := by rw [pk_un (fun z => hpq z.symm), pk_us]
      obtain ⟨pg, j1, j2, j3⟩ := xs_w81 (f_paging := f_paging) (f_guard := f_guard) (f_root := f_root) (f_logged := f_logged) (f_room := f_room) (f_oldest := f_oldest) (f_dirWord := f_dirWord) (f_tableFrame := f_tableFrame) (f_tableWord := f_tableWord) (f_target := f_target) (f_reached := f_reached) (f_faultAddress := f_faultAddress) (f_faultCode := f_faultCode) (f_accesses := f_accesses) (f_faults := f_faults) (f_pc := f_pc) (f_savedPc := f_savedPc) (f_cause := f_cause) (f_output := f_output) (f_outputs := f_outputs) (f_traps := f_traps) (f_user := f_user) (f_savedUser := f_savedUser) (f_stopped := f_stopped) (f_trapped := f_trapped) (f_any := f_any) (f_keptPaging := f_keptPaging) (f_keptGuard := f_keptGuard) (f_keptRoot := f_keptRoot) (a_users := upd (upd a_users q 1) p (nI (sg_hc a_held (nI p) 16 - 1))) (a_held := upd a_held f (nI q)) (a_away := a_away) (a_roomRoot := a_roomRoot) (a_leadsTo := a_leadsTo) (a_rights := a_rights) (a_table := a_table) (a_register := a_register) (a_ops := a_ops) (a_first := a_first) (a_second := a_second) (a_numbers := a_numbers) (a_kept := a_kept) (f := f) (w := w) (v := v) hp hq hpq 8 0 a_page (by omega)
      have hM' : sg_M pg (upd (upd a_users q 1) p (nI (sg_hc a_held (nI p) 16 - 1))) (upd a_held f (nI q)) a_away W G :=
        sg_M_split hM hf hp e hq hz' (fun w hw => j1 w (Nat.zero_le _) hw) (fun j hj => j2 j (by omega)) uq pk_us (fun x _ a b => by rw [pk_un b, pk_un a])
      have hone : sg_hc (upd a_held f (nI q)) (nI q) 16 ≤ 1 := by
        have a := hM'.2.1 q hq
        rw [uq] at a
        have := sg_hc_le (upd a_held f (nI q)) (nI q) 16
        have := sg_inj (a := 1) (b := sg_hc (upd a_held f (nI q)) (nI q) 16) (by omega) (by omega) a
        omega
      obtain ⟨rg, tb, k1, k2⟩ := xs_w124 (f_paging := f_paging) (f_guard := f_guard) (f_root := f_root) (f_logged := f_logged) (f_room := f_room) (f_oldest := f_oldest) (f_dirWord := f_dirWord) (f_tableFrame := f_tableFrame) (f_tableWord := f_tableWord) (f_target := f_target) (f_reached := f_reached) (f_faultAddress := f_faultAddress) (f_faultCode := f_faultCode) (f_accesses := f_accesses) (f_faults := f_faults) (f_pc := f_pc) (f_savedPc := f_savedPc) (f_cause := f_cause) (f_output := f_output) (f_outputs := f_outputs) (f_traps := f_traps) (f_user := f_user) (f_savedUser := f_savedUser) (f_stopped := f_stopped) (f_trapped := f_trapped) (f_any := f_any) (f_keptPaging := f_keptPaging) (f_keptGuard := f_keptGuard) (f_keptRoot := f_keptRoot) (a_page := pg) (a_users := upd (upd a_users q 1) p (nI (sg_hc a_held (nI p) 16 - 1))) (a_held := upd a_held f (nI q)) (a_away := a_away) (a_roomRoot := a_roomRoot) (a_leadsTo := a_leadsTo) (a_rights := a_rights) (a_table := a_table) (a_register := a_register) (a_ops := a_ops) (a_first := a_first) (a_second := a_second) (a_numbers := a_numbers) (a_kept := a_kept) (v := v) hf hw hq
      refine ⟨_, _, _, a_away, rg, tb, _, ⟨sg_M_set hM' hf hw hq pk_us hone, sg_C_F hC hf hw k1, sg_O_upd hO⟩, fun post h => ?_⟩
      refine And.intro (vp_in_nI hf (by omega)) ?_
      rw [nI_clamp (show f < 2 ^ 31 by omega), e]
      refine br_t (nI_pos' (by omega)) ⟨vp_in_nI hf (by omega), nm_e ⟨vp_in_nI hp (by omega), ?_⟩⟩
      rw [nI_clamp (show p < 2 ^ 31 by omega), hM.2.1 p hp]
      refine br_f (nI_ge (a := 1) (by omega) (by omega)) (hfree _ ?_)
      refine And.intro (vp_in_nI hq (by omega)) ?_
      rw [nI_clamp (show q < 2 ^ 31 by omega), sg_b1, sg_by q (by omega)]
      refine nm_e ⟨vp_in_nI hp (by omega), vp_in_nI hp (by omega), nm_r (e' := upd (upd a_users q 1) p (nI (sg_hc a_held (nI p) 16 - 1))) ?_ ⟨vp_in_nI hf (by omega), nm_e ⟨9, j3 post (k2 post h)⟩⟩⟩
      rw [pk_un hpq, hM.2.1 p hp, sg_dec (by omega) (by omega)]
theorem xs_note {f w : Nat} {v : Int32} (hS : sg_S a_page a_users a_held a_away a_roomRoot a_leadsTo a_rights a_table a_ops a_first a_second a_numbers f_guard W G) (hf : f < 16) (hw : w < 8) :
    ∃ pg us he aw rg tb op : Nat → Int32, sg_S pg us he aw a_roomRoot a_leadsTo rg tb op a_first a_second a_numbers f_guard (upd W (8 * f + w) v) G ∧ ∀ post : SX → Prop, post (f_paging, f_guard, f_root, f_logged ||| ((1 : Int32) <<< (nI f &&& 31)), f_room, f_oldest, f_dirWord, f_tableFrame, f_tableWord, f_target, f_reached, f_faultAddress, f_faultCode, f_accesses, f_faults, f_pc, f_savedPc, f_cause, f_output, f_outputs, f_traps, f_user, f_savedUser, f_stopped, f_trapped, f_any, f_keptPaging, f_keptGuard, f_keptRoot, pg, us, he, aw, a_roomRoot, a_leadsTo, rg, tb, a_register, op, a_first, a_second, a_numbers, a_kept) → wpX_note post (f_paging, f_guard, f_root, f_logged, f_room, f_oldest, f_dirWord, f_tableFrame, f_tableWord, f_target, f_reached, f_faultAddress, f_faultCode, f_accesses, f_faults, f_pc, f_savedPc, f_cause, f_output, f_outputs, f_traps, f_user, f_savedUser, f_stopped, f_trapped, f_any, f_keptPaging, f_keptGuard, f_keptRoot, a_page, a_users, a_held, a_away, a_roomRoot, a_leadsTo, a_rights, a_table, a_register, a_ops, a_first, a_second, a_numbers, a_kept) (nI f) (nI w) v := by
  obtain ⟨pg, us, he, aw, rg, tb, op, h1, h2⟩ := xs_write (f_paging := f_paging) (f_guard := f_guard) (f_root := f_root) (f_logged := f_logged) (f_room := f_room) (f_oldest := f_oldest) (f_dirWord := f_dirWord) (f_tableFrame := f_tableFrame) (f_tableWord := f_tableWord) (f_target := f_target) (f_reached := f_reached) (f_faultAddress := f_faultAddress) (f_faultCode := f_faultCode) (f_accesses := f_accesses) (f_faults := f_faults) (f_pc := f_pc) (f_savedPc := f_savedPc) (f_cause := f_cause) (f_output := f_output) (f_outputs := f_outputs) (f_traps := f_traps) (f_user := f_user) (f_savedUser := f_savedUser) (f_stopped := f_stopped) (f_trapped := f_trapped) (f_any := f_any) (f_keptPaging := f_keptPaging) (f_keptGuard := f_keptGuard) (f_keptRoot := f_keptRoot) (a_page := a_page) (a_users := a_users) (a_held := a_held) (a_away := a_away) (a_roomRoot := a_roomRoot) (a_leadsTo := a_leadsTo) (a_rights := a_rights) (a_table := a_table) (a_register := a_register) (a_ops := a_ops) (a_first := a_first) (a_second := a_second) (a_numbers := a_numbers) (a_kept := a_kept) (v := v) hS hf hw
  refine ⟨pg, us, he, aw, rg, tb, op, h1, fun post h => ?_⟩
  unfold wpX_note
  exact h2 _ (nm_e h)
theorem xs_touch {f w : Nat} {m : Int32} (hS : sg_S a_page a_users a_held a_away a_roomRoot a_leadsTo a_rights a_table a_ops a_first a_second a_numbers f_guard W G) (hf : f < 16) (hw : w < 8) :
    ∃ pg us he aw rg tb op : Nat → Int32, sg_S pg us he aw a_roomRoot a_leadsTo rg tb op a_first a_second a_numbers f_guard (sg_mW W (8 * f + w) m) G ∧ ∀ post : SX → Prop, post (f_paging, f_guard, f_root, sg_mL f_logged W (8 * f + w) m, f_room, f_oldest, f_dirWord, f_tableFrame, f_tableWord, f_target, f_reached, f_faultAddress, f_faultCode, f_accesses, f_faults, f_pc, f_savedPc, f_cause, f_output, f_outputs, f_traps, f_user, f_savedUser, f_stopped, f_trapped, f_any, f_keptPaging, f_keptGuard, f_keptRoot, pg, us, he, aw, a_roomRoot, a_leadsTo, rg, tb, a_register, op, a_first, a_second, a_numbers, a_kept) → wpX_touch post (f_paging, f_guard, f_root, f_logged, f_room, f_oldest, f_dirWord, f_tableFrame, f_tableWord, f_target, f_reached, f_faultAddress, f_faultCode, f_accesses, f_faults, f_pc, f_savedPc, f_cause, f_output, f_outputs, f_traps, f_user, f_savedUser, f_stopped, f_trapped, f_any, f_keptPaging, f_keptGuard, f_keptRoot, a_page, a_users, a_held, a_away, a_roomRoot, a_leadsTo, a_rights, a_table, a_register, a_ops, a_first, a_second, a_numbers, a_kept) (nI f) (nI w) m := by
  by_cases e : W (8 * f + w) &&& m = m
  · rw [sg_mW_t e, sg_mL_t e]
    refine ⟨a_page, a_users, a_held, a_away, a_rights, a_table, a_ops, hS, fun post h => ?_⟩
    unfold wpX_touch
    refine xs_word hS.1 hf hw ?_
    exact br_t e h
  · rw [sg_mW_f e, sg_mL_f e, show (8 * f + w) / 8 = f by omega]
    obtain ⟨pg, us, he, aw, rg, tb, op, h1, h2⟩ := xs_note (f_paging := f_paging) (f_guard := f_guard) (f_root := f_root) (f_logged := f_logged) (f_room := f_room) (f_oldest := f_oldest) (f_dirWord := f_dirWord) (f_tableFrame := f_tableFrame) (f_tableWord := f_tableWord) (f_target := f_target) (f_reached := f_reached) (f_faultAddress := f_faultAddress) (f_faultCode := f_faultCode) (f_accesses := f_accesses) (f_faults := f_faults) (f_pc := f_pc) (f_savedPc := f_savedPc) (f_cause := f_cause) (f_output := f_output) (f_outputs := f_outputs) (f_traps := f_traps) (f_user := f_user) (f_savedUser := f_savedUser) (f_stopped := f_stopped) (f_trapped := f_trapped) (f_any := f_any) (f_keptPaging := f_keptPaging) (f_keptGuard := f_keptGuard) (f_keptRoot := f_keptRoot) (a_page := a_page) (a_users := a_users) (a_held := a_held) (a_away := a_away) (a_roomRoot := a_roomRoot) (a_leadsTo := a_leadsTo) (a_rights := a_rights) (a_table := a_table) (a_register := a_register) (a_ops := a_ops) (a_first := a_first) (a_second := a_second) (a_numbers := a_numbers) (a_kept := a_kept) (v := W (8 * f + w) ||| m) hS hf hw
    refine ⟨pg, us, he, aw, rg, tb, op, h1, fun post h => ?_⟩
    unfold wpX_touch
    refine xs_word hS.1 hf hw ?_
    exact br_f e (h2 _ h)
end
end
section
/-! X: ways -/
theorem sg_sh6 {a : Nat} (h : a < 512) : nI a >>> ((6 : Int32) &&& 31) = nI (a / 64) := pk_shrN (by omega) _ 6 (by decide)
theorem sg_sh3 {a : Nat} (h : a < 512) : nI a >>> ((3 : Int32) &&& 31) = nI (a / 8) := pk_shrN (by omega) _ 3 (by decide)
theorem sg_an7 {a : Nat} (h : a < 512) : nI a &&& 7 = nI (a % 8) := pk_andN (by omega) 3 (by decide)
theorem sg_an1 {a : Nat} (h : a < 512) : nI a &&& 1 = nI (a % 2) := pk_andN (by omega) 1 (by decide)
theorem sg_sh37 {a : Nat} (h : a < 512) : (nI a >>> ((3 : Int32) &&& 31)) &&& 7 = nI (a / 8 % 8) := by rw [sg_sh3 h, sg_an7 (by omega)]
theorem sg_nAL {gd e wr us : Int32} (hw : ¬ wr = 0) (h2 : e &&& 2 = 0) (h : ¬ (us = 0 ∧ gd = 0)) : ¬ sg_AL gd e wr us := fun z => z.2.elim hw (fun y => y.elim (fun k => k h2) h)
theorem sg_nAL4 {gd e wr us : Int32} (hu : ¬ us = 0) (h4 : e &&& 4 = 0) : ¬ sg_AL gd e wr us := fun z => z.1.elim hu (fun k => k h4)
section
variable {f_paging f_guard f_root f_logged f_room f_oldest f_dirWord f_tableFrame f_tableWord f_target f_reached f_faultAddress f_faultCode f_accesses f_faults f_pc f_savedPc f_cause f_output f_outputs f_traps f_user f_savedUser f_stopped f_trapped f_any f_keptPaging f_keptGuard f_keptRoot : Int32} {a_page a_users a_held a_away a_roomRoot a_leadsTo a_rights a_table a_register a_ops a_first a_second a_numbers a_kept : Nat → Int32} {y_root y_keptRoot y_faultCode y_first y_second y_goal y_code y_behindTrap : Int32} {W G : Nat → Int32}
theorem xs_frameOf {post : Int32 → Prop} {e : Int32} (h : post (nI (sg_fr e))) : wpX_frameOf post e := by
  unfold wpX_frameOf
  rw [sg_fr_eq]; exact h
theorem xs_allowed16 {post : Int32 → Prop} {gv wr us : Int32} (hA : us = 0 ∨ ¬ gv &&& 4 = 0) (h1 : sg_AL f_guard gv wr us → post 1) (h0 : ¬ sg_AL f_guard gv wr us → post 0) : wX_allowed_16 post gv wr us f_paging f_guard f_root f_logged f_room f_oldest f_dirWord f_tableFrame f_tableWord f_target f_reached f_faultAddress f_faultCode f_accesses f_faults f_pc f_savedPc f_cause f_output f_outputs f_traps f_user f_savedUser f_stopped f_trapped f_any f_keptPaging f_keptGuard f_keptRoot a_page a_users a_held a_away a_roomRoot a_leadsTo a_rights a_table a_register a_ops a_first a_second a_numbers a_kept :=
  br_c (fun hw => h1 ⟨hA, Or.inl hw⟩) (fun hw => br_c (fun h2 => br_c (fun hu => br_c (fun hg => h1 ⟨hA, Or.inr (Or.inr ⟨hu, hg⟩)⟩) (fun hg => h0 (sg_nAL hw h2 (fun z => hg z.2)))) (fun hu => h0 (sg_nAL hw h2 (fun z => hu z.1)))) (fun h2 => h1 ⟨hA, Or.inr (Or.inl h2)⟩))
theorem xs_allowed {post : Int32 → Prop} {gv wr us : Int32} (hg : ¬ gv < 0) (h1 : sg_AL f_guard gv wr us → post 1) (h0 : ¬ sg_AL f_guard gv wr us → post 0) : wpX_allowed post (f_paging, f_guard, f_root, f_logged, f_room, f_oldest, f_dirWord, f_tableFrame, f_tableWord, f_target, f_reached, f_faultAddress, f_faultCode, f_accesses, f_faults, f_pc, f_savedPc, f_cause, f_output, f_outputs, f_traps, f_user, f_savedUser, f_stopped, f_trapped, f_any, f_keptPaging, f_keptGuard, f_keptRoot, a_page, a_users, a_held, a_away, a_roomRoot, a_leadsTo, a_rights, a_table, a_register, a_ops, a_first, a_second, a_numbers, a_kept) gv wr us := by
  unfold wpX_allowed
  exact br_f hg (br_c (fun hu => xs_allowed16 (Or.inl hu) h1 h0) (fun hu => br_c (fun h4 => h0 (sg_nAL4 hu h4)) (fun h4 => xs_allowed16 (Or.inr h4) h1 h0)))
theorem xs_allowedN {post : Int32 → Prop} {gv wr us : Int32} (hg : gv < 0) (h0 : post 0) : wpX_allowed post (f_paging, f_guard, f_root, f_logged, f_room, f_oldest, f_dirWord, f_tableFrame, f_tableWord, f_target, f_reached, f_faultAddress, f_faultCode, f_accesses, f_faults, f_pc, f_savedPc, f_cause, f_output, f_outputs, f_traps, f_user, f_savedUser, f_stopped, f_trapped, f_any, f_keptPaging, f_keptGuard, f_keptRoot, a_page, a_users, a_held, a_away, a_roomRoot, a_leadsTo, a_rights, a_table, a_register, a_ops, a_first, a_second, a_numbers, a_kept) gv wr us := by
  unfold wpX_allowed
  exact br_t hg h0
/-- the directory's entry is not there -/
theorem xs_wA {post : Int32 → SX → Prop} {r d : Nat} {x2 : Int32} (hM : sg_M a_page a_users a_held a_away W G) (hr : r < 16) (hd : d < 8) (h1 : W (8 * r + d) &&& 1 = 0) (h : post (-1) (f_paging, f_guard, nI r, f_logged, f_room, f_oldest, nI d, f_tableFrame, f_tableWord, f_target, f_reached, f_faultAddress, f_faultCode, f_accesses, f_faults, f_pc, f_savedPc, f_cause, f_output, f_outputs, f_traps, f_user, f_savedUser, f_stopped, f_trapped, f_any, f_keptPaging, f_keptGuard, f_keptRoot, a_page, a_users, a_held, a_away, a_roomRoot, a_leadsTo, a_rights, a_table, a_register, a_ops, a_first, a_second, a_numbers, a_kept)) : wX_walk_35 post x2 f_paging f_guard (nI r) f_logged f_room f_oldest (nI d) f_tableFrame f_tableWord f_target f_reached f_faultAddress f_faultCode f_accesses f_faults f_pc f_savedPc f_cause f_output f_outputs f_traps f_user f_savedUser f_stopped f_trapped f_any f_keptPaging f_keptGuard f_keptRoot a_page a_users a_held a_away a_roomRoot a_leadsTo a_rights a_table a_register a_ops a_first a_second a_numbers a_kept := by
  unfold wX_walk_35
  exact xs_word hM hr hd (br_t h1 h)
/-- a big page -/
theorem xs_wB {post : Int32 → SX → Prop} {r d t : Nat} {x2 : Int32} (hM : sg_M a_page a_users a_held a_away W G) (hr : r < 16) (hd : d < 8) (h1 : ¬ W (8 * r + d) &&& 1 = 0) (h2 : ¬ W (8 * r + d) &&& 32 = 0)
    (h : post (W (8 * r + d) &&& 6) (f_paging, f_guard, nI r, f_logged, f_room, f_oldest, nI d, f_tableFrame, nI t, nI (sg_bg (W (8 * r + d)) t), f_reached, f_faultAddress, f_faultCode, f_accesses, f_faults, f_pc, f_savedPc, f_cause, f_output, f_outputs, f_traps, f_user, f_savedUser, f_stopped, f_trapped, f_any, f_keptPaging, f_keptGuard, f_keptRoot, a_page, a_users, a_held, a_away, a_roomRoot, a_leadsTo, a_rights, a_table, a_register, a_ops, a_first, a_second, a_numbers, a_kept)) : wX_walk_35 post x2 f_paging f_guard (nI r) f_logged f_room f_oldest (nI d) f_tableFrame (nI t) f_target f_reached f_faultAddress f_faultCode f_accesses f_faults f_pc f_savedPc f_cause f_output f_outputs f_traps f_user f_savedUser f_stopped f_trapped f_any f_keptPaging f_keptGuard f_keptRoot a_page a_users a_held a_away a_roomRoot a_leadsTo a_rights a_table a_register a_ops a_first a_second a_numbers a_kept := by
  unfold wX_walk_35
  refine xs_word hM hr hd (br_f h1 (br_f h2 (xs_frameOf ?_)))
  have hl := sg_fr_lt (W (8 * r + d))
  refine pk_le (sg_fr (W (8 * r + d))) 7 (fun k => ?_) (fun k => ?_)
  · refine nm_r (e' := nI (sg_bg (W (8 * r + d)) t)) ?_ h
    unfold sg_bg
    rw [if_pos k]; exact nI_add 0 t
  · refine nm_r (e' := nI (sg_bg (W (8 * r + d)) t)) ?_ h
    unfold sg_bg
    rw [if_neg (by omega)]; exact nI_add 8 t
/-- a table, its frame not used -/
theorem xs_wT {post : Int32 → SX → Prop} {r d : Nat} (hM : sg_M a_page a_users a_held a_away W G) (hr : r < 16) (hd : d < 8) (h1 : ¬ W (8 * r + d) &&& 1 = 0) (h2 : W (8 * r + d) &&& 32 = 0)
    (h : wX_walk_112 post (W (8 * r + d)) f_paging f_guard (nI r) f_logged f_room f_oldest (nI d) (nI (sg_fr (W (8 * r + d)))) f_tableWord f_target f_reached f_faultAddress f_faultCode f_accesses f_faults f_pc f_savedPc f_cause f_output f_outputs f_traps f_user f_savedUser f_stopped f_trapped f_any f_keptPaging f_keptGuard f_keptRoot a_page a_users a_held a_away a_roomRoot a_leadsTo a_rights a_table a_register a_ops a_first a_second a_numbers a_kept) : wX_walk_35 post 0 f_paging f_guard (nI r) f_logged f_room f_oldest (nI d) f_tableFrame f_tableWord f_target f_reached f_faultAddress f_faultCode f_accesses f_faults f_pc f_savedPc f_cause f_output f_outputs f_traps f_user f_savedUser f_stopped f_trapped f_any f_keptPaging f_keptGuard f_keptRoot a_page a_users a_held a_away a_roomRoot a_leadsTo a_rights a_table a_register a_ops a_first a_second a_numbers a_kept := by
  unfold wX_walk_35
  refine xs_word hM hr hd (br_f h1 (br_t h2 (xs_frameOf ?_)))
  exact br_t rfl h
/-- a table, its frame used -/
theorem xs_wU {post : Int32 → SX → Prop} {r d : Nat} {pg us he : Nat → Int32} (hM : sg_M a_page a_users a_held a_away W G) (hr : r < 16) (hd : d < 8) (h1 : ¬ W (8 * r + d) &&& 1 = 0) (h2 : W (8 * r + d) &&& 32 = 0)
    (hu : ∀ post : SX → Prop, post (f_paging, f_guard, nI r, f_logged, f_room, f_oldest, nI d, nI (sg_fr (W (8 * r + d))), f_tableWord, f_target, f_reached, f_faultAddress, f_faultCode, f_accesses, f_faults, f_pc, f_savedPc, f_cause, f_output, f_outputs, f_traps, f_user, f_savedUser, f_stopped, f_trapped, f_any, f_keptPaging, f_keptGuard, f_keptRoot, pg, us, he, a_away, a_roomRoot, a_leadsTo, a_rights, a_table, a_register, a_ops, a_first, a_second, a_numbers, a_kept) → wpX_use post (f_paging, f_guard, nI r, f_logged, f_room, f_oldest, nI d, nI (sg_fr (W (8 * r + d))), f_tableWord, f_target, f_reached, f_faultAddress, f_faultCode, f_accesses, f_faults, f_pc, f_savedPc, f_cause, f_output, f_outputs, f_traps, f_user, f_savedUser, f_stopped, f_trapped, f_any, f_keptPaging, f_keptGuard, f_keptRoot, a_page, a_users, a_held, a_away, a_roomRoot, a_leadsTo, a_rights, a_table, a_register, a_ops, a_first, a_second, a_numbers, a_kept) (nI (sg_fr (W (8 * r + d)))))
    (h : wX_walk_112 post (W (8 * r + d)) f_paging f_guard (nI r) f_logged f_room f_oldest (nI d) (nI (sg_fr (W (8 * r + d)))) f_tableWord f_target f_reached f_faultAddress f_faultCode f_accesses f_faults f_pc f_savedPc f_cause f_output f_outputs f_traps f_user f_savedUser f_stopped f_trapped f_any f_keptPaging f_keptGuard f_keptRoot pg us he a_away a_roomRoot a_leadsTo a_rights a_table a_register a_ops a_first a_second a_numbers a_kept) : wX_walk_35 post 1 f_paging f_guard (nI r) f_logged f_room f_oldest (nI d) f_tableFrame f_tableWord f_target f_reached f_faultAddress f_faultCode f_accesses f_faults f_pc f_savedPc f_cause f_output f_outputs f_traps f_user f_savedUser f_stopped f_trapped f_any f_keptPaging f_keptGuard f_keptRoot a_page a_users a_held a_away a_roomRoot a_leadsTo a_rights a_table a_register a_ops a_first a_second a_numbers a_kept := by
  unfold wX_walk_35
  refine xs_word hM hr hd (br_f h1 (br_t h2 (xs_frameOf ?_)))
  exact br_f (by decide) (hu _ h)
theorem xs_w112N {post : Int32 → SX → Prop} {F t : Nat} {x3 : Int32} (hM : sg_M a_page a_users a_held a_away W G) (hF : F < 16) (ht : t < 8) (h1 : W (8 * F + t) &&& 1 = 0)
    (h : post (-1) (f_paging, f_guard, f_root, f_logged, f_room, f_oldest, f_dirWord, nI F, nI t, f_target, f_reached, f_faultAddress, f_faultCode, f_accesses, f_faults, f_pc, f_savedPc, f_cause, f_output, f_outputs, f_traps, f_user, f_savedUser, f_stopped, f_trapped, f_any, f_keptPaging, f_keptGuard, f_keptRoot, a_page, a_users, a_held, a_away, a_roomRoot, a_leadsTo, a_rights, a_table, a_register, a_ops, a_first, a_second, a_numbers, a_kept)) : wX_walk_112 post x3 f_paging f_guard f_root f_logged f_room f_oldest f_dirWord (nI F) (nI t) f_target f_reached f_faultAddress f_faultCode f_accesses f_faults f_pc f_savedPc f_cause f_output f_outputs f_traps f_user f_savedUser f_stopped f_trapped f_any f_keptPaging f_keptGuard f_keptRoot a_page a_users a_held a_away a_roomRoot a_leadsTo a_rights a_table a_register a_ops a_first a_second a_numbers a_kept := by
  unfold wX_walk_112
  exact xs_word hM hF ht (br_t h1 h)
theorem xs_w112 {post : Int32 → SX → Prop} {F t : Nat} {x3 : Int32} (hM : sg_M a_page a_users a_held a_away W G) (hF : F < 16) (ht : t < 8) (h1 : ¬ W (8 * F + t) &&& 1 = 0)
    (h : post ((x3 &&& W (8 * F + t)) &&& 6) (f_paging, f_guard, f_root, f_logged, f_room, f_oldest, f_dirWord, nI F, nI t, nI (sg_fr (W (8 * F + t))), f_reached, f_faultAddress, f_faultCode, f_accesses, f_faults, f_pc, f_savedPc, f_cause, f_output, f_outputs, f_traps, f_user, f_savedUser, f_stopped, f_trapped, f_any, f_keptPaging, f_keptGuard, f_keptRoot, a_page, a_users, a_held, a_away, a_roomRoot, a_leadsTo, a_rights, a_table, a_register, a_ops, a_first, a_second, a_numbers, a_kept)) : wX_walk_112 post x3 f_paging f_guard f_root f_logged f_room f_oldest f_dirWord (nI F) (nI t) f_target f_reached f_faultAddress f_faultCode f_accesses f_faults f_pc f_savedPc f_cause f_output f_outputs f_traps f_user f_savedUser f_stopped f_trapped f_any f_keptPaging f_keptGuard f_keptRoot a_page a_users a_held a_away a_roomRoot a_leadsTo a_rights a_table a_register a_ops a_first a_second a_numbers a_kept := by
  unfold wX_walk_112
  refine xs_word hM hF ht (br_f h1 (xs_frameOf ?_))
  exact h
theorem xs_walk_0 {post : Int32 → SX → Prop} {a : Nat} (ha : a < 512) (h : wX_walk_35 post 0 f_paging f_guard f_root f_logged f_room f_oldest (nI (a / 64)) (-1) (nI (a / 8 % 8)) f_target f_reached f_faultAddress f_faultCode f_accesses f_faults f_pc f_savedPc f_cause f_output f_outputs f_traps f_user f_savedUser f_stopped f_trapped f_any f_keptPaging f_keptGuard f_keptRoot a_page a_users a_held a_away a_roomRoot a_leadsTo a_rights a_table a_register a_ops a_first a_second a_numbers a_kept) : wpX_walk post (f_paging, f_guard, f_root, f_logged, f_room, f_oldest, f_dirWord, f_tableFrame, f_tableWord, f_target, f_reached, f_faultAddress, f_faultCode, f_accesses, f_faults, f_pc, f_savedPc, f_cause, f_output, f_outputs, f_traps, f_user, f_savedUser, f_stopped, f_trapped, f_any, f_keptPaging, f_keptGuard, f_keptRoot, a_page, a_users, a_held, a_away, a_roomRoot, a_leadsTo, a_rights, a_table, a_register, a_ops, a_first, a_second, a_numbers, a_kept) (nI a) 0 := by
  unfold wpX_walk
  exact nm_r (sg_sh6 ha) (nm_r (sg_sh37 ha) (br_t rfl h))
theorem xs_walk_1 {post : Int32 → SX → Prop} {a : Nat} {pg us he : Nat → Int32} (ha : a < 512)
    (hu : ∀ post : SX → Prop, post (f_paging, f_guard, f_root, f_logged, f_room, f_oldest, nI (a / 64), (-1), nI (a / 8 % 8), f_target, f_reached, f_faultAddress, f_faultCode, f_accesses, f_faults, f_pc, f_savedPc, f_cause, f_output, f_outputs, f_traps, f_user, f_savedUser, f_stopped, f_trapped, f_any, f_keptPaging, f_keptGuard, f_keptRoot, pg, us, he, a_away, a_roomRoot, a_leadsTo, a_rights, a_table, a_register, a_ops, a_first, a_second, a_numbers, a_kept) → wpX_use post (f_paging, f_guard, f_root, f_logged, f_room, f_oldest, nI (a / 64), (-1), nI (a / 8 % 8), f_target, f_reached, f_faultAddress, f_faultCode, f_accesses, f_faults, f_pc, f_savedPc, f_cause, f_output, f_outputs, f_traps, f_user, f_savedUser, f_stopped, f_trapped, f_any, f_keptPaging, f_keptGuard, f_keptRoot, a_page, a_users, a_held, a_away, a_roomRoot, a_leadsTo, a_rights, a_table, a_register, a_ops, a_first, a_second, a_numbers, a_kept) f_root)
    (h : wX_walk_35 post 1 f_paging f_guard f_root f_logged f_room f_oldest (nI (a / 64)) (-1) (nI (a / 8 % 8)) f_target f_reached f_faultAddress f_faultCode f_accesses f_faults f_pc f_savedPc f_cause f_output f_outputs f_traps f_user f_savedUser f_stopped f_trapped f_any f_keptPaging f_keptGuard f_keptRoot pg us he a_away a_roomRoot a_leadsTo a_rights a_table a_register a_ops a_first a_second a_numbers a_kept) : wpX_walk post (f_paging, f_guard, f_root, f_logged, f_room, f_oldest, f_dirWord, f_tableFrame, f_tableWord, f_target, f_reached, f_faultAddress, f_faultCode, f_accesses, f_faults, f_pc, f_savedPc, f_cause, f_output, f_outputs, f_traps, f_user, f_savedUser, f_stopped, f_trapped, f_any, f_keptPaging, f_keptGuard, f_keptRoot, a_page, a_users, a_held, a_away, a_roomRoot, a_leadsTo, a_rights, a_table, a_register, a_ops, a_first, a_second, a_numbers, a_kept) (nI a) 1 := by
  unfold wpX_walk
  exact nm_r (sg_sh6 ha) (nm_r (sg_sh37 ha) (br_f (by decide) (hu _ h)))
/-! the whole way with its frames used -/
theorem xs_walkA {a r : Nat} (hM : sg_M a_page a_users a_held a_away W G) (ha : a < 512) (hr : r < 16) (h1 : W (8 * r + a / 64) &&& 1 = 0) :
    ∃ pg us he : Nat → Int32, sg_M pg us he a_away W (upd G r 0) ∧ ∀ post : Int32 → SX → Prop, post (-1) (f_paging, f_guard, nI r, f_logged, f_room, f_oldest, nI (a / 64), (-1), nI (a / 8 % 8), f_target, f_reached, f_faultAddress, f_faultCode, f_accesses, f_faults, f_pc, f_savedPc, f_cause, f_output, f_outputs, f_traps, f_user, f_savedUser, f_stopped, f_trapped, f_any, f_keptPaging, f_keptGuard, f_keptRoot, pg, us, he, a_away, a_roomRoot, a_leadsTo, a_rights, a_table, a_register, a_ops, a_first, a_second, a_numbers, a_kept) → wpX_walk post (f_paging, f_guard, nI r, f_logged, f_room, f_oldest, f_dirWord, f_tableFrame, f_tableWord, f_target, f_reached, f_faultAddress, f_faultCode, f_accesses, f_faults, f_pc, f_savedPc, f_cause, f_output, f_outputs, f_traps, f_user, f_savedUser, f_stopped, f_trapped, f_any, f_keptPaging, f_keptGuard, f_keptRoot, a_page, a_users, a_held, a_away, a_roomRoot, a_leadsTo, a_rights, a_table, a_register, a_ops, a_first, a_second, a_numbers, a_kept) (nI a) 1 := by
  obtain ⟨pg, us, he, k1, k2⟩ := xs_use (f_paging := f_paging) (f_guard := f_guard) (f_root := nI r) (f_logged := f_logged) (f_room := f_room) (f_oldest := f_oldest) (f_dirWord := nI (a / 64)) (f_tableFrame := (-1)) (f_tableWord := nI (a / 8 % 8)) (f_target := f_target) (f_reached := f_reached) (f_faultAddress := f_faultAddress) (f_faultCode := f_faultCode) (f_accesses := f_accesses) (f_faults := f_faults) (f_pc := f_pc) (f_savedPc := f_savedPc) (f_cause := f_cause) (f_output := f_output) (f_outputs := f_outputs) (f_traps := f_traps) (f_user := f_user) (f_savedUser := f_savedUser) (f_stopped := f_stopped) (f_trapped := f_trapped) (f_any := f_any) (f_keptPaging := f_keptPaging) (f_keptGuard := f_keptGuard) (f_keptRoot := f_keptRoot) (a_page := a_page) (a_users := a_users) (a_held := a_held) (a_away := a_away) (a_roomRoot := a_roomRoot) (a_leadsTo := a_leadsTo) (a_rights := a_rights) (a_table := a_table) (a_register := a_register) (a_ops := a_ops) (a_first := a_first) (a_second := a_second) (a_numbers := a_numbers) (a_kept := a_kept) hM hr
  exact ⟨pg, us, he, k1, fun post h => xs_walk_1 ha k2 (xs_wA k1 hr (by omega) h1 h)⟩
theorem xs_walkB {a r : Nat} (hM : sg_M a_page a_users a_held a_away W G) (ha : a < 512) (hr : r < 16) (h1 : ¬ W (8 * r + a / 64) &&& 1 = 0) (h2 : ¬ W (8 * r + a / 64) &&& 32 = 0) :
    ∃ pg us he : Nat → Int32, sg_M pg us he a_away W (upd G r 0) ∧ ∀ post : Int32 → SX → Prop, post (W (8 * r + a / 64) &&& 6) (f_paging, f_guard, nI r, f_logged, f_room, f_oldest, nI (a / 64), (-1), nI (a / 8 % 8), nI (sg_bg (W (8 * r + a / 64)) (a / 8 % 8)), f_reached, f_faultAddress, f_faultCode, f_accesses, f_faults, f_pc, f_savedPc, f_cause, f_output, f_outputs, f_traps, f_user, f_savedUser, f_stopped, f_trapped, f_any, f_keptPaging, f_keptGuard, f_keptRoot, pg, us, he, a_away, a_roomRoot, a_leadsTo, a_rights, a_table, a_register, a_ops, a_first, a_second, a_numbers, a_kept) → wpX_walk post (f_paging, f_guard, nI r, f_logged, f_room, f_oldest, f_dirWord, f_tableFrame, f_tableWord, f_target, f_reached, f_faultAddress, f_faultCode, f_accesses, f_faults, f_pc, f_savedPc, f_cause, f_output, f_outputs, f_traps, f_user, f_savedUser, f_stopped, f_trapped, f_any, f_keptPaging, f_keptGuard, f_keptRoot, a_page, a_users, a_held, a_away, a_roomRoot, a_leadsTo, a_rights, a_table, a_register, a_ops, a_first, a_second, a_numbers, a_kept) (nI a) 1 := by
  obtain ⟨pg, us, he, k1, k2⟩ := xs_use (f_paging := f_paging) (f_guard := f_guard) (f_root := nI r) (f_logged := f_logged) (f_room := f_room) (f_oldest := f_oldest) (f_dirWord := nI (a / 64)) (f_tableFrame := (-1)) (f_tableWord := nI (a / 8 % 8)) (f_target := f_target) (f_reached := f_reached) (f_faultAddress := f_faultAddress) (f_faultCode := f_faultCode) (f_accesses := f_accesses) (f_faults := f_faults) (f_pc := f_pc) (f_savedPc := f_savedPc) (f_cause := f_cause) (f_output := f_output) (f_outputs := f_outputs) (f_traps := f_traps) (f_user := f_user) (f_savedUser := f_savedUser) (f_stopped := f_stopped) (f_trapped := f_trapped) (f_any := f_any) (f_keptPaging := f_keptPaging) (f_keptGuard := f_keptGuard) (f_keptRoot := f_keptRoot) (a_page := a_page) (a_users := a_users) (a_held := a_held) (a_away := a_away) (a_roomRoot := a_roomRoot) (a_leadsTo := a_leadsTo) (a_rights := a_rights) (a_table := a_table) (a_register := a_register) (a_ops := a_ops) (a_first := a_first) (a_second := a_second) (a_numbers := a_numbers) (a_kept := a_kept) hM hr
  exact ⟨pg, us, he, k1, fun post h => xs_walk_1 ha k2 (xs_wB k1 hr (by omega) h1 h2 h)⟩
theorem xs_walkC {a r : Nat} (hM : sg_M a_page a_users a_held a_away W G) (ha : a < 512) (hr : r < 16) (h1 : ¬ W (8 * r + a / 64) &&& 1 = 0) (h2 : W (8 * r + a / 64) &&& 32 = 0) (h3 : W (8 * sg_fr (W (8 * r + a / 64)) + a / 8 % 8) &&& 1 = 0) :
    ∃ pg us he : Nat → Int32, sg_M pg us he a_away W (upd (upd G r 0) (sg_fr (W (8 * r + a / 64))) 0) ∧ ∀ post : Int32 → SX → Prop, post (-1) (f_paging, f_guard, nI r, f_logged, f_room, f_oldest, nI (a / 64), nI (sg_fr (W (8 * r + a / 64))), nI (a / 8 % 8), f_target, f_reached, f_faultAddress, f_faultCode, f_accesses, f_faults, f_pc, f_savedPc, f_cause, f_output, f_outputs, f_traps, f_user, f_savedUser, f_stopped, f_trapped, f_any, f_keptPaging, f_keptGuard, f_keptRoot, pg, us, he, a_away, a_roomRoot, a_leadsTo, a_rights, a_table, a_register, a_ops, a_first, a_second, a_numbers, a_kept) → wpX_walk post (f_paging, f_guard, nI r, f_logged, f_room, f_oldest, f_dirWord, f_tableFrame, f_tableWord, f_target, f_reached, f_faultAddress, f_faultCode, f_accesses, f_faults, f_pc, f_savedPc, f_cause, f_output, f_outputs, f_traps, f_user, f_savedUser, f_stopped, f_trapped, f_any, f_keptPaging, f_keptGuard, f_keptRoot, a_page, a_users, a_held, a_away, a_roomRoot, a_leadsTo, a_rights, a_table, a_register, a_ops, a_first, a_second, a_numbers, a_kept) (nI a) 1 := by
  obtain ⟨pg, us, he, k1, k2⟩ := xs_use (f_paging := f_paging) (f_guard := f_guard) (f_root := nI r) (f_logged := f_logged) (f_room := f_room) (f_oldest := f_oldest) (f_dirWord := nI (a / 64)) (f_tableFrame := (-1)) (f_tableWord := nI (a / 8 % 8)) (f_target := f_target) (f_reached := f_reached) (f_faultAddress := f_faultAddress) (f_faultCode := f_faultCode) (f_accesses := f_accesses) (f_faults := f_faults) (f_pc := f_pc) (f_savedPc := f_savedPc) (f_cause := f_cause) (f_output := f_output) (f_outputs := f_outputs) (f_traps := f_traps) (f_user := f_user) (f_savedUser := f_savedUser) (f_stopped := f_stopped) (f_trapped := f_trapped) (f_any := f_any) (f_keptPaging := f_keptPaging) (f_keptGuard := f_keptGuard) (f_keptRoot := f_keptRoot) (a_page := a_page) (a_users := a_users) (a_held := a_held) (a_away := a_away) (a_roomRoot := a_roomRoot) (a_leadsTo := a_leadsTo) (a_rights := a_rights) (a_table := a_table) (a_register := a_register) (a_ops := a_ops) (a_first := a_first) (a_second := a_second) (a_numbers := a_numbers) (a_kept := a_kept) hM hr
  obtain ⟨pg', us', he', k3, k4⟩ := xs_use (f_paging := f_paging) (f_guard := f_guard) (f_root := nI r) (f_logged := f_logged) (f_room := f_room) (f_oldest := f_oldest) (f_dirWord := nI (a / 64)) (f_tableFrame := nI (sg_fr (W (8 * r + a / 64)))) (f_tableWord := nI (a / 8 % 8)) (f_target := f_target) (f_reached := f_reached) (f_faultAddress := f_faultAddress) (f_faultCode := f_faultCode) (f_accesses := f_accesses) (f_faults := f_faults) (f_pc := f_pc) (f_savedPc := f_savedPc) (f_cause := f_cause) (f_output := f_output) (f_outputs := f_outputs) (f_traps := f_traps) (f_user := f_user) (f_savedUser := f_savedUser) (f_stopped := f_stopped) (f_trapped := f_trapped) (f_any := f_any) (f_keptPaging := f_keptPaging) (f_keptGuard := f_keptGuard) (f_keptRoot := f_keptRoot) (a_page := pg) (a_users := us) (a_held := he) (a_away := a_away) (a_roomRoot := a_roomRoot) (a_leadsTo := a_leadsTo) (a_rights := a_rights) (a_table := a_table) (a_register := a_register) (a_ops := a_ops) (a_first := a_first) (a_second := a_second) (a_numbers := a_numbers) (a_kept := a_kept) k1 (sg_fr_lt (W (8 * r + a / 64)))
  exact ⟨pg', us', he', k3, fun post h => xs_walk_1 ha k2 (xs_wU k1 hr (by omega) h1 h2 k4 (xs_w112N k3 (sg_fr_lt _) (by omega) h3 h))⟩
theorem xs_walkD {a r : Nat} (hM : sg_M a_page a_users a_held a_away W G) (ha : a < 512) (hr : r < 16) (h1 : ¬ W (8 * r + a / 64) &&& 1 = 0) (h2 : W (8 * r + a / 64) &&& 32 = 0) (h3 : ¬ W (8 * sg_fr (W (8 * r + a / 64)) + a / 8 % 8) &&& 1 = 0) :
    ∃ pg us he : Nat → Int32, sg_M pg us he a_away W (upd (upd G r 0) (sg_fr (W (8 * r + a / 64))) 0) ∧ ∀ post : Int32 → SX → Prop, post ((W (8 * r + a / 64) &&& W (8 * sg_fr (W (8 * r + a / 64)) + a / 8 % 8)) &&& 6) (f_paging, f_guard, nI r, f_logged, f_room, f_oldest, nI (a / 64), nI (sg_fr (W (8 * r + a / 64))), nI (a / 8 % 8), nI (sg_fr (W (8 * sg_fr (W (8 * r + a / 64)) + a / 8 % 8))), f_reached, f_faultAddress, f_faultCode, f_accesses, f_faults, f_pc, f_savedPc, f_cause, f_output, f_outputs, f_traps, f_user, f_savedUser, f_stopped, f_trapped, f_any, f_keptPaging, f_keptGuard, f_keptRoot, pg, us, he, a_away, a_roomRoot, a_leadsTo, a_rights, a_table, a_register, a_ops, a_first, a_second, a_numbers, a_kept) → wpX_walk post (f_paging, f_guard, nI r, f_logged, f_room, f_oldest, f_dirWord, f_tableFrame, f_tableWord, f_target, f_reached, f_faultAddress, f_faultCode, f_accesses, f_faults, f_pc, f_savedPc, f_cause, f_output, f_outputs, f_traps, f_user, f_savedUser, f_stopped, f_trapped, f_any, f_keptPaging, f_keptGuard, f_keptRoot, a_page, a_users, a_held, a_away, a_roomRoot, a_leadsTo, a_rights, a_table, a_register, a_ops, a_first, a_second, a_numbers, a_kept) (nI a) 1 := by
  obtain ⟨pg, us, he, k1, k2⟩ := xs_use (f_paging := f_paging) (f_guard := f_guard) (f_root := nI r) (f_logged := f_logged) (f_room := f_room) (f_oldest := f_oldest) (f_dirWord := nI (a / 64)) (f_tableFrame := (-1)) (f_tableWord := nI (a / 8 % 8)) (f_target := f_target) (f_reached := f_reached) (f_faultAddress := f_faultAddress) (f_faultCode := f_faultCode) (f_accesses := f_accesses) (f_faults := f_faults) (f_pc := f_pc) (f_savedPc := f_savedPc) (f_cause := f_cause) (f_output := f_output) (f_outputs := f_outputs) (f_traps := f_traps) (f_user := f_user) (f_savedUser := f_savedUser) (f_stopped := f_stopped) (f_trapped := f_trapped) (f_any := f_any) (f_keptPaging := f_keptPaging) (f_keptGuard := f_keptGuard) (f_keptRoot := f_keptRoot) (a_page := a_page) (a_users := a_users) (a_held := a_held) (a_away := a_away) (a_roomRoot := a_roomRoot) (a_leadsTo := a_leadsTo) (a_rights := a_rights) (a_table := a_table) (a_register := a_register) (a_ops := a_ops) (a_first := a_first) (a_second := a_second) (a_numbers := a_numbers) (a_kept := a_kept) hM hr
  obtain ⟨pg', us', he', k3, k4⟩ := xs_use (f_paging := f_paging) (f_guard := f_guard) (f_root := nI r) (f_logged := f_logged) (f_room := f_room) (f_oldest := f_oldest) (f_dirWord := nI (a / 64)) (f_tableFrame := nI (sg_fr (W (8 * r + a / 64)))) (f_tableWord := nI (a / 8 % 8)) (f_target := f_target) (f_reached := f_reached) (f_faultAddress := f_faultAddress) (f_faultCode := f_faultCode) (f_accesses := f_accesses) (f_faults := f_faults) (f_pc := f_pc) (f_savedPc := f_savedPc) (f_cause := f_cause) (f_output := f_output) (f_outputs := f_outputs) (f_traps := f_traps) (f_user := f_user) (f_savedUser := f_savedUser) (f_stopped := f_stopped) (f_trapped := f_trapped) (f_any := f_any) (f_keptPaging := f_keptPaging) (f_keptGuard := f_keptGuard) (f_keptRoot := f_keptRoot) (a_page := pg) (a_users := us) (a_held := he) (a_away := a_away) (a_roomRoot := a_roomRoot) (a_leadsTo := a_leadsTo) (a_rights := a_rights) (a_table := a_table) (a_register := a_register) (a_ops := a_ops) (a_first := a_first) (a_second := a_second) (a_numbers := a_numbers) (a_kept := a_kept) k1 (sg_fr_lt (W (8 * r + a / 64)))
  exact ⟨pg', us', he', k3, fun post h => xs_walk_1 ha k2 (xs_wU k1 hr (by omega) h1 h2 k4 (xs_w112 k3 (sg_fr_lt _) (by omega) h3 h))⟩
end
end
section
/-! X: marks, and what is remembered -/
def sg_lm (wr : Int32) : Int32 := if wr = 0 then 8 else 24
theorem sg_lm_or (wr : Int32) : sg_lm wr = 8 ∨ sg_lm wr = 24 := by unfold sg_lm; split <;> simp
theorem sg_o0 : (8 : Int32) ||| 0 = 8 := by decide
theorem sg_o16 : (8 : Int32) ||| 16 = 24 := by decide
theorem sg_16 {x : Int32} (h : ¬ x &&& 16 = 0) : x &&& 16 = 16 := by
  rw [sg_a16] at h
  rw [sg_e16]
  cases e : bt x 4 with
  | false => exact absurd e h
  | true => rfl
section
variable {f_paging f_guard f_root f_logged f_room f_oldest f_dirWord f_tableFrame f_tableWord f_target f_reached f_faultAddress f_faultCode f_accesses f_faults f_pc f_savedPc f_cause f_output f_outputs f_traps f_user f_savedUser f_stopped f_trapped f_any f_keptPaging f_keptGuard f_keptRoot : Int32} {a_page a_users a_held a_away a_roomRoot a_leadsTo a_rights a_table a_register a_ops a_first a_second a_numbers a_kept : Nat → Int32} {y_root y_keptRoot y_faultCode y_first y_second y_goal y_code y_behindTrap : Int32} {W G : Nat → Int32}
theorem xs_markB {r d : Nat} {wr : Int32} (hS : sg_S a_page a_users a_held a_away a_roomRoot a_leadsTo a_rights a_table a_ops a_first a_second a_numbers f_guard W G) (hr : r < 16) (hd : d < 8) :
    ∃ pg us he aw rg tb op : Nat → Int32, sg_S pg us he aw a_roomRoot a_leadsTo rg tb op a_first a_second a_numbers f_guard (sg_mW W (8 * r + d) (sg_lm wr)) G ∧ ∀ post : SX → Prop, post (f_paging, f_guard, nI r, sg_mL f_logged W (8 * r + d) (sg_lm wr), f_room, f_oldest, nI d, (-1), f_tableWord, f_target, f_reached, f_faultAddress, f_faultCode, f_accesses, f_faults, f_pc, f_savedPc, f_cause, f_output, f_outputs, f_traps, f_user, f_savedUser, f_stopped, f_trapped, f_any, f_keptPaging, f_keptGuard, f_keptRoot, pg, us, he, aw, a_roomRoot, a_leadsTo, rg, tb, a_register, op, a_first, a_second, a_numbers, a_kept) → wpX_mark post (f_paging, f_guard, nI r, f_logged, f_room, f_oldest, nI d, (-1), f_tableWord, f_target, f_reached, f_faultAddress, f_faultCode, f_accesses, f_faults, f_pc, f_savedPc, f_cause, f_output, f_outputs, f_traps, f_user, f_savedUser, f_stopped, f_trapped, f_any, f_keptPaging, f_keptGuard, f_keptRoot, a_page, a_users, a_held, a_away, a_roomRoot, a_leadsTo, a_rights, a_table, a_register, a_ops, a_first, a_second, a_numbers, a_kept) wr := by
  obtain ⟨pg, us, he, aw, rg, tb, op, k1, k2⟩ := xs_touch (f_paging := f_paging) (f_guard := f_guard) (f_root := nI r) (f_logged := f_logged) (f_room := f_room) (f_oldest := f_oldest) (f_dirWord := nI d) (f_tableFrame := (-1)) (f_tableWord := f_tableWord) (f_target := f_target) (f_reached := f_reached) (f_faultAddress := f_faultAddress) (f_faultCode := f_faultCode) (f_accesses := f_accesses) (f_faults := f_faults) (f_pc := f_pc) (f_savedPc := f_savedPc) (f_cause := f_cause) (f_output := f_output) (f_outputs := f_outputs) (f_traps := f_traps) (f_user := f_user) (f_savedUser := f_savedUser) (f_stopped := f_stopped) (f_trapped := f_trapped) (f_any := f_any) (f_keptPaging := f_keptPaging) (f_keptGuard := f_keptGuard) (f_keptRoot := f_keptRoot) (a_page := a_page) (a_users := a_users) (a_held := a_held) (a_away := a_away) (a_roomRoot := a_roomRoot) (a_leadsTo := a_leadsTo) (a_rights := a_rights) (a_table := a_table) (a_register := a_register) (a_ops := a_ops) (a_first := a_first) (a_second := a_second) (a_numbers := a_numbers) (a_kept := a_kept) (m := sg_lm wr) hS hr hd
  refine ⟨pg, us, he, aw, rg, tb, op, k1, fun post h => ?_⟩
  unfold wpX_mark
  refine br_f (by decide) ?_
  unfold wX_mark_12
  refine br_f (by decide) ?_
  by_cases hw : wr = 0
  · refine br_t hw ?_
    unfold wX_mark_37 wX_mark_38
    rw [sg_o0, show (8 : Int32) = sg_lm wr by unfold sg_lm; rw [if_pos hw]]
    exact k2 _ (br_f (by decide) h)
  · refine br_f hw ?_
    unfold wX_mark_38
    rw [sg_o16, show (24 : Int32) = sg_lm wr by unfold sg_lm; rw [if_neg hw]]
    exact k2 _ (br_f (by decide) h)
theorem xs_markT {r d F t : Nat} {wr : Int32} (hS : sg_S a_page a_users a_held a_away a_roomRoot a_leadsTo a_rights a_table a_ops a_first a_second a_numbers f_guard W G) (hr : r < 16) (hd : d < 8) (hF : F < 16) (ht : t < 8) :
    ∃ pg us he aw rg tb op : Nat → Int32, sg_S pg us he aw a_roomRoot a_leadsTo rg tb op a_first a_second a_numbers f_guard (sg_mW (sg_mW W (8 * r + d) 8) (8 * F + t) (sg_lm wr)) G ∧ ∀ post : SX → Prop, post (f_paging, f_guard, nI r, sg_mL (sg_mL f_logged W (8 * r + d) 8) (sg_mW W (8 * r + d) 8) (8 * F + t) (sg_lm wr), f_room, f_oldest, nI d, nI F, nI t, f_target, f_reached, f_faultAddress, f_faultCode, f_accesses, f_faults, f_pc, f_savedPc, f_cause, f_output, f_outputs, f_traps, f_user, f_savedUser, f_stopped, f_trapped, f_any, f_keptPaging, f_keptGuard, f_keptRoot, pg, us, he, aw, a_roomRoot, a_leadsTo, rg, tb, a_register, op, a_first, a_second, a_numbers, a_kept) → wpX_mark post (f_paging, f_guard, nI r, f_logged, f_room, f_oldest, nI d, nI F, nI t, f_target, f_reached, f_faultAddress, f_faultCode, f_accesses, f_faults, f_pc, f_savedPc, f_cause, f_output, f_outputs, f_traps, f_user, f_savedUser, f_stopped, f_trapped, f_any, f_keptPaging, f_keptGuard, f_keptRoot, a_page, a_users, a_held, a_away, a_roomRoot, a_leadsTo, a_rights, a_table, a_register, a_ops, a_first, a_second, a_numbers, a_kept) wr := by
  obtain ⟨pg, us, he, aw, rg, tb, op, k1, k2⟩ := xs_touch (f_paging := f_paging) (f_guard := f_guard) (f_root := nI r) (f_logged := f_logged) (f_room := f_room) (f_oldest := f_oldest) (f_dirWord := nI d) (f_tableFrame := nI F) (f_tableWord := nI t) (f_target := f_target) (f_reached := f_reached) (f_faultAddress := f_faultAddress) (f_faultCode := f_faultCode) (f_accesses := f_accesses) (f_faults := f_faults) (f_pc := f_pc) (f_savedPc := f_savedPc) (f_cause := f_cause) (f_output := f_output) (f_outputs := f_outputs) (f_traps := f_traps) (f_user := f_user) (f_savedUser := f_savedUser) (f_stopped := f_stopped) (f_trapped := f_trapped) (f_any := f_any) (f_keptPaging := f_keptPaging) (f_keptGuard := f_keptGuard) (f_keptRoot := f_keptRoot) (a_page := a_page) (a_users := a_users) (a_held := a_held) (a_away := a_away) (a_roomRoot := a_roomRoot) (a_leadsTo := a_leadsTo) (a_rights := a_rights) (a_table := a_table) (a_register := a_register) (a_ops := a_ops) (a_first := a_first) (a_second := a_second) (a_numbers := a_numbers) (a_kept := a_kept) (m := 8) hS hr hd
  obtain ⟨pg', us', he', aw', rg', tb', op', k3, k4⟩ := xs_touch (f_paging := f_paging) (f_guard := f_guard) (f_root := nI r) (f_logged := sg_mL f_logged W (8 * r + d) 8) (f_room := f_room) (f_oldest := f_oldest) (f_dirWord := nI d) (f_tableFrame := nI F) (f_tableWord := nI t) (f_target := f_target) (f_reached := f_reached) (f_faultAddress := f_faultAddress) (f_faultCode := f_faultCode) (f_accesses := f_accesses) (f_faults := f_faults) (f_pc := f_pc) (f_savedPc := f_savedPc) (f_cause := f_cause) (f_output := f_output) (f_outputs := f_outputs) (f_traps := f_traps) (f_user := f_user) (f_savedUser := f_savedUser) (f_stopped := f_stopped) (f_trapped := f_trapped) (f_any := f_any) (f_keptPaging := f_keptPaging) (f_keptGuard := f_keptGuard) (f_keptRoot := f_keptRoot) (a_page := pg) (a_users := us) (a_held := he) (a_away := aw) (a_roomRoot := a_roomRoot) (a_leadsTo := a_leadsTo) (a_rights := rg) (a_table := tb) (a_register := a_register) (a_ops := op) (a_first := a_first) (a_second := a_second) (a_numbers := a_numbers) (a_kept := a_kept) (m := sg_lm wr) k1 hF ht
  refine ⟨pg', us', he', aw', rg', tb', op', k3, fun post h => ?_⟩
  unfold wpX_mark
  refine br_t (nI_pos' (by omega)) ?_
  unfold wX_mark_12
  refine br_t rfl ?_
  unfold wX_mark_37 wX_mark_38
  rw [sg_o0]
  refine k2 _ ?_
  refine br_t rfl ?_
  by_cases hw : wr = 0
  · refine br_t hw ?_
    unfold wX_mark_67
    rw [sg_o0]
    have e : sg_lm wr = 8 := by unfold sg_lm; rw [if_pos hw]
    rw [e] at k4 h
    exact k4 _ h
  · refine br_f hw ?_
    unfold wX_mark_67
    rw [sg_o16]
    have e : sg_lm wr = 24 := by unfold sg_lm; rw [if_neg hw]
    rw [e] at k4 h
    exact k4 _ h
theorem xs_r106 {post : SX → Prop} {k c d g m : Nat} {tf : Int32} (hk : k < 192) (hc : c < 3) (hd : d < 8) (hg : g < 16) (hm : m < 16) (htf : vp_nar .byte tf.toInt8.toInt32 = tf)
    (h : post (f_paging, f_guard, f_root, f_logged, nI c, f_oldest, nI d, tf, f_tableWord, f_target, nI g, f_faultAddress, f_faultCode, f_accesses, f_faults, f_pc, f_savedPc, f_cause, f_output, f_outputs, f_traps, f_user, f_savedUser, f_stopped, f_trapped, f_any, f_keptPaging, f_keptGuard, f_keptRoot, a_page, a_users, a_held, a_away, a_roomRoot, upd a_leadsTo k (nI g), upd a_rights k (nI m), upd a_table (8 * c + d) tf, a_register, a_ops, a_first, a_second, a_numbers, a_kept)) : wX_remember_106 post (nI k) (nI m) f_paging f_guard f_root f_logged (nI c) f_oldest (nI d) tf f_tableWord f_target (nI g) f_faultAddress f_faultCode f_accesses f_faults f_pc f_savedPc f_cause f_output f_outputs f_traps f_user f_savedUser f_stopped f_trapped f_any f_keptPaging f_keptGuard f_keptRoot a_page a_users a_held a_away a_roomRoot a_leadsTo a_rights a_table a_register a_ops a_first a_second a_numbers a_kept := by
  unfold wX_remember_106
  rw [nI_clamp (show k < 2 ^ 31 by omega), sg_ix8 c d, nI_clamp (show 8 * c + d < 2 ^ 31 by omega), htf, sg_by g (by omega), sg_by m (by omega)]
  exact ⟨vp_in_nI hk (by omega), nm_e ⟨vp_in_nI hk (by omega), nm_e ⟨vp_in_nI (by omega) (by omega), nm_e h⟩⟩⟩
theorem xs_r34 {k c d g : Nat} {tf gv la : Int32} (hk : k < 192) (hc : c < 3) (hd : d < 8) (hg : g < 16) (htf : vp_nar .byte tf.toInt8.toInt32 = tf) :
    ∃ may : Int32, sg_R f_guard gv la may ∧ ∀ post : SX → Prop, post (f_paging, f_guard, f_root, f_logged, nI c, f_oldest, nI d, tf, f_tableWord, f_target, nI g, f_faultAddress, f_faultCode, f_accesses, f_faults, f_pc, f_savedPc, f_cause, f_output, f_outputs, f_traps, f_user, f_savedUser, f_stopped, f_trapped, f_any, f_keptPaging, f_keptGuard, f_keptRoot, a_page, a_users, a_held, a_away, a_roomRoot, upd a_leadsTo k (nI g), upd a_rights k may, upd a_table (8 * c + d) tf, a_register, a_ops, a_first, a_second, a_numbers, a_kept) → wX_remember_34 post (nI k) gv la f_paging f_guard f_root f_logged (nI c) f_oldest (nI d) tf f_tableWord f_target (nI g) f_faultAddress f_faultCode f_accesses f_faults f_pc f_savedPc f_cause f_output f_outputs f_traps f_user f_savedUser f_stopped f_trapped f_any f_keptPaging f_keptGuard f_keptRoot a_page a_users a_held a_away a_roomRoot a_leadsTo a_rights a_table a_register a_ops a_first a_second a_numbers a_kept := by
  by_cases hu : gv &&& 4 = 0
  · by_cases hl : la &&& 16 = 0
    · refine ⟨nI 1, sg_R_in (fun z => absurd (by decide) z) (fun z => absurd (by decide) z) (fun z => absurd (by decide) z), fun post h => ?_⟩
      refine br_t hu (br_t rfl (br_t hl ?_))
      exact xs_r106 (m := 1) hk hc hd hg (by omega) htf h
    · by_cases hw : gv &&& 2 = 0
      · by_cases hgd : f_guard = 0
        · refine ⟨nI 5, sg_R_in (fun z => absurd (by decide) z) (fun z => ⟨sg_16 hl, Or.inr hgd⟩) (fun z => absurd (by decide) z), fun post h => ?_⟩
          refine br_t hu (br_t rfl (br_f hl (br_t hw (br_t hgd ?_))))
          refine nm_r (e' := nI 5) (by decide) (br_t rfl ?_)
          exact xs_r106 hk hc hd hg (by omega) htf h
        · refine ⟨nI 1, sg_R_in (fun z => absurd (by decide) z) (fun z => absurd (by decide) z) (fun z => absurd (by decide) z), fun post h => ?_⟩
          refine br_t hu (br_t rfl (br_f hl (br_t hw (br_f hgd (br_t rfl ?_)))))
          exact xs_r106 (m := 1) hk hc hd hg (by omega) htf h
      · refine ⟨nI 5, sg_R_in (fun z => absurd (by decide) z) (fun z => ⟨sg_16 hl, Or.inl hw⟩) (fun z => absurd (by decide) z), fun post h => ?_⟩
        refine br_t hu (br_t rfl (br_f hl (br_f hw ?_)))
        refine nm_r (e' := nI 5) (by decide) (br_t rfl ?_)
        exact xs_r106 hk hc hd hg (by omega) htf h
  · by_cases hl : la &&& 16 = 0
    · refine ⟨nI 3, sg_R_in (fun z => hu) (fun z => absurd (by decide) z) (fun z => absurd (by decide) z), fun post h => ?_⟩
      refine br_f hu (br_f (by decide) (nm_r (e' := nI 3) (by decide) (br_t hl ?_)))
      exact xs_r106 hk hc hd hg (by omega) htf h
    · by_cases hw : gv &&& 2 = 0
      · by_cases hgd : f_guard = 0
        · refine ⟨nI 7, sg_R_in (fun z => hu) (fun z => ⟨sg_16 hl, Or.inr hgd⟩) (fun z => absurd (by decide) z), fun post h => ?_⟩
          refine br_f hu (br_f (by decide) (nm_r (e' := nI 3) (by decide) (br_f hl (br_t hw (br_t hgd ?_)))))
          refine nm_r (e' := nI 7) (by decide) (br_f (by decide) (br_t hw ?_))
          exact xs_r106 hk hc hd hg (by omega) htf h
        · refine ⟨nI 3, sg_R_in (fun z => hu) (fun z => absurd (by decide) z) (fun z => absurd (by decide) z), fun post h => ?_⟩
          refine br_f hu (br_f (by decide) (nm_r (e' := nI 3) (by decide) (br_f hl (br_t hw (br_f hgd (br_f (by decide) (br_t hw ?_)))))))
          exact xs_r106 hk hc hd hg (by omega) htf h
      · refine ⟨nI 15, sg_R_in (fun z => hu) (fun z => ⟨sg_16 hl, Or.inl hw⟩) (fun z => ⟨sg_16 hl, hw, hu⟩), fun post h => ?_⟩
        refine br_f hu (br_f (by decide) (nm_r (e' := nI 3) (by decide) (br_f hl (br_f hw ?_))))
        refine nm_r (e' := nI 7) (by decide) (br_f (by decide) (br_f hw (nm_r (e' := nI 15) (by decide) ?_)))
        exact xs_r106 hk hc hd hg (by omega) htf h
theorem xs_remB {r k c d g : Nat} {gv : Int32} (hM : sg_M a_page a_users a_held a_away W G) (hr : r < 16) (hk : k < 192) (hc : c < 3) (hd : d < 8) (hg : g < 16) :
    ∃ may : Int32, sg_R f_guard gv (W (8 * r + d)) may ∧ ∀ post : SX → Prop, post (f_paging, f_guard, nI r, f_logged, nI c, f_oldest, nI d, (-1), f_tableWord, f_target, nI g, f_faultAddress, f_faultCode, f_accesses, f_faults, f_pc, f_savedPc, f_cause, f_output, f_outputs, f_traps, f_user, f_savedUser, f_stopped, f_trapped, f_any, f_keptPaging, f_keptGuard, f_keptRoot, a_page, a_users, a_held, a_away, a_roomRoot, upd a_leadsTo k (nI g), upd a_rights k may, upd a_table (8 * c + d) (-1), a_register, a_ops, a_first, a_second, a_numbers, a_kept) → wpX_remember post (f_paging, f_guard, nI r, f_logged, nI c, f_oldest, nI d, (-1), f_tableWord, f_target, nI g, f_faultAddress, f_faultCode, f_accesses, f_faults, f_pc, f_savedPc, f_cause, f_output, f_outputs, f_traps, f_user, f_savedUser, f_stopped, f_trapped, f_any, f_keptPaging, f_keptGuard, f_keptRoot, a_page, a_users, a_held, a_away, a_roomRoot, a_leadsTo, a_rights, a_table, a_register, a_ops, a_first, a_second, a_numbers, a_kept) (nI k) gv := by
  obtain ⟨may, k1, k2⟩ := xs_r34 (f_paging := f_paging) (f_guard := f_guard) (f_root := nI r) (f_logged := f_logged) (f_oldest := f_oldest) (f_tableWord := f_tableWord) (f_target := f_target) (f_faultAddress := f_faultAddress) (f_faultCode := f_faultCode) (f_accesses := f_accesses) (f_faults := f_faults) (f_pc := f_pc) (f_savedPc := f_savedPc) (f_cause := f_cause) (f_output := f_output) (f_outputs := f_outputs) (f_traps := f_traps) (f_user := f_user) (f_savedUser := f_savedUser) (f_stopped := f_stopped) (f_trapped := f_trapped) (f_any := f_any) (f_keptPaging := f_keptPaging) (f_keptGuard := f_keptGuard) (f_keptRoot := f_keptRoot) (a_page := a_page) (a_users := a_users) (a_held := a_held) (a_away := a_away) (a_roomRoot := a_roomRoot) (a_leadsTo := a_leadsTo) (a_rights := a_rights) (a_table := a_table) (a_register := a_register) (a_ops := a_ops) (a_first := a_first) (a_second := a_second) (a_numbers := a_numbers) (a_kept := a_kept) (gv := gv) (la := W (8 * r + d)) hk hc hd hg sg_bm1'
  refine ⟨may, k1, fun post h => ?_⟩
  unfold wpX_remember
  refine br_f (by decide) (xs_word hM hr hd ?_)
  exact k2 post h
theorem xs_remT {r k c d g F t : Nat} {gv : Int32} (hM : sg_M a_page a_users a_held a_away W G) (hF : F < 16) (ht : t < 8) (hk : k < 192) (hc : c < 3) (hd : d < 8) (hg : g < 16) :
    ∃ may : Int32, sg_R f_guard gv (W (8 * F + t)) may ∧ ∀ post : SX → Prop, post (f_paging, f_guard, nI r, f_logged, nI c, f_oldest, nI d, nI F, nI t, f_target, nI g, f_faultAddress, f_faultCode, f_accesses, f_faults, f_pc, f_savedPc, f_cause, f_output, f_outputs, f_traps, f_user, f_savedUser, f_stopped, f_trapped, f_any, f_keptPaging, f_keptGuard, f_keptRoot, a_page, a_users, a_held, a_away, a_roomRoot, upd a_leadsTo k (nI g), upd a_rights k may, upd a_table (8 * c + d) (nI F), a_register, a_ops, a_first, a_second, a_numbers, a_kept) → wpX_remember post (f_paging, f_guard, nI r, f_logged, nI c, f_oldest, nI d, nI F, nI t, f_target, nI g, f_faultAddress, f_faultCode, f_accesses, f_faults, f_pc, f_savedPc, f_cause, f_output, f_outputs, f_traps, f_user, f_savedUser, f_stopped, f_trapped, f_any, f_keptPaging, f_keptGuard, f_keptRoot, a_page, a_users, a_held, a_away, a_roomRoot, a_leadsTo, a_rights, a_table, a_register, a_ops, a_first, a_second, a_numbers, a_kept) (nI k) gv := by
  obtain ⟨may, k1, k2⟩ := xs_r34 (f_paging := f_paging) (f_guard := f_guard) (f_root := nI r) (f_logged := f_logged) (f_oldest := f_oldest) (f_tableWord := nI t) (f_target := f_target) (f_faultAddress := f_faultAddress) (f_faultCode := f_faultCode) (f_accesses := f_accesses) (f_faults := f_faults) (f_pc := f_pc) (f_savedPc := f_savedPc) (f_cause := f_cause) (f_output := f_output) (f_outputs := f_outputs) (f_traps := f_traps) (f_user := f_user) (f_savedUser := f_savedUser) (f_stopped := f_stopped) (f_trapped := f_trapped) (f_any := f_any) (f_keptPaging := f_keptPaging) (f_keptGuard := f_keptGuard) (f_keptRoot := f_keptRoot) (a_page := a_page) (a_users := a_users) (a_held := a_held) (a_away := a_away) (a_roomRoot := a_roomRoot) (a_leadsTo := a_leadsTo) (a_rights := a_rights) (a_table := a_table) (a_register := a_register) (a_ops := a_ops) (a_first := a_first) (a_second := a_second) (a_numbers := a_numbers) (a_kept := a_kept) (gv := gv) (la := W (8 * F + t)) hk hc hd hg (sg_by F (by omega))
  refine ⟨may, k1, fun post h => ?_⟩
  unfold wpX_remember
  refine br_t (nI_pos' (by omega)) (xs_word hM hF ht ?_)
  exact k2 post h
end
end
section
/-! Y: ways -/
def sg_cd (wr us : Int32) : Int32 := (if wr = 0 then 0 else 2) + (if us = 0 then 0 else 4)
section
variable {f_paging f_guard f_root f_logged f_room f_oldest f_dirWord f_tableFrame f_tableWord f_target f_reached f_faultAddress f_faultCode f_accesses f_faults f_pc f_savedPc f_cause f_output f_outputs f_traps f_user f_savedUser f_stopped f_trapped f_any f_keptPaging f_keptGuard f_keptRoot : Int32} {a_page a_users a_held a_away a_roomRoot a_leadsTo a_rights a_table a_register a_ops a_first a_second a_numbers a_kept : Nat → Int32} {y_root y_keptRoot y_faultCode y_first y_second y_goal y_code y_behindTrap : Int32} {W G : Nat → Int32}
theorem ys_frameOf {post : Int32 → Prop} {e : Int32} (h : post (nI (sg_fr e))) : wpY_frameOf post e := by
  unfold wpY_frameOf
  rw [sg_fr_eq]; exact h
theorem ys_may12 {post : Int32 → Prop} {gv wr us : Int32} (hA : us = 0 ∨ ¬ gv &&& 4 = 0) (h1 : sg_AL f_guard gv wr us → post 1) (h0 : ¬ sg_AL f_guard gv wr us → post 0) : wY_may_12 post gv wr us y_root y_keptRoot f_logged f_accesses f_faults f_faultAddress y_faultCode f_guard f_keptGuard f_any y_first y_second y_goal y_code f_pc f_savedPc f_cause f_output f_outputs f_traps f_user f_savedUser f_stopped y_behindTrap W a_kept G a_register :=
  br_c (fun hw => h1 ⟨hA, Or.inl hw⟩) (fun hw => br_c (fun h2 => br_c (fun hu => br_c (fun hg => h1 ⟨hA, Or.inr (Or.inr ⟨hu, hg⟩)⟩) (fun hg => h0 (sg_nAL hw h2 (fun z => hg z.2)))) (fun hu => h0 (sg_nAL hw h2 (fun z => hu z.1)))) (fun h2 => h1 ⟨hA, Or.inr (Or.inl h2)⟩))
theorem ys_may {post : Int32 → Prop} {gv wr us : Int32} (h1 : sg_AL f_guard gv wr us → post 1) (h0 : ¬ sg_AL f_guard gv wr us → post 0) : wpY_may post (y_root, y_keptRoot, f_logged, f_accesses, f_faults, f_faultAddress, y_faultCode, f_guard, f_keptGuard, f_any, y_first, y_second, y_goal, y_code, f_pc, f_savedPc, f_cause, f_output, f_outputs, f_traps, f_user, f_savedUser, f_stopped, y_behindTrap, W, a_kept, G, a_register) gv wr us := by
  unfold wpY_may
  exact br_c (fun hu => ys_may12 (Or.inl hu) h1 h0) (fun hu => br_c (fun h4 => h0 (sg_nAL4 hu h4)) (fun h4 => ys_may12 (Or.inr h4) h1 h0))
theorem ys_walk_in {post : SY → Prop} {a : Nat} {wr us : Int32} (ha : a < 512) (h : wY_walk_49 post wr us (nI (a / 64)) (nI (a / 8 % 8)) (nI (a % 8)) (if us = 0 then 0 else 4) (if wr = 0 then 0 else 2) y_root y_keptRoot f_logged f_accesses f_faults f_faultAddress y_faultCode f_guard f_keptGuard f_any (-1) (-1) y_goal y_code f_pc f_savedPc f_cause f_output f_outputs f_traps f_user f_savedUser f_stopped y_behindTrap W a_kept G a_register) : wpY_walk post (y_root, y_keptRoot, f_logged, f_accesses, f_faults, f_faultAddress, y_faultCode, f_guard, f_keptGuard, f_any, y_first, y_second, y_goal, y_code, f_pc, f_savedPc, f_cause, f_output, f_outputs, f_traps, f_user, f_savedUser, f_stopped, y_behindTrap, W, a_kept, G, a_register) (nI a) wr us := by
  unfold wpY_walk
  refine nm_r (sg_sh6 ha) (nm_r (sg_sh37 ha) (nm_r (sg_an7 ha) ?_))
  by_cases hw : wr = 0
  · rw [if_pos hw] at h
    refine br_t hw ?_
    unfold wY_walk_40
    by_cases hu : us = 0
    · rw [if_pos hu] at h
      exact br_t hu h
    · rw [if_neg hu] at h
      exact br_f hu h
  · rw [if_neg hw] at h
    refine br_f hw ?_
    unfold wY_walk_40
    by_cases hu : us = 0
    · rw [if_pos hu] at h
      exact br_t hu h
    · rw [if_neg hu] at h
      exact br_f hu h
theorem ys_w0 {post : SY → Prop} {d t w : Nat} {wr us z0 z1 : Int32} (hd : d < 8) (ht : t < 8) (hw : w < 8) (h : post ((-1), y_keptRoot, f_logged, f_accesses, f_faults, f_faultAddress, y_faultCode, f_guard, f_keptGuard, f_any, y_first, y_second, nI (8 * (t + 8 * (d % 2)) + w), z1 + z0, f_pc, f_savedPc, f_cause, f_output, f_outputs, f_traps, f_user, f_savedUser, f_stopped, y_behindTrap, W, a_kept, G, a_register)) : wY_walk_49 post wr us (nI d) (nI t) (nI w) z0 z1 (-1) y_keptRoot f_logged f_accesses f_faults f_faultAddress y_faultCode f_guard f_keptGuard f_any y_first y_second y_goal y_code f_pc f_savedPc f_cause f_output f_outputs f_traps f_user f_savedUser f_stopped y_behindTrap W a_kept G a_register := by
  unfold wY_walk_49
  refine nm_e (br_f (by decide) (nm_r ?_ h))
  rw [sg_an1 (by omega), sg_m8, nI_add, sg_ix8]
theorem ys_wA {post : SY → Prop} {r d : Nat} {x5 x6 wr us z0 z1 : Int32} (hr : r < 16) (hd : d < 8) (h1 : W (8 * r + d) &&& 1 = 0) (h : post (nI r, y_keptRoot, f_logged, f_accesses, f_faults, f_faultAddress, y_faultCode, f_guard, f_keptGuard, f_any, nI (8 * r + d), y_second, (-1), z1 + z0, f_pc, f_savedPc, f_cause, f_output, f_outputs, f_traps, f_user, f_savedUser, f_stopped, y_behindTrap, W, a_kept, G, a_register)) : wY_walk_49 post wr us (nI d) x5 x6 z0 z1 (nI r) y_keptRoot f_logged f_accesses f_faults f_faultAddress y_faultCode f_guard f_keptGuard f_any y_first y_second y_goal y_code f_pc f_savedPc f_cause f_output f_outputs f_traps f_user f_savedUser f_stopped y_behindTrap W a_kept G a_register := by
  unfold wY_walk_49
  refine nm_e (br_t (nI_pos' (by omega)) (nm_r (sg_ix8 r d) ⟨vp_in_nI (by omega) (by omega), ?_⟩))
  rw [nI_clamp (show 8 * r + d < 2 ^ 31 by omega)]
  exact nm_e (br_t h1 h)
theorem ys_w223 {post : SY → Prop} {b w : Nat} {x8 : Int32} (h1 : ¬ x8 = 0 → post (y_root, y_keptRoot, f_logged, f_accesses, f_faults, f_faultAddress, y_faultCode, f_guard, f_keptGuard, f_any, y_first, y_second, nI (8 * b + w), y_code + 1, f_pc, f_savedPc, f_cause, f_output, f_outputs, f_traps, f_user, f_savedUser, f_stopped, y_behindTrap, W, a_kept, G, a_register)) (h0 : x8 = 0 → post (y_root, y_keptRoot, f_logged, f_accesses, f_faults, f_faultAddress, y_faultCode, f_guard, f_keptGuard, f_any, y_first, y_second, y_goal, y_code + 1, f_pc, f_savedPc, f_cause, f_output, f_outputs, f_traps, f_user, f_savedUser, f_stopped, y_behindTrap, W, a_kept, G, a_register)) : wY_walk_223 post (nI w) x8 (nI b) y_root y_keptRoot f_logged f_accesses f_faults f_faultAddress y_faultCode f_guard f_keptGuard f_any y_first y_second y_goal y_code f_pc f_savedPc f_cause f_output f_outputs f_traps f_user f_savedUser f_stopped y_behindTrap W a_kept G a_register := by
  unfold wY_walk_223
  exact nm_e (br_c h0 (fun k => nm_r (sg_ix8 b w) (h1 k)))
theorem ys_wB {post : SY → Prop} {r d t w : Nat} {wr us z0 z1 : Int32} (hr : r < 16) (hd : d < 8) (h1 : ¬ W (8 * r + d) &&& 1 = 0) (h2 : ¬ W (8 * r + d) &&& 32 = 0)
    (hy : sg_AL f_guard (W (8 * r + d)) wr us → post (nI r, y_keptRoot, f_logged, f_accesses, f_faults, f_faultAddress, y_faultCode, f_guard, f_keptGuard, f_any, nI (8 * r + d), y_second, nI (8 * sg_bg (W (8 * r + d)) t + w), z1 + z0 + 1, f_pc, f_savedPc, f_cause, f_output, f_outputs, f_traps, f_user, f_savedUser, f_stopped, y_behindTrap, W, a_kept, G, a_register))
    (hn : ¬ sg_AL f_guard (W (8 * r + d)) wr us → post (nI r, y_keptRoot, f_logged, f_accesses, f_faults, f_faultAddress, y_faultCode, f_guard, f_keptGuard, f_any, nI (8 * r + d), y_second, (-1), z1 + z0 + 1, f_pc, f_savedPc, f_cause, f_output, f_outputs, f_traps, f_user, f_savedUser, f_stopped, y_behindTrap, W, a_kept, G, a_register)) : wY_walk_49 post wr us (nI d) (nI t) (nI w) z0 z1 (nI r) y_keptRoot f_logged f_accesses f_faults f_faultAddress y_faultCode f_guard f_keptGuard f_any y_first y_second y_goal y_code f_pc f_savedPc f_cause f_output f_outputs f_traps f_user f_savedUser f_stopped y_behindTrap W a_kept G a_register := by
  unfold wY_walk_49
  refine nm_e (br_t (nI_pos' (by omega)) (nm_r (sg_ix8 r d) ⟨vp_in_nI (by omega) (by omega), ?_⟩))
  rw [nI_clamp (show 8 * r + d < 2 ^ 31 by omega)]
  have hl := sg_fr_lt (W (8 * r + d))
  have e8 : nI t + 8 = nI (t + 8) := nI_add t 8
  refine nm_e (br_f h1 (ys_may (fun hA => ys_frameOf ?_) (fun hA => ys_frameOf ?_)))
  · refine pk_le (sg_fr (W (8 * r + d))) 7 (fun k => ?_) (fun k => ?_)
    · have e : sg_bg (W (8 * r + d)) t = t := by unfold sg_bg; rw [if_pos k]; omega
      rw [e] at hy
      exact br_f h2 (ys_w223 (fun _ => hy hA) (fun z => absurd z (by decide)))
    · have e : sg_bg (W (8 * r + d)) t = t + 8 := by unfold sg_bg; rw [if_neg (by omega)]; omega
      rw [e] at hy
      rw [e8]
      exact br_f h2 (ys_w223 (b := t + 8) (fun _ => hy hA) (fun z => absurd z (by decide)))
  · refine pk_le (sg_fr (W (8 * r + d))) 7 (fun k => ?_) (fun k => ?_)
    · exact br_f h2 (ys_w223 (b := t) (fun z => absurd rfl z) (fun _ => hn hA))
    · rw [e8]
      exact br_f h2 (ys_w223 (b := t + 8) (fun z => absurd rfl z) (fun _ => hn hA))
theorem ys_w149C {post : SY → Prop} {F t : Nat} {x6 x7 x8 zz wr us : Int32} (hF : sg_fr x7 = F) (ht : t < 8) (h2 : x7 &&& 32 = 0) (h3 : W (8 * F + t) &&& 1 = 0)
    (h : post (y_root, y_keptRoot, f_logged, f_accesses, f_faults, f_faultAddress, y_faultCode, f_guard, f_keptGuard, f_any, y_first, nI (8 * F + t), y_goal, y_code, f_pc, f_savedPc, f_cause, f_output, f_outputs, f_traps, f_user, f_savedUser, f_stopped, y_behindTrap, W, a_kept, G, a_register)) : wY_walk_149 post wr us (nI t) x6 x7 x8 zz y_root y_keptRoot f_logged f_accesses f_faults f_faultAddress y_faultCode f_guard f_keptGuard f_any y_first y_second y_goal y_code f_pc f_savedPc f_cause f_output f_outputs f_traps f_user f_savedUser f_stopped y_behindTrap W a_kept G a_register := by
  have hl := sg_fr_lt x7
  unfold wY_walk_149
  refine br_t h2 (ys_frameOf ?_)
  rw [hF]
  refine nm_r (sg_ix8 F t) ⟨vp_in_nI (by omega) (by omega), ?_⟩
  rw [nI_clamp (show 8 * F + t < 2 ^ 31 by omega)]
  exact nm_e (br_t h3 h)
theorem ys_w149D {post : SY → Prop} {F t w : Nat} {x7 x8 zz wr us : Int32} (hF : sg_fr x7 = F) (ht : t < 8) (h2 : x7 &&& 32 = 0) (h3 : ¬ W (8 * F + t) &&& 1 = 0)
    (hy : ¬ x8 = 0 → sg_AL f_guard (W (8 * F + t)) wr us → post (y_root, y_keptRoot, f_logged, f_accesses, f_faults, f_faultAddress, y_faultCode, f_guard, f_keptGuard, f_any, y_first, nI (8 * F + t), nI (8 * sg_fr (W (8 * F + t)) + w), y_code + 1, f_pc, f_savedPc, f_cause, f_output, f_outputs, f_traps, f_user, f_savedUser, f_stopped, y_behindTrap, W, a_kept, G, a_register))
    (hn : (x8 = 0 ∨ ¬ sg_AL f_guard (W (8 * F + t)) wr us) → post (y_root, y_keptRoot, f_logged, f_accesses, f_faults, f_faultAddress, y_faultCode, f_guard, f_keptGuard, f_any, y_first, nI (8 * F + t), y_goal, y_code + 1, f_pc, f_savedPc, f_cause, f_output, f_outputs, f_traps, f_user, f_savedUser, f_stopped, y_behindTrap, W, a_kept, G, a_register)) : wY_walk_149 post wr us (nI t) (nI w) x7 x8 zz y_root y_keptRoot f_logged f_accesses f_faults f_faultAddress y_faultCode f_guard f_keptGuard f_any y_first y_second y_goal y_code f_pc f_savedPc f_cause f_output f_outputs f_traps f_user f_savedUser f_stopped y_behindTrap W a_kept G a_register := by
  have hl := sg_fr_lt x7
  unfold wY_walk_149
  refine br_t h2 (ys_frameOf ?_)
  rw [hF]
  refine nm_r (sg_ix8 F t) ⟨vp_in_nI (by omega) (by omega), ?_⟩
  rw [nI_clamp (show 8 * F + t < 2 ^ 31 by omega)]
  refine nm_e (br_f h3 (br_c (fun z => ?_) (fun z => ?_)))
  · unfold wY_walk_213 wY_walk_214
    exact ys_frameOf (ys_w223 (fun k => absurd rfl k) (fun _ => hn (Or.inl z)))
  · refine ys_may (fun hA => br_f (by decide) ?_) (fun hA => br_t rfl ?_)
    · unfold wY_walk_214
      exact ys_frameOf (ys_w223 (fun _ => hy z hA) (fun k => absurd k (by decide)))
    · unfold wY_walk_213 wY_walk_214
      exact ys_frameOf (ys_w223 (fun k => absurd rfl k) (fun _ => hn (Or.inr hA)))
theorem ys_wC {post : SY → Prop} {r d t : Nat} {x6 wr us z0 z1 : Int32} (hr : r < 16) (hd : d < 8) (ht : t < 8) (h1 : ¬ W (8 * r + d) &&& 1 = 0) (h2 : W (8 * r + d) &&& 32 = 0) (h3 : W (8 * sg_fr (W (8 * r + d)) + t) &&& 1 = 0)
    (h : post (nI r, y_keptRoot, f_logged, f_accesses, f_faults, f_faultAddress, y_faultCode, f_guard, f_keptGuard, f_any, nI (8 * r + d), nI (8 * sg_fr (W (8 * r + d)) + t), (-1), z1 + z0, f_pc, f_savedPc, f_cause, f_output, f_outputs, f_traps, f_user, f_savedUser, f_stopped, y_behindTrap, W, a_kept, G, a_register)) : wY_walk_49 post wr us (nI d) (nI t) x6 z0 z1 (nI r) y_keptRoot f_logged f_accesses f_faults f_faultAddress y_faultCode f_guard f_keptGuard f_any y_first y_second y_goal y_code f_pc f_savedPc f_cause f_output f_outputs f_traps f_user f_savedUser f_stopped y_behindTrap W a_kept G a_register := by
  unfold wY_walk_49
  refine nm_e (br_t (nI_pos' (by omega)) (nm_r (sg_ix8 r d) ⟨vp_in_nI (by omega) (by omega), ?_⟩))
  rw [nI_clamp (show 8 * r + d < 2 ^ 31 by omega)]
  refine nm_e (br_f h1 (ys_may (fun hA => ys_frameOf ?_) (fun hA => ys_frameOf ?_)))
  · exact br_c (fun _ => ys_w149C rfl ht h2 h3 h) (fun _ => ys_w149C rfl ht h2 h3 h)
  · exact br_c (fun _ => ys_w149C rfl ht h2 h3 h) (fun _ => ys_w149C rfl ht h2 h3 h)
theorem ys_wD {post : SY → Prop} {r d t w : Nat} {wr us z0 z1 : Int32} (hr : r < 16) (hd : d < 8) (ht : t < 8) (h1 : ¬ W (8 * r + d) &&& 1 = 0) (h2 : W (8 * r + d) &&& 32 = 0) (h3 : ¬ W (8 * sg_fr (W (8 * r + d)) + t) &&& 1 = 0)
    (hy : sg_AL f_guard (W (8 * r + d)) wr us → sg_AL f_guard (W (8 * sg_fr (W (8 * r + d)) + t)) wr us → post (nI r, y_keptRoot, f_logged, f_accesses, f_faults, f_faultAddress, y_faultCode, f_guard, f_keptGuard, f_any, nI (8 * r + d), nI (8 * sg_fr (W (8 * r + d)) + t), nI (8 * sg_fr (W (8 * sg_fr (W (8 * r + d)) + t)) + w), z1 + z0 + 1, f_pc, f_savedPc, f_cause, f_output, f_outputs, f_traps, f_user, f_savedUser, f_stopped, y_behindTrap, W, a_kept, G, a_register))
    (hn : ¬ (sg_AL f_guard (W (8 * r + d)) wr us ∧ sg_AL f_guard (W (8 * sg_fr (W (8 * r + d)) + t)) wr us) → post (nI r, y_keptRoot, f_logged, f_accesses, f_faults, f_faultAddress, y_faultCode, f_guard, f_keptGuard, f_any, nI (8 * r + d), nI (8 * sg_fr (W (8 * r + d)) + t), (-1), z1 + z0 + 1, f_pc, f_savedPc, f_cause, f_output, f_outputs, f_traps, f_user, f_savedUser, f_stopped, y_behindTrap, W, a_kept, G, a_register)) : wY_walk_49 post wr us (nI d) (nI t) (nI w) z0 z1 (nI r) y_keptRoot f_logged f_accesses f_faults f_faultAddress y_faultCode f_guard f_keptGuard f_any y_first y_second y_goal y_code f_pc f_savedPc f_cause f_output f_outputs f_traps f_user f_savedUser f_stopped y_behindTrap W a_kept G a_register := by
  unfold wY_walk_49
  refine nm_e (br_t (nI_pos' (by omega)) (nm_r (sg_ix8 r d) ⟨vp_in_nI (by omega) (by omega), ?_⟩))
  rw [nI_clamp (show 8 * r + d < 2 ^ 31 by omega)]
  refine nm_e (br_f h1 (ys_may (fun hA => ys_frameOf ?_) (fun hA => ys_frameOf ?_)))
  · have k1 : (1 : Int32) = 0 ∨ ¬ sg_AL f_guard (W (8 * sg_fr (W (8 * r + d)) + t)) wr us → ¬ (sg_AL f_guard (W (8 * r + d)) wr us ∧ sg_AL f_guard (W (8 * sg_fr (W (8 * r + d)) + t)) wr us) := fun z y => z.elim (fun q => absurd q (by decide)) (fun q => q y.2)
    exact br_c (fun _ => ys_w149D rfl ht h2 h3 (fun _ hB => hy hA hB) (fun z => hn (k1 z))) (fun _ => ys_w149D rfl ht h2 h3 (fun _ hB => hy hA hB) (fun z => hn (k1 z)))
  · exact br_c (fun _ => ys_w149D rfl ht h2 h3 (fun z _ => absurd rfl z) (fun _ => hn (fun y => hA y.1))) (fun _ => ys_w149D rfl ht h2 h3 (fun z _ => absurd rfl z) (fun _ => hn (fun y => hA y.1)))
end
end
section
/-! Y: accesses -/
theorem sg_d8 {i : Nat} (h : i < 128) : nI i / 8 = nI (i / 8) := pk_div (d := 8) (by omega) (by omega) (by omega)
section
variable {f_paging f_guard f_root f_logged f_room f_oldest f_dirWord f_tableFrame f_tableWord f_target f_reached f_faultAddress f_faultCode f_accesses f_faults f_pc f_savedPc f_cause f_output f_outputs f_traps f_user f_savedUser f_stopped f_trapped f_any f_keptPaging f_keptGuard f_keptRoot : Int32} {a_page a_users a_held a_away a_roomRoot a_leadsTo a_rights a_table a_register a_ops a_first a_second a_numbers a_kept : Nat → Int32} {y_root y_keptRoot y_faultCode y_first y_second y_goal y_code y_behindTrap : Int32} {W G : Nat → Int32}
theorem ys_use {post : SY → Prop} {i : Nat} (hi : i < 128) (h : post (y_root, y_keptRoot, f_logged, f_accesses, f_faults, f_faultAddress, y_faultCode, f_guard, f_keptGuard, f_any, y_first, y_second, y_goal, y_code, f_pc, f_savedPc, f_cause, f_output, f_outputs, f_traps, f_user, f_savedUser, f_stopped, y_behindTrap, W, a_kept, upd G (i / 8) 0, a_register)) : wpY_use post (y_root, y_keptRoot, f_logged, f_accesses, f_faults, f_faultAddress, y_faultCode, f_guard, f_keptGuard, f_any, y_first, y_second, y_goal, y_code, f_pc, f_savedPc, f_cause, f_output, f_outputs, f_traps, f_user, f_savedUser, f_stopped, y_behindTrap, W, a_kept, G, a_register) (nI i) := by
  unfold wpY_use
  refine br_f (nI_pos (by omega)) ⟨by decide, ?_⟩
  rw [sg_d8 hi, nI_clamp (show i / 8 < 2 ^ 31 by omega), sg_z0]
  exact ⟨vp_in_nI (by omega) (by omega), nm_e h⟩
theorem ys_useN {post : SY → Prop} (h : post (y_root, y_keptRoot, f_logged, f_accesses, f_faults, f_faultAddress, y_faultCode, f_guard, f_keptGuard, f_any, y_first, y_second, y_goal, y_code, f_pc, f_savedPc, f_cause, f_output, f_outputs, f_traps, f_user, f_savedUser, f_stopped, y_behindTrap, W, a_kept, G, a_register)) : wpY_use post (y_root, y_keptRoot, f_logged, f_accesses, f_faults, f_faultAddress, y_faultCode, f_guard, f_keptGuard, f_any, y_first, y_second, y_goal, y_code, f_pc, f_savedPc, f_cause, f_output, f_outputs, f_traps, f_user, f_savedUser, f_stopped, y_behindTrap, W, a_kept, G, a_register) (-1) := by
  unfold wpY_use
  exact br_t (by decide) h
theorem ys_mark {post : SY → Prop} {i : Nat} {m : Int32} (hi : i < 128) (h : post (y_root, y_keptRoot, sg_mL f_logged W i m, f_accesses, f_faults, f_faultAddress, y_faultCode, f_guard, f_keptGuard, f_any, y_first, y_second, y_goal, y_code, f_pc, f_savedPc, f_cause, f_output, f_outputs, f_traps, f_user, f_savedUser, f_stopped, y_behindTrap, sg_mW W i m, a_kept, G, a_register)) : wpY_mark post (y_root, y_keptRoot, f_logged, f_accesses, f_faults, f_faultAddress, y_faultCode, f_guard, f_keptGuard, f_any, y_first, y_second, y_goal, y_code, f_pc, f_savedPc, f_cause, f_output, f_outputs, f_traps, f_user, f_savedUser, f_stopped, y_behindTrap, W, a_kept, G, a_register) (nI i) m := by
  unfold wpY_mark
  refine br_f (nI_pos (by omega)) ⟨vp_in_nI hi (by omega), ?_⟩
  rw [nI_clamp (show i < 2 ^ 31 by omega), sg_d8 hi]
  by_cases e : W i &&& m = m
  · rw [sg_mL_t e, sg_mW_t e] at h
    exact br_t e h
  · rw [sg_mL_f e, sg_mW_f e] at h
    exact br_f e ⟨vp_in_nI hi (by omega), vp_in_nI hi (by omega), nm_e ⟨by decide, nm_e h⟩⟩
theorem ys_markN {post : SY → Prop} {m : Int32} (h : post (y_root, y_keptRoot, f_logged, f_accesses, f_faults, f_faultAddress, y_faultCode, f_guard, f_keptGuard, f_any, y_first, y_second, y_goal, y_code, f_pc, f_savedPc, f_cause, f_output, f_outputs, f_traps, f_user, f_savedUser, f_stopped, y_behindTrap, W, a_kept, G, a_register)) : wpY_mark post (y_root, y_keptRoot, f_logged, f_accesses, f_faults, f_faultAddress, y_faultCode, f_guard, f_keptGuard, f_any, y_first, y_second, y_goal, y_code, f_pc, f_savedPc, f_cause, f_output, f_outputs, f_traps, f_user, f_savedUser, f_stopped, y_behindTrap, W, a_kept, G, a_register) (-1) m := by
  unfold wpY_mark
  exact br_t (by decide) h
theorem ys_write {post : SY → Prop} {i : Nat} {v : Int32} (hi : i < 128) (h : post (y_root, y_keptRoot, f_logged ||| ((1 : Int32) <<< (nI (i / 8) &&& 31)), f_accesses, f_faults, f_faultAddress, y_faultCode, f_guard, f_keptGuard, f_any, y_first, y_second, y_goal, y_code, f_pc, f_savedPc, f_cause, f_output, f_outputs, f_traps, f_user, f_savedUser, f_stopped, y_behindTrap, upd W i v, a_kept, G, a_register)) : wpY_write post (y_root, y_keptRoot, f_logged, f_accesses, f_faults, f_faultAddress, y_faultCode, f_guard, f_keptGuard, f_any, y_first, y_second, y_goal, y_code, f_pc, f_savedPc, f_cause, f_output, f_outputs, f_traps, f_user, f_savedUser, f_stopped, y_behindTrap, W, a_kept, G, a_register) (nI i) v := by
  unfold wpY_write
  rw [nI_clamp (show i < 2 ^ 31 by omega), sg_d8 hi]
  exact ⟨vp_in_nI hi (by omega), nm_e ⟨by decide, nm_e h⟩⟩
theorem ys_84N {post : Int32 → SY → Prop} {i : Nat} {x4 : Int32} (hi : i < 128) (h : post y_goal (y_root, y_keptRoot, sg_mL f_logged W i x4, f_accesses, f_faults, f_faultAddress, y_faultCode, f_guard, f_keptGuard, f_any, nI i, (-1), y_goal, y_code, f_pc, f_savedPc, f_cause, f_output, f_outputs, f_traps, f_user, f_savedUser, f_stopped, y_behindTrap, sg_mW W i x4, a_kept, G, a_register)) : wY_access_84 post x4 y_root y_keptRoot f_logged f_accesses f_faults f_faultAddress y_faultCode f_guard f_keptGuard f_any (nI i) (-1) y_goal y_code f_pc f_savedPc f_cause f_output f_outputs f_traps f_user f_savedUser f_stopped y_behindTrap W a_kept G a_register := by
  unfold wY_access_84
  refine br_f (by decide) ?_
  unfold wY_access_105
  refine ys_mark hi ?_
  exact ys_markN h
theorem ys_84F {post : Int32 → SY → Prop} {x4 : Int32} (h : post y_goal (y_root, y_keptRoot, f_logged, f_accesses, f_faults, f_faultAddress, y_faultCode, f_guard, f_keptGuard, f_any, (-1), (-1), y_goal, y_code, f_pc, f_savedPc, f_cause, f_output, f_outputs, f_traps, f_user, f_savedUser, f_stopped, y_behindTrap, W, a_kept, G, a_register)) : wY_access_84 post x4 y_root y_keptRoot f_logged f_accesses f_faults f_faultAddress y_faultCode f_guard f_keptGuard f_any (-1) (-1) y_goal y_code f_pc f_savedPc f_cause f_output f_outputs f_traps f_user f_savedUser f_stopped y_behindTrap W a_kept G a_register := by
  unfold wY_access_84
  refine br_f (by decide) ?_
  unfold wY_access_105
  refine ys_markN ?_
  exact ys_markN h
theorem ys_84T {post : Int32 → SY → Prop} {i j : Nat} {x4 : Int32} (hi : i < 128) (hj : j < 128) (h : post y_goal (y_root, y_keptRoot, sg_mL (sg_mL f_logged W i 8) (sg_mW W i 8) j x4, f_accesses, f_faults, f_faultAddress, y_faultCode, f_guard, f_keptGuard, f_any, nI i, nI j, y_goal, y_code, f_pc, f_savedPc, f_cause, f_output, f_outputs, f_traps, f_user, f_savedUser, f_stopped, y_behindTrap, sg_mW (sg_mW W i 8) j x4, a_kept, G, a_register)) : wY_access_84 post x4 y_root y_keptRoot f_logged f_accesses f_faults f_faultAddress y_faultCode f_guard f_keptGuard f_any (nI i) (nI j) y_goal y_code f_pc f_savedPc f_cause f_output f_outputs f_traps f_user f_savedUser f_stopped y_behindTrap W a_kept G a_register := by
  unfold wY_access_84
  refine br_t (nI_pos' (by omega)) ?_
  unfold wY_access_105
  refine ys_mark hi ?_
  exact ys_mark hj h
/-- no paging -/
theorem ys_accF {post : Int32 → SY → Prop} {a g : Nat} {wr us cd : Int32} (hg : g < 128)
    (hw : ∀ post : SY → Prop, post (y_root, y_keptRoot, f_logged, f_accesses, f_faults, f_faultAddress, y_faultCode, f_guard, f_keptGuard, f_any, (-1), (-1), nI g, cd, f_pc, f_savedPc, f_cause, f_output, f_outputs, f_traps, f_user, f_savedUser, f_stopped, y_behindTrap, W, a_kept, G, a_register) → wpY_walk post (y_root, y_keptRoot, f_logged, f_accesses, f_faults, f_faultAddress, y_faultCode, f_guard, f_keptGuard, f_any, y_first, y_second, y_goal, y_code, f_pc, f_savedPc, f_cause, f_output, f_outputs, f_traps, f_user, f_savedUser, f_stopped, y_behindTrap, W, a_kept, G, a_register) (nI a) wr us)
    (h : post (nI g) (y_root, y_keptRoot, f_logged, f_accesses + 1, f_faults, f_faultAddress, y_faultCode, f_guard, f_keptGuard, f_any, (-1), (-1), nI g, cd, f_pc, f_savedPc, f_cause, f_output, f_outputs, f_traps, f_user, f_savedUser, f_stopped, y_behindTrap, W, a_kept, upd G (g / 8) 0, a_register)) : wpY_access post (y_root, y_keptRoot, f_logged, f_accesses, f_faults, f_faultAddress, y_faultCode, f_guard, f_keptGuard, f_any, y_first, y_second, y_goal, y_code, f_pc, f_savedPc, f_cause, f_output, f_outputs, f_traps, f_user, f_savedUser, f_stopped, y_behindTrap, W, a_kept, G, a_register) (nI a) wr us := by
  unfold wpY_access
  refine hw _ ?_
  refine nm_e ?_
  refine ys_useN ?_
  refine ys_useN ?_
  refine br_t (nI_pos' (by omega)) ?_
  refine ys_use hg ?_
  exact br_c (fun _ => ys_84F h) (fun _ => ys_84F h)
/-- a big page -/
theorem ys_accB {post : Int32 → SY → Prop} {a g i : Nat} {wr us cd : Int32} (hg : g < 128) (hi : i < 128)
    (hw : ∀ post : SY → Prop, post (y_root, y_keptRoot, f_logged, f_accesses, f_faults, f_faultAddress, y_faultCode, f_guard, f_keptGuard, f_any, nI i, (-1), nI g, cd, f_pc, f_savedPc, f_cause, f_output, f_outputs, f_traps, f_user, f_savedUser, f_stopped, y_behindTrap, W, a_kept, G, a_register) → wpY_walk post (y_root, y_keptRoot, f_logged, f_accesses, f_faults, f_faultAddress, y_faultCode, f_guard, f_keptGuard, f_any, y_first, y_second, y_goal, y_code, f_pc, f_savedPc, f_cause, f_output, f_outputs, f_traps, f_user, f_savedUser, f_stopped, y_behindTrap, W, a_kept, G, a_register) (nI a) wr us)
    (h : post (nI g) (y_root, y_keptRoot, sg_mL f_logged W i (sg_lm wr), f_accesses + 1, f_faults, f_faultAddress, y_faultCode, f_guard, f_keptGuard, f_any, nI i, (-1), nI g, cd, f_pc, f_savedPc, f_cause, f_output, f_outputs, f_traps, f_user, f_savedUser, f_stopped, y_behindTrap, sg_mW W i (sg_lm wr), a_kept, upd (upd G (i / 8) 0) (g / 8) 0, a_register)) : wpY_access post (y_root, y_keptRoot, f_logged, f_accesses, f_faults, f_faultAddress, y_faultCode, f_guard, f_keptGuard, f_any, y_first, y_second, y_goal, y_code, f_pc, f_savedPc, f_cause, f_output, f_outputs, f_traps, f_user, f_savedUser, f_stopped, y_behindTrap, W, a_kept, G, a_register) (nI a) wr us := by
  unfold wpY_access
  refine hw _ ?_
  refine nm_e ?_
  refine ys_use hi ?_
  refine ys_useN ?_
  refine br_t (nI_pos' (by omega)) ?_
  refine ys_use hg ?_
  by_cases e : wr = 0
  · rw [show sg_lm wr = 8 by unfold sg_lm; rw [if_pos e]] at h
    exact br_t e (ys_84N hi h)
  · rw [show sg_lm wr = 24 by unfold sg_lm; rw [if_neg e]] at h
    exact br_f e (ys_84N hi h)
/-- by a table -/
theorem ys_accT {post : Int32 → SY → Prop} {a g i j : Nat} {wr us cd : Int32} (hg : g < 128) (hi : i < 128) (hj : j < 128)
    (hw : ∀ post : SY → Prop, post (y_root, y_keptRoot, f_logged, f_accesses, f_faults, f_faultAddress, y_faultCode, f_guard, f_keptGuard, f_any, nI i, nI j, nI g, cd, f_pc, f_savedPc, f_cause, f_output, f_outputs, f_traps, f_user, f_savedUser, f_stopped, y_behindTrap, W, a_kept, G, a_register) → wpY_walk post (y_root, y_keptRoot, f_logged, f_accesses, f_faults, f_faultAddress, y_faultCode, f_guard, f_keptGuard, f_any, y_first, y_second, y_goal, y_code, f_pc, f_savedPc, f_cause, f_output, f_outputs, f_traps, f_user, f_savedUser, f_stopped, y_behindTrap, W, a_kept, G, a_register) (nI a) wr us)
    (h : post (nI g) (y_root, y_keptRoot, sg_mL (sg_mL f_logged W i 8) (sg_mW W i 8) j (sg_lm wr), f_accesses + 1, f_faults, f_faultAddress, y_faultCode, f_guard, f_keptGuard, f_any, nI i, nI j, nI g, cd, f_pc, f_savedPc, f_cause, f_output, f_outputs, f_traps, f_user, f_savedUser, f_stopped, y_behindTrap, sg_mW (sg_mW W i 8) j (sg_lm wr), a_kept, upd (upd (upd G (i / 8) 0) (j / 8) 0) (g / 8) 0, a_register)) : wpY_access post (y_root, y_keptRoot, f_logged, f_accesses, f_faults, f_faultAddress, y_faultCode, f_guard, f_keptGuard, f_any, y_first, y_second, y_goal, y_code, f_pc, f_savedPc, f_cause, f_output, f_outputs, f_traps, f_user, f_savedUser, f_stopped, y_behindTrap, W, a_kept, G, a_register) (nI a) wr us := by
  unfold wpY_access
  refine hw _ ?_
  refine nm_e ?_
  refine ys_use hi ?_
  refine ys_use hj ?_
  refine br_t (nI_pos' (by omega)) ?_
  refine ys_use hg ?_
  by_cases e : wr = 0
  · rw [show sg_lm wr = 8 by unfold sg_lm; rw [if_pos e]] at h
    exact br_t e (ys_84T hi hj h)
  · rw [show sg_lm wr = 24 by unfold sg_lm; rw [if_neg e]] at h
    exact br_f e (ys_84T hi hj h)
/-- a fault behind the directory -/
theorem ys_acc1 {post : Int32 → SY → Prop} {a i : Nat} {wr us cd : Int32} (hi : i < 128)
    (hw : ∀ post : SY → Prop, post (y_root, y_keptRoot, f_logged, f_accesses, f_faults, f_faultAddress, y_faultCode, f_guard, f_keptGuard, f_any, nI i, (-1), (-1), cd, f_pc, f_savedPc, f_cause, f_output, f_outputs, f_traps, f_user, f_savedUser, f_stopped, y_behindTrap, W, a_kept, G, a_register) → wpY_walk post (y_root, y_keptRoot, f_logged, f_accesses, f_faults, f_faultAddress, y_faultCode, f_guard, f_keptGuard, f_any, y_first, y_second, y_goal, y_code, f_pc, f_savedPc, f_cause, f_output, f_outputs, f_traps, f_user, f_savedUser, f_stopped, y_behindTrap, W, a_kept, G, a_register) (nI a) wr us)
    (h : post (-1) (y_root, y_keptRoot, f_logged, f_accesses + 1, f_faults + 1, nI a, cd, f_guard, f_keptGuard, f_any, nI i, (-1), (-1), cd, f_pc, f_savedPc, f_cause, f_output, f_outputs, f_traps, f_user, f_savedUser, f_stopped, y_behindTrap, W, a_kept, upd G (i / 8) 0, a_register)) : wpY_access post (y_root, y_keptRoot, f_logged, f_accesses, f_faults, f_faultAddress, y_faultCode, f_guard, f_keptGuard, f_any, y_first, y_second, y_goal, y_code, f_pc, f_savedPc, f_cause, f_output, f_outputs, f_traps, f_user, f_savedUser, f_stopped, y_behindTrap, W, a_kept, G, a_register) (nI a) wr us := by
  unfold wpY_access
  refine hw _ ?_
  refine nm_e ?_
  refine ys_use hi ?_
  refine ys_useN ?_
  exact br_f (by decide) (nm_e h)
theorem ys_acc2 {post : Int32 → SY → Prop} {a i j : Nat} {wr us cd : Int32} (hi : i < 128) (hj : j < 128)
    (hw : ∀ post : SY → Prop, post (y_root, y_keptRoot, f_logged, f_accesses, f_faults, f_faultAddress, y_faultCode, f_guard, f_keptGuard, f_any, nI i, nI j, (-1), cd, f_pc, f_savedPc, f_cause, f_output, f_outputs, f_traps, f_user, f_savedUser, f_stopped, y_behindTrap, W, a_kept, G, a_register) → wpY_walk post (y_root, y_keptRoot, f_logged, f_accesses, f_faults, f_faultAddress, y_faultCode, f_guard, f_keptGuard, f_any, y_first, y_second, y_goal, y_code, f_pc, f_savedPc, f_cause, f_output, f_outputs, f_traps, f_user, f_savedUser, f_stopped, y_behindTrap, W, a_kept, G, a_register) (nI a) wr us)
    (h : post (-1) (y_root, y_keptRoot, f_logged, f_accesses + 1, f_faults + 1, nI a, cd, f_guard, f_keptGuard, f_any, nI i, nI j, (-1), cd, f_pc, f_savedPc, f_cause, f_output, f_outputs, f_traps, f_user, f_savedUser, f_stopped, y_behindTrap, W, a_kept, upd (upd G (i / 8) 0) (j / 8) 0, a_register)) : wpY_access post (y_root, y_keptRoot, f_logged, f_accesses, f_faults, f_faultAddress, y_faultCode, f_guard, f_keptGuard, f_any, y_first, y_second, y_goal, y_code, f_pc, f_savedPc, f_cause, f_output, f_outputs, f_traps, f_user, f_savedUser, f_stopped, y_behindTrap, W, a_kept, G, a_register) (nI a) wr us := by
  unfold wpY_access
  refine hw _ ?_
  refine nm_e ?_
  refine ys_use hi ?_
  refine ys_use hj ?_
  exact br_f (by decide) (nm_e h)
end
end
section
/-! both: an access -/
def sg_fc (gv wr us : Int32) : Int32 := ((if 0 ≤ gv then 1 else 0) + (if wr = 0 then 0 else 2)) + (if us = 0 then 0 else 4)
theorem sg_fc_n (wr us : Int32) : sg_fc (-1) wr us = sg_cd wr us := by
  unfold sg_fc sg_cd
  by_cases hw : wr = 0 <;> by_cases hu : us = 0 <;> simp only [hw, hu, if_true, if_false] <;> decide
theorem sg_fc_p {gv : Int32} (wr us : Int32) (h : ¬ gv < 0) : sg_fc gv wr us = sg_cd wr us + 1 := by
  unfold sg_fc sg_cd
  rw [if_pos (Int32.not_lt.mp h)]
  by_cases hw : wr = 0 <;> by_cases hu : us = 0 <;> simp only [hw, hu, if_true, if_false] <;> decide
theorem sg_S_G {pg us he aw rr lt rg tb op fi se nu W G : Nat → Int32} {gd : Int32} {f : Nat} (h : sg_S pg us he aw rr lt rg tb op fi se nu gd W G) (e : G f = 0) : sg_S pg us he aw rr lt rg tb op fi se nu gd W (upd G f 0) := by
  have k : ∀ j, upd G f 0 j = G j := by
    intro j
    by_cases z : j = f
    · rw [z, pk_us, e]
    · rw [pk_un z]
  exact ⟨sg_M_G h.1 (fun j _ => k j), sg_C_G h.2.1 (fun j hj => (k j).trans hj), h.2.2⟩
theorem sg_u0 {G : Nat → Int32} {f : Nat} : ∀ j, G j = 0 → upd G f 0 j = 0 := by
  intro j h
  by_cases z : j = f
  · rw [z, pk_us]
  · rw [pk_un z, h]
theorem sg_and6 (x y : Int32) : (x &&& y) &&& 6 = (x &&& 6) &&& (y &&& 6) := by
  apply b_ext
  intro i _
  rw [b_and, b_and, b_and, b_and, b_and]
  cases bt x i <;> cases bt y i <;> cases bt 6 i <;> rfl
theorem sg_lm8 {x wr : Int32} (h : x &&& sg_lm wr = sg_lm wr) : x &&& 8 = 8 := by
  unfold sg_lm at h
  by_cases hw : wr = 0
  · rwa [if_pos hw] at h
  · rw [if_neg hw] at h
    exact (sg_e8 x).mpr ((sg_e24 x).mp h).1
theorem sg_8lm {x wr : Int32} (h : x &&& 8 = 8) (k : wr = 0 ∨ x &&& 16 = 16) : x &&& sg_lm wr = sg_lm wr := by
  unfold sg_lm
  by_cases hw : wr = 0
  · rwa [if_pos hw]
  · rw [if_neg hw]
    exact (sg_e24 x).mpr ⟨(sg_e8 x).mp h, (sg_e16 x).mp (k.resolve_left hw)⟩
section
variable (f_paging f_guard f_root f_logged f_room f_oldest f_dirWord f_tableFrame f_tableWord f_target f_reached f_faultAddress f_faultCode f_accesses f_faults f_pc f_savedPc f_cause f_output f_outputs f_traps f_user f_savedUser f_stopped f_trapped f_any f_keptPaging f_keptGuard f_keptRoot y_root y_keptRoot y_faultCode y_first y_second y_goal y_code y_behindTrap : Int32) (a_page a_users a_held a_away a_roomRoot a_leadsTo a_rights a_table a_register a_ops a_first a_second a_numbers a_kept W G : Nat → Int32)
/-- what an access comes to, on both sides -/
def sg_RO (a : Nat) (wr us : Int32) : Prop :=
  ∃ (f_logged' f_dirWord' f_tableFrame' f_tableWord' f_target' f_reached' f_faultAddress' f_faultCode' f_accesses' f_faults' y_first' y_second' y_goal' y_code' y_faultCode' : Int32) (a_page' a_users' a_held' a_away' a_leadsTo' a_rights' a_table' a_ops' W' G' : Nat → Int32), sg_S a_page' a_users' a_held' a_away' a_roomRoot a_leadsTo' a_rights' a_table' a_ops' a_first a_second a_numbers f_guard W' G' ∧ sg_Fa f_faultAddress' f_faultCode' y_faultCode' ∧
    (((∀ post : Int32 → SX → Prop, post 0 (f_paging, f_guard, f_root, f_logged', f_room, f_oldest, f_dirWord', f_tableFrame', f_tableWord', f_target', f_reached', f_faultAddress', f_faultCode', f_accesses', f_faults', f_pc, f_savedPc, f_cause, f_output, f_outputs, f_traps, f_user, f_savedUser, f_stopped, f_trapped, f_any, f_keptPaging, f_keptGuard, f_keptRoot, a_page', a_users', a_held', a_away', a_roomRoot, a_leadsTo', a_rights', a_table', a_register, a_ops', a_first, a_second, a_numbers, a_kept) → wpX_reach post (f_paging, f_guard, f_root, f_logged, f_room, f_oldest, f_dirWord, f_tableFrame, f_tableWord, f_target, f_reached, f_faultAddress, f_faultCode, f_accesses, f_faults, f_pc, f_savedPc, f_cause, f_output, f_outputs, f_traps, f_user, f_savedUser, f_stopped, f_trapped, f_any, f_keptPaging, f_keptGuard, f_keptRoot, a_page, a_users, a_held, a_away, a_roomRoot, a_leadsTo, a_rights, a_table, a_register, a_ops, a_first, a_second, a_numbers, a_kept) (nI a) wr us) ∧ (∀ post : Int32 → SY → Prop, post (-1) (y_root, y_keptRoot, f_logged', f_accesses', f_faults', f_faultAddress', y_faultCode', f_guard, f_keptGuard, f_any, y_first', y_second', y_goal', y_code', f_pc, f_savedPc, f_cause, f_output, f_outputs, f_traps, f_user, f_savedUser, f_stopped, y_behindTrap, W', a_kept, G', a_register) → wpY_access post (y_root, y_keptRoot, f_logged, f_accesses, f_faults, f_faultAddress, y_faultCode, f_guard, f_keptGuard, f_any, y_first, y_second, y_goal, y_code, f_pc, f_savedPc, f_cause, f_output, f_outputs, f_traps, f_user, f_savedUser, f_stopped, y_behindTrap, W, a_kept, G, a_register) (nI a) wr us)) ∨
     (∃ g, g < 16 ∧ f_reached' = nI g ∧ (∀ post : Int32 → SX → Prop, post 1 (f_paging, f_guard, f_root, f_logged', f_room, f_oldest, f_dirWord', f_tableFrame', f_tableWord', f_target', f_reached', f_faultAddress', f_faultCode', f_accesses', f_faults', f_pc, f_savedPc, f_cause, f_output, f_outputs, f_traps, f_user, f_savedUser, f_stopped, f_trapped, f_any, f_keptPaging, f_keptGuard, f_keptRoot, a_page', a_users', a_held', a_away', a_roomRoot, a_leadsTo', a_rights', a_table', a_register, a_ops', a_first, a_second, a_numbers, a_kept) → wpX_reach post (f_paging, f_guard, f_root, f_logged, f_room, f_oldest, f_dirWord, f_tableFrame, f_tableWord, f_target, f_reached, f_faultAddress, f_faultCode, f_accesses, f_faults, f_pc, f_savedPc, f_cause, f_output, f_outputs, f_traps, f_user, f_savedUser, f_stopped, f_trapped, f_any, f_keptPaging, f_keptGuard, f_keptRoot, a_page, a_users, a_held, a_away, a_roomRoot, a_leadsTo, a_rights, a_table, a_register, a_ops, a_first, a_second, a_numbers, a_kept) (nI a) wr us) ∧ (∀ post : Int32 → SY → Prop, post (nI (8 * g + a % 8)) (y_root, y_keptRoot, f_logged', f_accesses', f_faults', f_faultAddress', y_faultCode', f_guard, f_keptGuard, f_any, y_first', y_second', y_goal', y_code', f_pc, f_savedPc, f_cause, f_output, f_outputs, f_traps, f_user, f_savedUser, f_stopped, y_behindTrap, W', a_kept, G', a_register) → wpY_access post (y_root, y_keptRoot, f_logged, f_accesses, f_faults, f_faultAddress, y_faultCode, f_guard, f_keptGuard, f_any, y_first, y_second, y_goal, y_code, f_pc, f_savedPc, f_cause, f_output, f_outputs, f_traps, f_user, f_savedUser, f_stopped, y_behindTrap, W, a_kept, G, a_register) (nI a) wr us)))
end
section
variable {f_paging f_guard f_root f_logged f_room f_oldest f_dirWord f_tableFrame f_tableWord f_target f_reached f_faultAddress f_faultCode f_accesses f_faults f_pc f_savedPc f_cause f_output f_outputs f_traps f_user f_savedUser f_stopped f_trapped f_any f_keptPaging f_keptGuard f_keptRoot : Int32} {a_page a_users a_held a_away a_roomRoot a_leadsTo a_rights a_table a_register a_ops a_first a_second a_numbers a_kept : Nat → Int32} {y_root y_keptRoot y_faultCode y_first y_second y_goal y_code y_behindTrap : Int32} {W G : Nat → Int32}
theorem xs_reach_in {post : Int32 → SX → Prop} {a c : Nat} {wr us : Int32} (ha : a < 512) (hp : ¬ f_paging = 0) (h : wX_reach_74 post (nI a) wr us (nI (64 * c + 8 * (a / 64) + a / 8 % 8)) (sg_nd wr us) f_paging f_guard f_root f_logged (nI c) f_oldest f_dirWord f_tableFrame f_tableWord f_target f_reached f_faultAddress f_faultCode (f_accesses + 1) f_faults f_pc f_savedPc f_cause f_output f_outputs f_traps f_user f_savedUser f_stopped f_trapped f_any f_keptPaging f_keptGuard f_keptRoot a_page a_users a_held a_away a_roomRoot a_leadsTo a_rights a_table a_register a_ops a_first a_second a_numbers a_kept) : wpX_reach post (f_paging, f_guard, f_root, f_logged, nI c, f_oldest, f_dirWord, f_tableFrame, f_tableWord, f_target, f_reached, f_faultAddress, f_faultCode, f_accesses, f_faults, f_pc, f_savedPc, f_cause, f_output, f_outputs, f_traps, f_user, f_savedUser, f_stopped, f_trapped, f_any, f_keptPaging, f_keptGuard, f_keptRoot, a_page, a_users, a_held, a_away, a_roomRoot, a_leadsTo, a_rights, a_table, a_register, a_ops, a_first, a_second, a_numbers, a_kept) (nI a) wr us := by
  unfold wpX_reach
  refine nm_e (br_f hp (nm_r (e' := nI (64 * c + 8 * (a / 64) + a / 8 % 8)) ?_ ?_))
  · rw [sg_sh3 ha, sg_m64, nI_add]
    congr 1
    omega
  · unfold sg_nd at h
    by_cases hw : wr = 0
    · rw [if_pos hw] at h
      refine br_t hw ?_
      by_cases hu : us = 0
      · rw [if_pos hu] at h
        exact br_t hu h
      · rw [if_neg hu] at h
        exact br_f hu h
    · rw [if_neg hw] at h
      refine br_f hw ?_
      by_cases hu : us = 0
      · rw [if_pos hu] at h
        exact br_t hu h
      · rw [if_neg hu] at h
        exact br_f hu h
theorem xs_reach_hit {post : Int32 → SX → Prop} {k g : Nat} {x1 x2 x3 z0 : Int32} (hk : k < 192) (hn : ¬ a_rights k &&& z0 = 0) (hl : a_leadsTo k = nI g) (h : post 1 (f_paging, f_guard, f_root, f_logged, f_room, f_oldest, f_dirWord, f_tableFrame, f_tableWord, f_target, nI g, f_faultAddress, f_faultCode, f_accesses, f_faults, f_pc, f_savedPc, f_cause, f_output, f_outputs, f_traps, f_user, f_savedUser, f_stopped, f_trapped, f_any, f_keptPaging, f_keptGuard, f_keptRoot, a_page, a_users, a_held, a_away, a_roomRoot, a_leadsTo, a_rights, a_table, a_register, a_ops, a_first, a_second, a_numbers, a_kept)) : wX_reach_74 post x1 x2 x3 (nI k) z0 f_paging f_guard f_root f_logged f_room f_oldest f_dirWord f_tableFrame f_tableWord f_target f_reached f_faultAddress f_faultCode f_accesses f_faults f_pc f_savedPc f_cause f_output f_outputs f_traps f_user f_savedUser f_stopped f_trapped f_any f_keptPaging f_keptGuard f_keptRoot a_page a_users a_held a_away a_roomRoot a_leadsTo a_rights a_table a_register a_ops a_first a_second a_numbers a_kept := by
  unfold wX_reach_74
  rw [nI_clamp (show k < 2 ^ 31 by omega)]
  exact ⟨vp_in_nI hk (by omega), br_f hn ⟨vp_in_nI hk (by omega), nm_r hl h⟩⟩
theorem xs_reach_147 {post : Int32 → SX → Prop} {z0 wr us : Int32} (h : post 0 (f_paging, f_guard, f_root, f_logged, f_room, f_oldest, f_dirWord, f_tableFrame, f_tableWord, f_target, f_reached, f_faultAddress, (z0 + (if wr = 0 then 0 else 2)) + (if us = 0 then 0 else 4), f_accesses, f_faults, f_pc, f_savedPc, f_cause, f_output, f_outputs, f_traps, f_user, f_savedUser, f_stopped, f_trapped, f_any, f_keptPaging, f_keptGuard, f_keptRoot, a_page, a_users, a_held, a_away, a_roomRoot, a_leadsTo, a_rights, a_table, a_register, a_ops, a_first, a_second, a_numbers, a_kept)) : wX_reach_147 post wr us z0 f_paging f_guard f_root f_logged f_room f_oldest f_dirWord f_tableFrame f_tableWord f_target f_reached f_faultAddress f_faultCode f_accesses f_faults f_pc f_savedPc f_cause f_output f_outputs f_traps f_user f_savedUser f_stopped f_trapped f_any f_keptPaging f_keptGuard f_keptRoot a_page a_users a_held a_away a_roomRoot a_leadsTo a_rights a_table a_register a_ops a_first a_second a_numbers a_kept := by
  unfold wX_reach_147
  by_cases hw : wr = 0
  · rw [if_pos hw] at h
    refine br_t hw ?_
    unfold wX_reach_156
    by_cases hu : us = 0
    · rw [if_pos hu] at h
      exact br_t hu (nm_e h)
    · rw [if_neg hu] at h
      exact br_f hu (nm_e h)
  · rw [if_neg hw] at h
    refine br_f hw ?_
    unfold wX_reach_156
    by_cases hu : us = 0
    · rw [if_pos hu] at h
      exact br_t hu (nm_e h)
    · rw [if_neg hu] at h
      exact br_f hu (nm_e h)
theorem xs_reach_f {post : Int32 → SX → Prop} {k a : Nat} {gv dw tf tw tg wr us z0 : Int32} {pg ue he : Nat → Int32} (hk : k < 192) (hn : a_rights k &&& z0 = 0)
    (hw : ∀ post : Int32 → SX → Prop, post gv (f_paging, f_guard, f_root, f_logged, f_room, f_oldest, dw, tf, tw, tg, f_reached, f_faultAddress, f_faultCode, f_accesses, f_faults, f_pc, f_savedPc, f_cause, f_output, f_outputs, f_traps, f_user, f_savedUser, f_stopped, f_trapped, f_any, f_keptPaging, f_keptGuard, f_keptRoot, pg, ue, he, a_away, a_roomRoot, a_leadsTo, a_rights, a_table, a_register, a_ops, a_first, a_second, a_numbers, a_kept) → wpX_walk post (f_paging, f_guard, f_root, f_logged, f_room, f_oldest, f_dirWord, f_tableFrame, f_tableWord, f_target, f_reached, f_faultAddress, f_faultCode, f_accesses, f_faults, f_pc, f_savedPc, f_cause, f_output, f_outputs, f_traps, f_user, f_savedUser, f_stopped, f_trapped, f_any, f_keptPaging, f_keptGuard, f_keptRoot, a_page, a_users, a_held, a_away, a_roomRoot, a_leadsTo, a_rights, a_table, a_register, a_ops, a_first, a_second, a_numbers, a_kept) (nI a) 1)
    (hal : gv < 0 ∨ ¬ gv < 0 ∧ ¬ sg_AL f_guard gv wr us)
    (h : post 0 (f_paging, f_guard, f_root, f_logged, f_room, f_oldest, dw, tf, tw, tg, f_reached, nI a, sg_fc gv wr us, f_accesses, f_faults + 1, f_pc, f_savedPc, f_cause, f_output, f_outputs, f_traps, f_user, f_savedUser, f_stopped, f_trapped, f_any, f_keptPaging, f_keptGuard, f_keptRoot, pg, ue, he, a_away, a_roomRoot, a_leadsTo, a_rights, a_table, a_register, a_ops, a_first, a_second, a_numbers, a_kept)) : wX_reach_74 post (nI a) wr us (nI k) z0 f_paging f_guard f_root f_logged f_room f_oldest f_dirWord f_tableFrame f_tableWord f_target f_reached f_faultAddress f_faultCode f_accesses f_faults f_pc f_savedPc f_cause f_output f_outputs f_traps f_user f_savedUser f_stopped f_trapped f_any f_keptPaging f_keptGuard f_keptRoot a_page a_users a_held a_away a_roomRoot a_leadsTo a_rights a_table a_register a_ops a_first a_second a_numbers a_kept := by
  unfold wX_reach_74
  rw [nI_clamp (show k < 2 ^ 31 by omega)]
  refine ⟨vp_in_nI hk (by omega), br_t hn (hw _ ?_)⟩
  rcases hal with hg | ⟨hg, hA⟩
  · refine xs_allowedN hg ?_
    refine br_t rfl (nm_e (br_f (fun z => absurd hg (Int32.not_lt.mpr z)) (xs_reach_147 ?_)))
    unfold sg_fc at h
    rw [if_neg (fun z => absurd hg (Int32.not_lt.mpr z))] at h
    exact h
  · refine xs_allowed hg (fun z => absurd z hA) (fun _ => ?_)
    refine br_t rfl (nm_e (br_t (Int32.not_lt.mp hg) (xs_reach_147 ?_)))
    unfold sg_fc at h
    rw [if_pos (Int32.not_lt.mp hg)] at h
    exact h
theorem xs_reach_ok {post : Int32 → SX → Prop} {k a g : Nat} {gv dw tf tw lg wr us z0 : Int32} {pg ue he pg2 us2 he2 pg3 us3 he3 aw3 rg3 tb3 op3 lt4 rg4 tb4 : Nat → Int32} (hk : k < 192) (hn : a_rights k &&& z0 = 0)
    (hw : ∀ post : Int32 → SX → Prop, post gv (f_paging, f_guard, f_root, f_logged, f_room, f_oldest, dw, tf, tw, nI g, f_reached, f_faultAddress, f_faultCode, f_accesses, f_faults, f_pc, f_savedPc, f_cause, f_output, f_outputs, f_traps, f_user, f_savedUser, f_stopped, f_trapped, f_any, f_keptPaging, f_keptGuard, f_keptRoot, pg, ue, he, a_away, a_roomRoot, a_leadsTo, a_rights, a_table, a_register, a_ops, a_first, a_second, a_numbers, a_kept) → wpX_walk post (f_paging, f_guard, f_root, f_logged, f_room, f_oldest, f_dirWord, f_tableFrame, f_tableWord, f_target, f_reached, f_faultAddress, f_faultCode, f_accesses, f_faults, f_pc, f_savedPc, f_cause, f_output, f_outputs, f_traps, f_user, f_savedUser, f_stopped, f_trapped, f_any, f_keptPaging, f_keptGuard, f_keptRoot, a_page, a_users, a_held, a_away, a_roomRoot, a_leadsTo, a_rights, a_table, a_register, a_ops, a_first, a_second, a_numbers, a_kept) (nI a) 1)
    (hg : ¬ gv < 0) (hA : sg_AL f_guard gv wr us)
    (hu : ∀ post : SX → Prop, post (f_paging, f_guard, f_root, f_logged, f_room, f_oldest, dw, tf, tw, nI g, nI g, f_faultAddress, f_faultCode, f_accesses, f_faults, f_pc, f_savedPc, f_cause, f_output, f_outputs, f_traps, f_user, f_savedUser, f_stopped, f_trapped, f_any, f_keptPaging, f_keptGuard, f_keptRoot, pg2, us2, he2, a_away, a_roomRoot, a_leadsTo, a_rights, a_table, a_register, a_ops, a_first, a_second, a_numbers, a_kept) → wpX_use post (f_paging, f_guard, f_root, f_logged, f_room, f_oldest, dw, tf, tw, nI g, nI g, f_faultAddress, f_faultCode, f_accesses, f_faults, f_pc, f_savedPc, f_cause, f_output, f_outputs, f_traps, f_user, f_savedUser, f_stopped, f_trapped, f_any, f_keptPaging, f_keptGuard, f_keptRoot, pg, ue, he, a_away, a_roomRoot, a_leadsTo, a_rights, a_table, a_register, a_ops, a_first, a_second, a_numbers, a_kept) (nI g))
    (hm : ∀ post : SX → Prop, post (f_paging, f_guard, f_root, lg, f_room, f_oldest, dw, tf, tw, nI g, nI g, f_faultAddress, f_faultCode, f_accesses, f_faults, f_pc, f_savedPc, f_cause, f_output, f_outputs, f_traps, f_user, f_savedUser, f_stopped, f_trapped, f_any, f_keptPaging, f_keptGuard, f_keptRoot, pg3, us3, he3, aw3, a_roomRoot, a_leadsTo, rg3, tb3, a_register, op3, a_first, a_second, a_numbers, a_kept) → wpX_mark post (f_paging, f_guard, f_root, f_logged, f_room, f_oldest, dw, tf, tw, nI g, nI g, f_faultAddress, f_faultCode, f_accesses, f_faults, f_pc, f_savedPc, f_cause, f_output, f_outputs, f_traps, f_user, f_savedUser, f_stopped, f_trapped, f_any, f_keptPaging, f_keptGuard, f_keptRoot, pg2, us2, he2, a_away, a_roomRoot, a_leadsTo, a_rights, a_table, a_register, a_ops, a_first, a_second, a_numbers, a_kept) wr)
    (hr : ∀ post : SX → Prop, post (f_paging, f_guard, f_root, lg, f_room, f_oldest, dw, tf, tw, nI g, nI g, f_faultAddress, f_faultCode, f_accesses, f_faults, f_pc, f_savedPc, f_cause, f_output, f_outputs, f_traps, f_user, f_savedUser, f_stopped, f_trapped, f_any, f_keptPaging, f_keptGuard, f_keptRoot, pg3, us3, he3, aw3, a_roomRoot, lt4, rg4, tb4, a_register, op3, a_first, a_second, a_numbers, a_kept) → wpX_remember post (f_paging, f_guard, f_root, lg, f_room, f_oldest, dw, tf, tw, nI g, nI g, f_faultAddress, f_faultCode, f_accesses, f_faults, f_pc, f_savedPc, f_cause, f_output, f_outputs, f_traps, f_user, f_savedUser, f_stopped, f_trapped, f_any, f_keptPaging, f_keptGuard, f_keptRoot, pg3, us3, he3, aw3, a_roomRoot, a_leadsTo, rg3, tb3, a_register, op3, a_first, a_second, a_numbers, a_kept) (nI k) gv)
    (h : post 1 (f_paging, f_guard, f_root, lg, f_room, f_oldest, dw, tf, tw, nI g, nI g, f_faultAddress, f_faultCode, f_accesses, f_faults, f_pc, f_savedPc, f_cause, f_output, f_outputs, f_traps, f_user, f_savedUser, f_stopped, f_trapped, f_any, f_keptPaging, f_keptGuard, f_keptRoot, pg3, us3, he3, aw3, a_roomRoot, lt4, rg4, tb4, a_register, op3, a_first, a_second, a_numbers, a_kept)) : wX_reach_74 post (nI a) wr us (nI k) z0 f_paging f_guard f_root f_logged f_room f_oldest f_dirWord f_tableFrame f_tableWord f_target f_reached f_faultAddress f_faultCode f_accesses f_faults f_pc f_savedPc f_cause f_output f_outputs f_traps f_user f_savedUser f_stopped f_trapped f_any f_keptPaging f_keptGuard f_keptRoot a_page a_users a_held a_away a_roomRoot a_leadsTo a_rights a_table a_register a_ops a_first a_second a_numbers a_kept := by
  unfold wX_reach_74
  rw [nI_clamp (show k < 2 ^ 31 by omega)]
  refine ⟨vp_in_nI hk (by omega), br_t hn (hw _ ?_)⟩
  refine xs_allowed hg (fun _ => ?_) (fun z => absurd hA z)
  refine br_f (by decide) (hu _ ?_)
  refine hm _ ?_
  refine hr _ ?_
  exact h
end
end
section
/-! the cases of an access -/
section
variable {f_paging f_guard f_root f_logged f_room f_oldest f_dirWord f_tableFrame f_tableWord f_target f_reached f_faultAddress f_faultCode f_accesses f_faults f_pc f_savedPc f_cause f_output f_outputs f_traps f_user f_savedUser f_stopped f_trapped f_any f_keptPaging f_keptGuard f_keptRoot : Int32} {a_page a_users a_held a_away a_roomRoot a_leadsTo a_rights a_table a_register a_ops a_first a_second a_numbers a_kept : Nat → Int32} {y_root y_keptRoot y_faultCode y_first y_second y_goal y_code y_behindTrap : Int32} {W G : Nat → Int32}
theorem sg_r_flat {a : Nat} {wr us : Int32} (ha : a < 512) (hS : sg_S a_page a_users a_held a_away a_roomRoot a_leadsTo a_rights a_table a_ops a_first a_second a_numbers f_guard W G) (hF : sg_Fa f_faultAddress f_faultCode y_faultCode) : sg_RO 0 f_guard f_root f_logged f_room f_oldest f_dirWord f_tableFrame f_tableWord f_target f_reached f_faultAddress f_faultCode f_accesses f_faults f_pc f_savedPc f_cause f_output f_outputs f_traps f_user f_savedUser f_stopped f_trapped f_any f_keptPaging f_keptGuard f_keptRoot (-1) y_keptRoot y_faultCode y_first y_second y_goal y_code y_behindTrap a_page a_users a_held a_away a_roomRoot a_leadsTo a_rights a_table a_register a_ops a_first a_second a_numbers a_kept W G a wr us := by
  obtain ⟨pg, ue, he, k1, k2⟩ := xs_use (f_paging := 0) (f_guard := f_guard) (f_root := f_root) (f_logged := f_logged) (f_room := f_room) (f_oldest := f_oldest) (f_dirWord := f_dirWord) (f_tableFrame := f_tableFrame) (f_tableWord := f_tableWord) (f_target := f_target) (f_reached := nI (a / 8 % 8 + 8 * (a / 64 % 2))) (f_faultAddress := f_faultAddress) (f_faultCode := f_faultCode) (f_accesses := f_accesses + 1) (f_faults := f_faults) (f_pc := f_pc) (f_savedPc := f_savedPc) (f_cause := f_cause) (f_output := f_output) (f_outputs := f_outputs) (f_traps := f_traps) (f_user := f_user) (f_savedUser := f_savedUser) (f_stopped := f_stopped) (f_trapped := f_trapped) (f_any := f_any) (f_keptPaging := f_keptPaging) (f_keptGuard := f_keptGuard) (f_keptRoot := f_keptRoot) (a_page := a_page) (a_users := a_users) (a_held := a_held) (a_away := a_away) (a_roomRoot := a_roomRoot) (a_leadsTo := a_leadsTo) (a_rights := a_rights) (a_table := a_table) (a_register := a_register) (a_ops := a_ops) (a_first := a_first) (a_second := a_second) (a_numbers := a_numbers) (a_kept := a_kept) (f := a / 8 % 8 + 8 * (a / 64 % 2)) hS.1 (by omega)
  unfold sg_RO
  refine ⟨f_logged, f_dirWord, f_tableFrame, f_tableWord, f_target, nI (a / 8 % 8 + 8 * (a / 64 % 2)), f_faultAddress, f_faultCode, f_accesses + 1, f_faults, (-1), (-1), nI (8 * (a / 8 % 8 + 8 * (a / 64 % 2)) + a % 8), sg_cd wr us, y_faultCode, pg, ue, he, a_away, a_leadsTo, a_rights, a_table, a_ops, W, upd G (a / 8 % 8 + 8 * (a / 64 % 2)) 0, ⟨k1, sg_C_G hS.2.1 sg_u0, hS.2.2⟩, hF, Or.inr ⟨a / 8 % 8 + 8 * (a / 64 % 2), by omega, rfl, fun post h => ?_, fun post h => ?_⟩⟩
  · unfold wpX_reach
    refine nm_e (br_t rfl ?_)
    unfold wpX_flat
    rw [sg_sh37 ha, sg_sh6 ha, sg_an1 (by omega), sg_m8, nI_add]
    exact k2 _ h
  · have e : (8 * (a / 8 % 8 + 8 * (a / 64 % 2)) + a % 8) / 8 = a / 8 % 8 + 8 * (a / 64 % 2) := by omega
    refine ys_accF (by omega) (fun post h => ys_walk_in ha (ys_w0 (by omega) (by omega) (by omega) h)) ?_
    rw [e]; exact h
theorem sg_r_hit {r c a : Nat} {wr us : Int32} (ha : a < 512) (hr : r < 16) (hc : c < 3) (er : a_roomRoot c = nI r) (hp : ¬ f_paging = 0) (hS : sg_S a_page a_users a_held a_away a_roomRoot a_leadsTo a_rights a_table a_ops a_first a_second a_numbers f_guard W G) (hF : sg_Fa f_faultAddress f_faultCode y_faultCode) (hn : ¬ a_rights (64 * c + 8 * (a / 64) + a / 8 % 8) &&& sg_nd wr us = 0) : sg_RO f_paging f_guard (nI r) f_logged (nI c) f_oldest f_dirWord f_tableFrame f_tableWord f_target f_reached f_faultAddress f_faultCode f_accesses f_faults f_pc f_savedPc f_cause f_output f_outputs f_traps f_user f_savedUser f_stopped f_trapped f_any f_keptPaging f_keptGuard f_keptRoot (nI r) y_keptRoot y_faultCode y_first y_second y_goal y_code y_behindTrap a_page a_users a_held a_away a_roomRoot a_leadsTo a_rights a_table a_register a_ops a_first a_second a_numbers a_kept W G a wr us := by
  rcases hS.2.1 c hc (a / 64) (by omega) (a / 8 % 8) (by omega) with z | ⟨r', hr', er', hL⟩
  · exact absurd (by rw [z]; exact Int32.zero_and) hn
  · have q : r' = r := sg_inj (by omega) (by omega) (er'.symm.trans er)
    subst q
    obtain ⟨g0, d1, d8, hL⟩ := hL
    unfold sg_RO
    rcases hL with ⟨b32, _, elt, gg, hR⟩ | ⟨b32, _, gF, t1, t8, elt, gg, hR⟩
    · obtain ⟨hA, hlast⟩ := hR wr us hn
      have hm := sg_8lm d8 hlast
      have hb := sg_bg_lt (W (8 * r' + a / 64)) (t := a / 8 % 8) (by omega)
      refine ⟨f_logged, f_dirWord, f_tableFrame, f_tableWord, f_target, nI (sg_bg (W (8 * r' + a / 64)) (a / 8 % 8)), f_faultAddress, f_faultCode, f_accesses + 1, f_faults, nI (8 * r' + a / 64), (-1), nI (8 * sg_bg (W (8 * r' + a / 64)) (a / 8 % 8) + a % 8), sg_cd wr us + 1, y_faultCode, a_page, a_users, a_held, a_away, a_leadsTo, a_rights, a_table, a_ops, W, upd (upd G r' 0) (sg_bg (W (8 * r' + a / 64)) (a / 8 % 8)) 0, sg_S_G (sg_S_G hS g0) (sg_u0 _ gg), hF, Or.inr ⟨_, hb, rfl, fun post h => xs_reach_in ha hp (xs_reach_hit (by omega) hn elt h), fun post h => ?_⟩⟩
      refine ys_accB (by omega) (by omega) (fun post h => ys_walk_in ha (ys_wB hr (by omega) d1 b32 (fun _ => h) (fun z => absurd (sg_AL_6.mp hA) z))) ?_
      rw [sg_mL_t hm, sg_mW_t hm, show (8 * r' + a / 64) / 8 = r' by omega, show (8 * sg_bg (W (8 * r' + a / 64)) (a / 8 % 8) + a % 8) / 8 = sg_bg (W (8 * r' + a / 64)) (a / 8 % 8) by omega]
      exact h
    · obtain ⟨hA, hlast⟩ := hR wr us hn
      have hm := sg_8lm t8 hlast
      have hf := sg_fr_lt (W (8 * r' + a / 64))
      have hft := sg_fr_lt (W (8 * sg_fr (W (8 * r' + a / 64)) + a / 8 % 8))
      have hAA := sg_AL_and.mp hA
      refine ⟨f_logged, f_dirWord, f_tableFrame, f_tableWord, f_target, nI (sg_fr (W (8 * sg_fr (W (8 * r' + a / 64)) + a / 8 % 8))), f_faultAddress, f_faultCode, f_accesses + 1, f_faults, nI (8 * r' + a / 64), nI (8 * sg_fr (W (8 * r' + a / 64)) + a / 8 % 8), nI (8 * sg_fr (W (8 * sg_fr (W (8 * r' + a / 64)) + a / 8 % 8)) + a % 8), sg_cd wr us + 1, y_faultCode, a_page, a_users, a_held, a_away, a_leadsTo, a_rights, a_table, a_ops, W, upd (upd (upd G r' 0) (sg_fr (W (8 * r' + a / 64))) 0) (sg_fr (W (8 * sg_fr (W (8 * r' + a / 64)) + a / 8 % 8))) 0, sg_S_G (sg_S_G (sg_S_G hS g0) (sg_u0 _ gF)) (sg_u0 _ (sg_u0 _ gg)), hF, Or.inr ⟨_, hft, rfl, fun post h => xs_reach_in ha hp (xs_reach_hit (by omega) hn elt h), fun post h => ?_⟩⟩
      refine ys_accT (by omega) (by omega) (by omega) (fun post h => ys_walk_in ha (ys_wD hr (by omega) (by omega) d1 b32 t1 (fun _ _ => h) (fun z => absurd hAA z))) ?_
      rw [sg_mL_t d8, sg_mW_t d8, sg_mL_t hm, sg_mW_t hm, show (8 * r' + a / 64) / 8 = r' by omega, show (8 * sg_fr (W (8 * r' + a / 64)) + a / 8 % 8) / 8 = sg_fr (W (8 * r' + a / 64)) by omega, show (8 * sg_fr (W (8 * sg_fr (W (8 * r' + a / 64)) + a / 8 % 8)) + a % 8) / 8 = sg_fr (W (8 * sg_fr (W (8 * r' + a / 64)) + a / 8 % 8)) by omega]
      exact h
theorem sg_r_A {r c a : Nat} {wr us : Int32} (ha : a < 512) (hr : r < 16) (hc : c < 3) (er : a_roomRoot c = nI r) (hp : ¬ f_paging = 0) (hS : sg_S a_page a_users a_held a_away a_roomRoot a_leadsTo a_rights a_table a_ops a_first a_second a_numbers f_guard W G) (hF : sg_Fa f_faultAddress f_faultCode y_faultCode) (hn : a_rights (64 * c + 8 * (a / 64) + a / 8 % 8) &&& sg_nd wr us = 0) (h1 : W (8 * r + a / 64) &&& 1 = 0) : sg_RO f_paging f_guard (nI r) f_logged (nI c) f_oldest f_dirWord f_tableFrame f_tableWord f_target f_reached f_faultAddress f_faultCode f_accesses f_faults f_pc f_savedPc f_cause f_output f_outputs f_traps f_user f_savedUser f_stopped f_trapped f_any f_keptPaging f_keptGuard f_keptRoot (nI r) y_keptRoot y_faultCode y_first y_second y_goal y_code y_behindTrap a_page a_users a_held a_away a_roomRoot a_leadsTo a_rights a_table a_register a_ops a_first a_second a_numbers a_kept W G a wr us := by
  obtain ⟨pg, ue, he, k1, k2⟩ := xs_walkA (f_paging := f_paging) (f_guard := f_guard) (f_logged := f_logged) (f_room := nI c) (f_oldest := f_oldest) (f_dirWord := f_dirWord) (f_tableFrame := f_tableFrame) (f_tableWord := f_tableWord) (f_target := f_target) (f_reached := f_reached) (f_faultAddress := f_faultAddress) (f_faultCode := f_faultCode) (f_accesses := f_accesses + 1) (f_faults := f_faults) (f_pc := f_pc) (f_savedPc := f_savedPc) (f_cause := f_cause) (f_output := f_output) (f_outputs := f_outputs) (f_traps := f_traps) (f_user := f_user) (f_savedUser := f_savedUser) (f_stopped := f_stopped) (f_trapped := f_trapped) (f_any := f_any) (f_keptPaging := f_keptPaging) (f_keptGuard := f_keptGuard) (f_keptRoot := f_keptRoot) (a_page := a_page) (a_users := a_users) (a_held := a_held) (a_away := a_away) (a_roomRoot := a_roomRoot) (a_leadsTo := a_leadsTo) (a_rights := a_rights) (a_table := a_table) (a_register := a_register) (a_ops := a_ops) (a_first := a_first) (a_second := a_second) (a_numbers := a_numbers) (a_kept := a_kept) hS.1 ha hr h1
  have hf := sg_fr_lt (W (8 * r + a / 64))
  unfold sg_RO
  refine ⟨f_logged, nI (a / 64), (-1), nI (a / 8 % 8), f_target, f_reached, nI a, sg_fc (-1) wr us, f_accesses + 1, f_faults + 1, nI (8 * r + a / 64), (-1), (-1), sg_cd wr us, sg_cd wr us, pg, ue, he, a_away, a_leadsTo, a_rights, a_table, a_ops, W, upd G r 0, ⟨k1, sg_C_G hS.2.1 sg_u0, hS.2.2⟩, Or.inr ⟨nI_pos' (by omega), (sg_fc_n wr us).symm⟩, Or.inl ⟨fun post h => xs_reach_in ha hp (xs_reach_f (by omega) hn k2 (Or.inl (by decide)) h), fun post h => ?_⟩⟩
  have e : (8 * r + a / 64) / 8 = r := by omega
  refine ys_acc1 (by omega) (fun post h => ys_walk_in ha (ys_wA hr (by omega) h1 h)) ?_
  rw [e]; exact h
theorem sg_r_Bf {r c a : Nat} {wr us : Int32} (ha : a < 512) (hr : r < 16) (hc : c < 3) (er : a_roomRoot c = nI r) (hp : ¬ f_paging = 0) (hS : sg_S a_page a_users a_held a_away a_roomRoot a_leadsTo a_rights a_table a_ops a_first a_second a_numbers f_guard W G) (hF : sg_Fa f_faultAddress f_faultCode y_faultCode) (hn : a_rights (64 * c + 8 * (a / 64) + a / 8 % 8) &&& sg_nd wr us = 0) (h1 : ¬ W (8 * r + a / 64) &&& 1 = 0) (h2 : ¬ W (8 * r + a / 64) &&& 32 = 0) (hA : ¬ sg_AL f_guard (W (8 * r + a / 64)) wr us) : sg_RO f_paging f_guard (nI r) f_logged (nI c) f_oldest f_dirWord f_tableFrame f_tableWord f_target f_reached f_faultAddress f_faultCode f_accesses f_faults f_pc f_savedPc f_cause f_output f_outputs f_traps f_user f_savedUser f_stopped f_trapped f_any f_keptPaging f_keptGuard f_keptRoot (nI r) y_keptRoot y_faultCode y_first y_second y_goal y_code y_behindTrap a_page a_users a_held a_away a_roomRoot a_leadsTo a_rights a_table a_register a_ops a_first a_second a_numbers a_kept W G a wr us := by
  obtain ⟨pg, ue, he, k1, k2⟩ := xs_walkB (f_paging := f_paging) (f_guard := f_guard) (f_logged := f_logged) (f_room := nI c) (f_oldest := f_oldest) (f_dirWord := f_dirWord) (f_tableFrame := f_tableFrame) (f_tableWord := f_tableWord) (f_target := f_target) (f_reached := f_reached) (f_faultAddress := f_faultAddress) (f_faultCode := f_faultCode) (f_accesses := f_accesses + 1) (f_faults := f_faults) (f_pc := f_pc) (f_savedPc := f_savedPc) (f_cause := f_cause) (f_output := f_output) (f_outputs := f_outputs) (f_traps := f_traps) (f_user := f_user) (f_savedUser := f_savedUser) (f_stopped := f_stopped) (f_trapped := f_trapped) (f_any := f_any) (f_keptPaging := f_keptPaging) (f_keptGuard := f_keptGuard) (f_keptRoot := f_keptRoot) (a_page := a_page) (a_users := a_users) (a_held := a_held) (a_away := a_away) (a_roomRoot := a_roomRoot) (a_leadsTo := a_leadsTo) (a_rights := a_rights) (a_table := a_table) (a_register := a_register) (a_ops := a_ops) (a_first := a_first) (a_second := a_second) (a_numbers := a_numbers) (a_kept := a_kept) hS.1 ha hr h1 h2
  have hf := sg_fr_lt (W (8 * r + a / 64))
  unfold sg_RO
  refine ⟨f_logged, nI (a / 64), (-1), nI (a / 8 % 8), nI (sg_bg (W (8 * r + a / 64)) (a / 8 % 8)), f_reached, nI a, sg_fc (W (8 * r + a / 64) &&& 6) wr us, f_accesses + 1, f_faults + 1, nI (8 * r + a / 64), (-1), (-1), sg_cd wr us + 1, sg_cd wr us + 1, pg, ue, he, a_away, a_leadsTo, a_rights, a_table, a_ops, W, upd G r 0, ⟨k1, sg_C_G hS.2.1 sg_u0, hS.2.2⟩, Or.inr ⟨nI_pos' (by omega), (sg_fc_p wr us (sg_nn6 _)).symm⟩, Or.inl ⟨fun post h => xs_reach_in ha hp (xs_reach_f (by omega) hn k2 (Or.inr ⟨sg_nn6 _, fun z => hA (sg_AL_6.mp z)⟩) h), fun post h => ?_⟩⟩
  have e : (8 * r + a / 64) / 8 = r := by omega
  refine ys_acc1 (by omega) (fun post h => ys_walk_in ha (ys_wB hr (by omega) h1 h2 (fun z => absurd z hA) (fun _ => h))) ?_
  rw [e]; exact h
theorem sg_r_Cf {r c a : Nat} {wr us : Int32} (ha : a < 512) (hr : r < 16) (hc : c < 3) (er : a_roomRoot c = nI r) (hp : ¬ f_paging = 0) (hS : sg_S a_page a_users a_held a_away a_roomRoot a_leadsTo a_rights a_table a_ops a_first a_second a_numbers f_guard W G) (hF : sg_Fa f_faultAddress f_faultCode y_faultCode) (hn : a_rights (64 * c + 8 * (a / 64) + a / 8 % 8) &&& sg_nd wr us = 0) (h1 : ¬ W (8 * r + a / 64) &&& 1 = 0) (h2 : W (8 * r + a / 64) &&& 32 = 0) (h3 : W (8 * sg_fr (W (8 * r + a / 64)) + a / 8 % 8) &&& 1 = 0) : sg_RO f_paging f_guard (nI r) f_logged (nI c) f_oldest f_dirWord f_tableFrame f_tableWord f_target f_reached f_faultAddress f_faultCode f_accesses f_faults f_pc f_savedPc f_cause f_output f_outputs f_traps f_user f_savedUser f_stopped f_trapped f_any f_keptPaging f_keptGuard f_keptRoot (nI r) y_keptRoot y_faultCode y_first y_second y_goal y_code y_behindTrap a_page a_users a_held a_away a_roomRoot a_leadsTo a_rights a_table a_register a_ops a_first a_second a_numbers a_kept W G a wr us := by
  obtain ⟨pg, ue, he, k1, k2⟩ := xs_walkC (f_paging := f_paging) (f_guard := f_guard) (f_logged := f_logged) (f_room := nI c) (f_oldest := f_oldest) (f_dirWord := f_dirWord) (f_tableFrame := f_tableFrame) (f_tableWord := f_tableWord) (f_target := f_target) (f_reached := f_reached) (f_faultAddress := f_faultAddress) (f_faultCode := f_faultCode) (f_accesses := f_accesses + 1) (f_faults := f_faults) (f_pc := f_pc) (f_savedPc := f_savedPc) (f_cause := f_cause) (f_output := f_output) (f_outputs := f_outputs) (f_traps := f_traps) (f_user := f_user) (f_savedUser := f_savedUser) (f_stopped := f_stopped) (f_trapped := f_trapped) (f_any := f_any) (f_keptPaging := f_keptPaging) (f_keptGuard := f_keptGuard) (f_keptRoot := f_keptRoot) (a_page := a_page) (a_users := a_users) (a_held := a_held) (a_away := a_away) (a_roomRoot := a_roomRoot) (a_leadsTo := a_leadsTo) (a_rights := a_rights) (a_table := a_table) (a_register := a_register) (a_ops := a_ops) (a_first := a_first) (a_second := a_second) (a_numbers := a_numbers) (a_kept := a_kept) hS.1 ha hr h1 h2 h3
  have hf := sg_fr_lt (W (8 * r + a / 64))
  unfold sg_RO
  refine ⟨f_logged, nI (a / 64), nI (sg_fr (W (8 * r + a / 64))), nI (a / 8 % 8), f_target, f_reached, nI a, sg_fc (-1) wr us, f_accesses + 1, f_faults + 1, nI (8 * r + a / 64), nI (8 * sg_fr (W (8 * r + a / 64)) + a / 8 % 8), (-1), sg_cd wr us, sg_cd wr us, pg, ue, he, a_away, a_leadsTo, a_rights, a_table, a_ops, W, upd (upd G r 0) (sg_fr (W (8 * r + a / 64))) 0, ⟨k1, sg_C_G (sg_C_G hS.2.1 sg_u0) sg_u0, hS.2.2⟩, Or.inr ⟨nI_pos' (by omega), (sg_fc_n wr us).symm⟩, Or.inl ⟨fun post h => xs_reach_in ha hp (xs_reach_f (by omega) hn k2 (Or.inl (by decide)) h), fun post h => ?_⟩⟩
  have e : (8 * r + a / 64) / 8 = r := by omega
  have e2 : (8 * sg_fr (W (8 * r + a / 64)) + a / 8 % 8) / 8 = sg_fr (W (8 * r + a / 64)) := by omega
  refine ys_acc2 (by omega) (by omega) (fun post h => ys_walk_in ha (ys_wC hr (by omega) (by omega) h1 h2 h3 h)) ?_
  rw [e, e2]; exact h
theorem sg_r_Df {r c a : Nat} {wr us : Int32} (ha : a < 512) (hr : r < 16) (hc : c < 3) (er : a_roomRoot c = nI r) (hp : ¬ f_paging = 0) (hS : sg_S a_page a_users a_held a_away a_roomRoot a_leadsTo a_rights a_table a_ops a_first a_second a_numbers f_guard W G) (hF : sg_Fa f_faultAddress f_faultCode y_faultCode) (hn : a_rights (64 * c + 8 * (a / 64) + a / 8 % 8) &&& sg_nd wr us = 0) (h1 : ¬ W (8 * r + a / 64) &&& 1 = 0) (h2 : W (8 * r + a / 64) &&& 32 = 0) (h3 : ¬ W (8 * sg_fr (W (8 * r + a / 64)) + a / 8 % 8) &&& 1 = 0) (hA : ¬ (sg_AL f_guard (W (8 * r + a / 64)) wr us ∧ sg_AL f_guard (W (8 * sg_fr (W (8 * r + a / 64)) + a / 8 % 8)) wr us)) : sg_RO f_paging f_guard (nI r) f_logged (nI c) f_oldest f_dirWord f_tableFrame f_tableWord f_target f_reached f_faultAddress f_faultCode f_accesses f_faults f_pc f_savedPc f_cause f_output f_outputs f_traps f_user f_savedUser f_stopped f_trapped f_any f_keptPaging f_keptGuard f_keptRoot (nI r) y_keptRoot y_faultCode y_first y_second y_goal y_code y_behindTrap a_page a_users a_held a_away a_roomRoot a_leadsTo a_rights a_table a_register a_ops a_first a_second a_numbers a_kept W G a wr us := by
  obtain ⟨pg, ue, he, k1, k2⟩ := xs_walkD (f_paging := f_paging) (f_guard := f_guard) (f_logged := f_logged) (f_room := nI c) (f_oldest := f_oldest) (f_dirWord := f_dirWord) (f_tableFrame := f_tableFrame) (f_tableWord := f_tableWord) (f_target := f_target) (f_reached := f_reached) (f_faultAddress := f_faultAddress) (f_faultCode := f_faultCode) (f_accesses := f_accesses + 1) (f_faults := f_faults) (f_pc := f_pc) (f_savedPc := f_savedPc) (f_cause := f_cause) (f_output := f_output) (f_outputs := f_outputs) (f_traps := f_traps) (f_user := f_user) (f_savedUser := f_savedUser) (f_stopped := f_stopped) (f_trapped := f_trapped) (f_any := f_any) (f_keptPaging := f_keptPaging) (f_keptGuard := f_keptGuard) (f_keptRoot := f_keptRoot) (a_page := a_page) (a_users := a_users) (a_held := a_held) (a_away := a_away) (a_roomRoot := a_roomRoot) (a_leadsTo := a_leadsTo) (a_rights := a_rights) (a_table := a_table) (a_register := a_register) (a_ops := a_ops) (a_first := a_first) (a_second := a_second) (a_numbers := a_numbers) (a_kept := a_kept) hS.1 ha hr h1 h2 h3
  have hf := sg_fr_lt (W (8 * r + a / 64))
  unfold sg_RO
  refine ⟨f_logged, nI (a / 64), nI (sg_fr (W (8 * r + a / 64))), nI (a / 8 % 8), nI (sg_fr (W (8 * sg_fr (W (8 * r + a / 64)) + a / 8 % 8))), f_reached, nI a, sg_fc ((W (8 * r + a / 64) &&& W (8 * sg_fr (W (8 * r + a / 64)) + a / 8 % 8)) &&& 6) wr us, f_accesses + 1, f_faults + 1, nI (8 * r + a / 64), nI (8 * sg_fr (W (8 * r + a / 64)) + a / 8 % 8), (-1), sg_cd wr us + 1, sg_cd wr us + 1, pg, ue, he, a_away, a_leadsTo, a_rights, a_table, a_ops, W, upd (upd G r 0) (sg_fr (W (8 * r + a / 64))) 0, ⟨k1, sg_C_G (sg_C_G hS.2.1 sg_u0) sg_u0, hS.2.2⟩, Or.inr ⟨nI_pos' (by omega), (sg_fc_p wr us (sg_nn6 _)).symm⟩, Or.inl ⟨fun post h => xs_reach_in ha hp (xs_reach_f (by omega) hn k2 (Or.inr ⟨sg_nn6 _, fun z => hA (sg_AL_and.mp z)⟩) h), fun post h => ?_⟩⟩
  have e : (8 * r + a / 64) / 8 = r := by omega
  have e2 : (8 * sg_fr (W (8 * r + a / 64)) + a / 8 % 8) / 8 = sg_fr (W (8 * r + a / 64)) := by omega
  refine ys_acc2 (by omega) (by omega) (fun post h => ys_walk_in ha (ys_wD hr (by omega) (by omega) h1 h2 h3 (fun z y => absurd ⟨z, y⟩ hA) (fun _ => h))) ?_
  rw [e, e2]; exact h
theorem sg_LB {W G : Nat → Int32} {gd wr may : Int32} {r d t : Nat} (h1 : ¬ W (8 * r + d) &&& 1 = 0) (h2 : ¬ W (8 * r + d) &&& 32 = 0) (hR : sg_R gd (W (8 * r + d) &&& 6) (sg_mW W (8 * r + d) (sg_lm wr) (8 * r + d)) may) :
    sg_L (sg_mW W (8 * r + d) (sg_lm wr)) (upd (upd G r 0) (sg_bg (W (8 * r + d)) t) 0) gd r d t (-1) (nI (sg_bg (W (8 * r + d)) t)) may := by
  have E := sg_mW_E (W := W) (i := 8 * r + d) (j := 8 * r + d) (sg_lm_or wr)
  have eb := sg_bg_E E t
  unfold sg_L
  rw [E.1, E.2.2.2.2.1, eb, E.2.2.2.1]
  exact ⟨sg_u0 _ pk_us, h1, sg_lm8 (sg_mW_has W _ _), Or.inl ⟨h2, rfl, rfl, pk_us, hR⟩⟩
theorem sg_LT {W G : Nat → Int32} {gd wr may : Int32} {r d t F' : Nat} (eF : sg_fr (W (8 * r + d)) = F') (h1 : ¬ W (8 * r + d) &&& 1 = 0) (h2 : W (8 * r + d) &&& 32 = 0) (h3 : ¬ W (8 * F' + t) &&& 1 = 0) (hR : sg_R gd ((W (8 * r + d) &&& W (8 * F' + t)) &&& 6) (sg_mW (sg_mW W (8 * r + d) 8) (8 * F' + t) (sg_lm wr) (8 * F' + t)) may) :
    sg_L (sg_mW (sg_mW W (8 * r + d) 8) (8 * F' + t) (sg_lm wr)) (upd (upd (upd G r 0) F' 0) (sg_fr (W (8 * F' + t))) 0) gd r d t (nI F') (nI (sg_fr (W (8 * F' + t)))) may := by
  have E := sg_E_tr (sg_mW_E (W := sg_mW W (8 * r + d) 8) (i := 8 * F' + t) (j := 8 * r + d) (sg_lm_or wr)) (sg_mW_E (W := W) (i := 8 * r + d) (j := 8 * r + d) (Or.inl rfl))
  have ET := sg_E_tr (sg_mW_E (W := sg_mW W (8 * r + d) 8) (i := 8 * F' + t) (j := 8 * F' + t) (sg_lm_or wr)) (sg_mW_E (W := W) (i := 8 * r + d) (j := 8 * F' + t) (Or.inl rfl))
  have k8 : sg_mW (sg_mW W (8 * r + d) 8) (8 * F' + t) (sg_lm wr) (8 * r + d) &&& 8 = 8 := sg_mW_keep (sg_mW_has W _ _)
  unfold sg_L
  rw [E.1, E.2.2.2.2.1, E.2.2.2.2.2, eF, ET.1, ET.2.2.2.2.2, sg_and6, E.2.2.2.1, ET.2.2.2.1, ← sg_and6]
  exact ⟨sg_u0 _ (sg_u0 _ pk_us), h1, k8, Or.inr ⟨h2, rfl, sg_u0 _ pk_us, h3, sg_lm8 (sg_mW_has _ _ _), rfl, pk_us, hR⟩⟩
theorem sg_r_Bk {r c a : Nat} {wr us : Int32} (ha : a < 512) (hr : r < 16) (hc : c < 3) (er : a_roomRoot c = nI r) (hp : ¬ f_paging = 0) (hS : sg_S a_page a_users a_held a_away a_roomRoot a_leadsTo a_rights a_table a_ops a_first a_second a_numbers f_guard W G) (hF : sg_Fa f_faultAddress f_faultCode y_faultCode) (hn : a_rights (64 * c + 8 * (a / 64) + a / 8 % 8) &&& sg_nd wr us = 0) (h1 : ¬ W (8 * r + a / 64) &&& 1 = 0) (h2 : ¬ W (8 * r + a / 64) &&& 32 = 0) (hA : sg_AL f_guard (W (8 * r + a / 64)) wr us) : sg_RO f_paging f_guard (nI r) f_logged (nI c) f_oldest f_dirWord f_tableFrame f_tableWord f_target f_reached f_faultAddress f_faultCode f_accesses f_faults f_pc f_savedPc f_cause f_output f_outputs f_traps f_user f_savedUser f_stopped f_trapped f_any f_keptPaging f_keptGuard f_keptRoot (nI r) y_keptRoot y_faultCode y_first y_second y_goal y_code y_behindTrap a_page a_users a_held a_away a_roomRoot a_leadsTo a_rights a_table a_register a_ops a_first a_second a_numbers a_kept W G a wr us := by
  have hf := sg_fr_lt (W (8 * r + a / 64))
  have hg : sg_bg (W (8 * r + a / 64)) (a / 8 % 8) < 16 := sg_bg_lt _ (by omega)
  obtain ⟨pg, ue, he, k1, k2⟩ := xs_walkB (f_paging := f_paging) (f_guard := f_guard) (f_logged := f_logged) (f_room := nI c) (f_oldest := f_oldest) (f_dirWord := f_dirWord) (f_tableFrame := f_tableFrame) (f_tableWord := f_tableWord) (f_target := f_target) (f_reached := f_reached) (f_faultAddress := f_faultAddress) (f_faultCode := f_faultCode) (f_accesses := f_accesses + 1) (f_faults := f_faults) (f_pc := f_pc) (f_savedPc := f_savedPc) (f_cause := f_cause) (f_output := f_output) (f_outputs := f_outputs) (f_traps := f_traps) (f_user := f_user) (f_savedUser := f_savedUser) (f_stopped := f_stopped) (f_trapped := f_trapped) (f_any := f_any) (f_keptPaging := f_keptPaging) (f_keptGuard := f_keptGuard) (f_keptRoot := f_keptRoot) (a_page := a_page) (a_users := a_users) (a_held := a_held) (a_away := a_away) (a_roomRoot := a_roomRoot) (a_leadsTo := a_leadsTo) (a_rights := a_rights) (a_table := a_table) (a_register := a_register) (a_ops := a_ops) (a_first := a_first) (a_second := a_second) (a_numbers := a_numbers) (a_kept := a_kept) hS.1 ha hr h1 h2
  obtain ⟨pg2, ue2, he2, j1, j2⟩ := xs_use (f_paging := f_paging) (f_guard := f_guard) (f_root := nI r) (f_logged := f_logged) (f_room := nI c) (f_oldest := f_oldest) (f_dirWord := nI (a / 64)) (f_tableFrame := (-1)) (f_tableWord := nI (a / 8 % 8)) (f_target := nI (sg_bg (W (8 * r + a / 64)) (a / 8 % 8))) (f_reached := nI (sg_bg (W (8 * r + a / 64)) (a / 8 % 8))) (f_faultAddress := f_faultAddress) (f_faultCode := f_faultCode) (f_accesses := f_accesses + 1) (f_faults := f_faults) (f_pc := f_pc) (f_savedPc := f_savedPc) (f_cause := f_cause) (f_output := f_output) (f_outputs := f_outputs) (f_traps := f_traps) (f_user := f_user) (f_savedUser := f_savedUser) (f_stopped := f_stopped) (f_trapped := f_trapped) (f_any := f_any) (f_keptPaging := f_keptPaging) (f_keptGuard := f_keptGuard) (f_keptRoot := f_keptRoot) (a_page := pg) (a_users := ue) (a_held := he) (a_away := a_away) (a_roomRoot := a_roomRoot) (a_leadsTo := a_leadsTo) (a_rights := a_rights) (a_table := a_table) (a_register := a_register) (a_ops := a_ops) (a_first := a_first) (a_second := a_second) (a_numbers := a_numbers) (a_kept := a_kept) k1 hg
  have hS2 : sg_S pg2 ue2 he2 a_away a_roomRoot a_leadsTo a_rights a_table a_ops a_first a_second a_numbers f_guard W (upd (upd G r 0) (sg_bg (W (8 * r + a / 64)) (a / 8 % 8)) 0) := ⟨j1, sg_C_G (sg_C_G hS.2.1 sg_u0) sg_u0, hS.2.2⟩
  obtain ⟨pg3, ue3, he3, aw3, rg3, tb3, op3, m1, m2⟩ := xs_markB (f_paging := f_paging) (f_guard := f_guard) (f_logged := f_logged) (f_room := nI c) (f_oldest := f_oldest) (f_tableWord := nI (a / 8 % 8)) (f_target := nI (sg_bg (W (8 * r + a / 64)) (a / 8 % 8))) (f_reached := nI (sg_bg (W (8 * r + a / 64)) (a / 8 % 8))) (f_faultAddress := f_faultAddress) (f_faultCode := f_faultCode) (f_accesses := f_accesses + 1) (f_faults := f_faults) (f_pc := f_pc) (f_savedPc := f_savedPc) (f_cause := f_cause) (f_output := f_output) (f_outputs := f_outputs) (f_traps := f_traps) (f_user := f_user) (f_savedUser := f_savedUser) (f_stopped := f_stopped) (f_trapped := f_trapped) (f_any := f_any) (f_keptPaging := f_keptPaging) (f_keptGuard := f_keptGuard) (f_keptRoot := f_keptRoot) (a_page := pg2) (a_users := ue2) (a_held := he2) (a_away := a_away) (a_roomRoot := a_roomRoot) (a_leadsTo := a_leadsTo) (a_rights := a_rights) (a_table := a_table) (a_register := a_register) (a_ops := a_ops) (a_first := a_first) (a_second := a_second) (a_numbers := a_numbers) (a_kept := a_kept) (d := a / 64) (wr := wr) hS2 hr (by omega)
  obtain ⟨may, r1, r2⟩ := xs_remB (f_paging := f_paging) (f_guard := f_guard) (f_logged := sg_mL f_logged W (8 * r + a / 64) (sg_lm wr)) (f_oldest := f_oldest) (f_tableWord := nI (a / 8 % 8)) (f_target := nI (sg_bg (W (8 * r + a / 64)) (a / 8 % 8))) (f_faultAddress := f_faultAddress) (f_faultCode := f_faultCode) (f_accesses := f_accesses + 1) (f_faults := f_faults) (f_pc := f_pc) (f_savedPc := f_savedPc) (f_cause := f_cause) (f_output := f_output) (f_outputs := f_outputs) (f_traps := f_traps) (f_user := f_user) (f_savedUser := f_savedUser) (f_stopped := f_stopped) (f_trapped := f_trapped) (f_any := f_any) (f_keptPaging := f_keptPaging) (f_keptGuard := f_keptGuard) (f_keptRoot := f_keptRoot) (a_page := pg3) (a_users := ue3) (a_held := he3) (a_away := aw3) (a_roomRoot := a_roomRoot) (a_leadsTo := a_leadsTo) (a_rights := rg3) (a_table := tb3) (a_register := a_register) (a_ops := op3) (a_first := a_first) (a_second := a_second) (a_numbers := a_numbers) (a_kept := a_kept) (k := 64 * c + 8 * (a / 64) + a / 8 % 8) (c := c) (d := a / 64) (gv := W (8 * r + a / 64) &&& 6) m1.1 hr (by omega) hc (by omega) hg
  unfold sg_RO
  refine ⟨sg_mL f_logged W (8 * r + a / 64) (sg_lm wr), nI (a / 64), (-1), nI (a / 8 % 8), nI (sg_bg (W (8 * r + a / 64)) (a / 8 % 8)), nI (sg_bg (W (8 * r + a / 64)) (a / 8 % 8)), f_faultAddress, f_faultCode, f_accesses + 1, f_faults, nI (8 * r + a / 64), (-1), nI (8 * sg_bg (W (8 * r + a / 64)) (a / 8 % 8) + a % 8), sg_cd wr us + 1, y_faultCode, pg3, ue3, he3, aw3, upd a_leadsTo (64 * c + 8 * (a / 64) + a / 8 % 8) (nI (sg_bg (W (8 * r + a / 64)) (a / 8 % 8))), upd rg3 (64 * c + 8 * (a / 64) + a / 8 % 8) may, upd tb3 (8 * c + a / 64) (-1), op3, sg_mW W (8 * r + a / 64) (sg_lm wr), upd (upd G r 0) (sg_bg (W (8 * r + a / 64)) (a / 8 % 8)) 0, ⟨m1.1, sg_C_add m1.2.1 hc (by omega) (by omega) hr er (sg_LB h1 h2 r1), m1.2.2⟩, hF, Or.inr ⟨sg_bg (W (8 * r + a / 64)) (a / 8 % 8), hg, rfl, fun post h => ?_, fun post h => ?_⟩⟩
  · exact xs_reach_in ha hp (xs_reach_ok (by omega) hn k2 (sg_nn6 _) (sg_AL_6.mpr hA) j2 m2 r2 h)
  · refine ys_accB (by omega) (by omega) (fun post h => ys_walk_in ha (ys_wB hr (by omega) h1 h2 (fun _ => h) (fun z => absurd hA z))) ?_
    rw [show (8 * r + a / 64) / 8 = r by omega, show (8 * sg_bg (W (8 * r + a / 64)) (a / 8 % 8) + a % 8) / 8 = sg_bg (W (8 * r + a / 64)) (a / 8 % 8) by omega]
    exact h
theorem sg_r_Dk {r c a : Nat} {wr us : Int32} (ha : a < 512) (hr : r < 16) (hc : c < 3) (er : a_roomRoot c = nI r) (hp : ¬ f_paging = 0) (hS : sg_S a_page a_users a_held a_away a_roomRoot a_leadsTo a_rights a_table a_ops a_first a_second a_numbers f_guard W G) (hF : sg_Fa f_faultAddress f_faultCode y_faultCode) (hn : a_rights (64 * c + 8 * (a / 64) + a / 8 % 8) &&& sg_nd wr us = 0) (h1 : ¬ W (8 * r + a / 64) &&& 1 = 0) (h2 : W (8 * r + a / 64) &&& 32 = 0) (h3 : ¬ W (8 * sg_fr (W (8 * r + a / 64)) + a / 8 % 8) &&& 1 = 0) (hA : sg_AL f_guard (W (8 * r + a / 64)) wr us ∧ sg_AL f_guard (W (8 * sg_fr (W (8 * r + a / 64)) + a / 8 % 8)) wr us) : sg_RO f_paging f_guard (nI r) f_logged (nI c) f_oldest f_dirWord f_tableFrame f_tableWord f_target f_reached f_faultAddress f_faultCode f_accesses f_faults f_pc f_savedPc f_cause f_output f_outputs f_traps f_user f_savedUser f_stopped f_trapped f_any f_keptPaging f_keptGuard f_keptRoot (nI r) y_keptRoot y_faultCode y_first y_second y_goal y_code y_behindTrap a_page a_users a_held a_away a_roomRoot a_leadsTo a_rights a_table a_register a_ops a_first a_second a_numbers a_kept W G a wr us := by
  have hf := sg_fr_lt (W (8 * r + a / 64))
  have hg : sg_fr (W (8 * sg_fr (W (8 * r + a / 64)) + a / 8 % 8)) < 16 := sg_fr_lt _
  obtain ⟨pg, ue, he, k1, k2⟩ := xs_walkD (f_paging := f_paging) (f_guard := f_guard) (f_logged := f_logged) (f_room := nI c) (f_oldest := f_oldest) (f_dirWord := f_dirWord) (f_tableFrame := f_tableFrame) (f_tableWord := f_tableWord) (f_target := f_target) (f_reached := f_reached) (f_faultAddress := f_faultAddress) (f_faultCode := f_faultCode) (f_accesses := f_accesses + 1) (f_faults := f_faults) (f_pc := f_pc) (f_savedPc := f_savedPc) (f_cause := f_cause) (f_output := f_output) (f_outputs := f_outputs) (f_traps := f_traps) (f_user := f_user) (f_savedUser := f_savedUser) (f_stopped := f_stopped) (f_trapped := f_trapped) (f_any := f_any) (f_keptPaging := f_keptPaging) (f_keptGuard := f_keptGuard) (f_keptRoot := f_keptRoot) (a_page := a_page) (a_users := a_users) (a_held := a_held) (a_away := a_away) (a_roomRoot := a_roomRoot) (a_leadsTo := a_leadsTo) (a_rights := a_rights) (a_table := a_table) (a_register := a_register) (a_ops := a_ops) (a_first := a_first) (a_second := a_second) (a_numbers := a_numbers) (a_kept := a_kept) hS.1 ha hr h1 h2 h3
  obtain ⟨pg2, ue2, he2, j1, j2⟩ := xs_use (f_paging := f_paging) (f_guard := f_guard) (f_root := nI r) (f_logged := f_logged) (f_room := nI c) (f_oldest := f_oldest) (f_dirWord := nI (a / 64)) (f_tableFrame := (nI (sg_fr (W (8 * r + a / 64))))) (f_tableWord := nI (a / 8 % 8)) (f_target := nI (sg_fr (W (8 * sg_fr (W (8 * r + a / 64)) + a / 8 % 8)))) (f_reached := nI (sg_fr (W (8 * sg_fr (W (8 * r + a / 64)) + a / 8 % 8)))) (f_faultAddress := f_faultAddress) (f_faultCode := f_faultCode) (f_accesses := f_accesses + 1) (f_faults := f_faults) (f_pc := f_pc) (f_savedPc := f_savedPc) (f_cause := f_cause) (f_output := f_output) (f_outputs := f_outputs) (f_traps := f_traps) (f_user := f_user) (f_savedUser := f_savedUser) (f_stopped := f_stopped) (f_trapped := f_trapped) (f_any := f_any) (f_keptPaging := f_keptPaging) (f_keptGuard := f_keptGuard) (f_keptRoot := f_keptRoot) (a_page := pg) (a_users := ue) (a_held := he) (a_away := a_away) (a_roomRoot := a_roomRoot) (a_leadsTo := a_leadsTo) (a_rights := a_rights) (a_table := a_table) (a_register := a_register) (a_ops := a_ops) (a_first := a_first) (a_second := a_second) (a_numbers := a_numbers) (a_kept := a_kept) k1 hg
  have hS2 : sg_S pg2 ue2 he2 a_away a_roomRoot a_leadsTo a_rights a_table a_ops a_first a_second a_numbers f_guard W (upd (upd (upd G r 0) (sg_fr (W (8 * r + a / 64))) 0) (sg_fr (W (8 * sg_fr (W (8 * r + a / 64)) + a / 8 % 8))) 0) := ⟨j1, sg_C_G (sg_C_G (sg_C_G hS.2.1 sg_u0) sg_u0) sg_u0, hS.2.2⟩
  obtain ⟨pg3, ue3, he3, aw3, rg3, tb3, op3, m1, m2⟩ := xs_markT (f_paging := f_paging) (f_guard := f_guard) (f_logged := f_logged) (f_room := nI c) (f_oldest := f_oldest) (f_target := nI (sg_fr (W (8 * sg_fr (W (8 * r + a / 64)) + a / 8 % 8)))) (f_reached := nI (sg_fr (W (8 * sg_fr (W (8 * r + a / 64)) + a / 8 % 8)))) (f_faultAddress := f_faultAddress) (f_faultCode := f_faultCode) (f_accesses := f_accesses + 1) (f_faults := f_faults) (f_pc := f_pc) (f_savedPc := f_savedPc) (f_cause := f_cause) (f_output := f_output) (f_outputs := f_outputs) (f_traps := f_traps) (f_user := f_user) (f_savedUser := f_savedUser) (f_stopped := f_stopped) (f_trapped := f_trapped) (f_any := f_any) (f_keptPaging := f_keptPaging) (f_keptGuard := f_keptGuard) (f_keptRoot := f_keptRoot) (a_page := pg2) (a_users := ue2) (a_held := he2) (a_away := a_away) (a_roomRoot := a_roomRoot) (a_leadsTo := a_leadsTo) (a_rights := a_rights) (a_table := a_table) (a_register := a_register) (a_ops := a_ops) (a_first := a_first) (a_second := a_second) (a_numbers := a_numbers) (a_kept := a_kept) (d := a / 64) (t := a / 8 % 8) (wr := wr) hS2 hr (by omega) hf (by omega)
  obtain ⟨may, r1, r2⟩ := xs_remT (f_paging := f_paging) (f_guard := f_guard) (f_logged := sg_mL (sg_mL f_logged W (8 * r + a / 64) 8) (sg_mW W (8 * r + a / 64) 8) (8 * sg_fr (W (8 * r + a / 64)) + a / 8 % 8) (sg_lm wr)) (f_oldest := f_oldest) (f_target := nI (sg_fr (W (8 * sg_fr (W (8 * r + a / 64)) + a / 8 % 8)))) (f_faultAddress := f_faultAddress) (f_faultCode := f_faultCode) (f_accesses := f_accesses + 1) (f_faults := f_faults) (f_pc := f_pc) (f_savedPc := f_savedPc) (f_cause := f_cause) (f_output := f_output) (f_outputs := f_outputs) (f_traps := f_traps) (f_user := f_user) (f_savedUser := f_savedUser) (f_stopped := f_stopped) (f_trapped := f_trapped) (f_any := f_any) (f_keptPaging := f_keptPaging) (f_keptGuard := f_keptGuard) (f_keptRoot := f_keptRoot) (a_page := pg3) (a_users := ue3) (a_held := he3) (a_away := aw3) (a_roomRoot := a_roomRoot) (a_leadsTo := a_leadsTo) (a_rights := rg3) (a_table := tb3) (a_register := a_register) (a_ops := op3) (a_first := a_first) (a_second := a_second) (a_numbers := a_numbers) (a_kept := a_kept) (r := r) (k := 64 * c + 8 * (a / 64) + a / 8 % 8) (c := c) (d := a / 64) (t := a / 8 % 8) (gv := (W (8 * r + a / 64) &&& W (8 * sg_fr (W (8 * r + a / 64)) + a / 8 % 8)) &&& 6) m1.1 hf (by omega) (by omega) hc (by omega) hg
  unfold sg_RO
  refine ⟨sg_mL (sg_mL f_logged W (8 * r + a / 64) 8) (sg_mW W (8 * r + a / 64) 8) (8 * sg_fr (W (8 * r + a / 64)) + a / 8 % 8) (sg_lm wr), nI (a / 64), (nI (sg_fr (W (8 * r + a / 64)))), nI (a / 8 % 8), nI (sg_fr (W (8 * sg_fr (W (8 * r + a / 64)) + a / 8 % 8))), nI (sg_fr (W (8 * sg_fr (W (8 * r + a / 64)) + a / 8 % 8))), f_faultAddress, f_faultCode, f_accesses + 1, f_faults, nI (8 * r + a / 64), nI (8 * sg_fr (W (8 * r + a / 64)) + a / 8 % 8), nI (8 * sg_fr (W (8 * sg_fr (W (8 * r + a / 64)) + a / 8 % 8)) + a % 8), sg_cd wr us + 1, y_faultCode, pg3, ue3, he3, aw3, upd a_leadsTo (64 * c + 8 * (a / 64) + a / 8 % 8) (nI (sg_fr (W (8 * sg_fr (W (8 * r + a / 64)) + a / 8 % 8)))), upd rg3 (64 * c + 8 * (a / 64) + a / 8 % 8) may, upd tb3 (8 * c + a / 64) (nI (sg_fr (W (8 * r + a / 64)))), op3, sg_mW (sg_mW W (8 * r + a / 64) 8) (8 * sg_fr (W (8 * r + a / 64)) + a / 8 % 8) (sg_lm wr), upd (upd (upd G r 0) (sg_fr (W (8 * r + a / 64))) 0) (sg_fr (W (8 * sg_fr (W (8 * r + a / 64)) + a / 8 % 8))) 0, ⟨m1.1, sg_C_add m1.2.1 hc (by omega) (by omega) hr er (sg_LT rfl h1 h2 h3 r1), m1.2.2⟩, hF, Or.inr ⟨sg_fr (W (8 * sg_fr (W (8 * r + a / 64)) + a / 8 % 8)), hg, rfl, fun post h => ?_, fun post h => ?_⟩⟩
  · exact xs_reach_in ha hp (xs_reach_ok (by omega) hn k2 (sg_nn6 _) (sg_AL_and.mpr hA) j2 m2 r2 h)
  · refine ys_accT (by omega) (by omega) (by omega) (fun post h => ys_walk_in ha (ys_wD hr (by omega) (by omega) h1 h2 h3 (fun _ _ => h) (fun z => absurd hA z))) ?_
    rw [show (8 * r + a / 64) / 8 = r by omega, show (8 * sg_fr (W (8 * r + a / 64)) + a / 8 % 8) / 8 = sg_fr (W (8 * r + a / 64)) by omega, show (8 * sg_fr (W (8 * sg_fr (W (8 * r + a / 64)) + a / 8 % 8)) + a % 8) / 8 = sg_fr (W (8 * sg_fr (W (8 * r + a / 64)) + a / 8 % 8)) by omega]
    exact h
theorem sg_reach {a : Nat} {wr us : Int32} (ha : a < 512) (hS : sg_S a_page a_users a_held a_away a_roomRoot a_leadsTo a_rights a_table a_ops a_first a_second a_numbers f_guard W G) (hF : sg_Fa f_faultAddress f_faultCode y_faultCode) (hP : sg_P f_paging f_root f_room a_roomRoot y_root) : sg_RO f_paging f_guard f_root f_logged f_room f_oldest f_dirWord f_tableFrame f_tableWord f_target f_reached f_faultAddress f_faultCode f_accesses f_faults f_pc f_savedPc f_cause f_output f_outputs f_traps f_user f_savedUser f_stopped f_trapped f_any f_keptPaging f_keptGuard f_keptRoot y_root y_keptRoot y_faultCode y_first y_second y_goal y_code y_behindTrap a_page a_users a_held a_away a_roomRoot a_leadsTo a_rights a_table a_register a_ops a_first a_second a_numbers a_kept W G a wr us := by
  rcases hP with ⟨e1, e2⟩ | ⟨e1, r, c, hr, hc, e2, e3, e4, er⟩
  · subst e1 e2
    exact sg_r_flat ha hS hF
  · have hp : ¬ f_paging = 0 := by rw [e1]; decide
    subst e2 e3 e4
    by_cases hn : a_rights (64 * c + 8 * (a / 64) + a / 8 % 8) &&& sg_nd wr us = 0
    · by_cases h1 : W (8 * r + a / 64) &&& 1 = 0
      · exact sg_r_A ha hr hc er hp hS hF hn h1
      · by_cases h2 : W (8 * r + a / 64) &&& 32 = 0
        · by_cases h3 : W (8 * sg_fr (W (8 * r + a / 64)) + a / 8 % 8) &&& 1 = 0
          · exact sg_r_Cf ha hr hc er hp hS hF hn h1 h2 h3
          · by_cases hA : sg_AL f_guard (W (8 * r + a / 64)) wr us ∧ sg_AL f_guard (W (8 * sg_fr (W (8 * r + a / 64)) + a / 8 % 8)) wr us
            · exact sg_r_Dk ha hr hc er hp hS hF hn h1 h2 h3 hA
            · exact sg_r_Df ha hr hc er hp hS hF hn h1 h2 h3 hA
        · by_cases hA : sg_AL f_guard (W (8 * r + a / 64)) wr us
          · exact sg_r_Bk ha hr hc er hp hS hF hn h1 h2 hA
          · exact sg_r_Bf ha hr hc er hp hS hF hn h1 h2 hA
    · exact sg_r_hit ha hr hc er hp hS hF hn
end
end
section
/-! the relation -/
def sg_K (an kp kg kr yk : Int32) : Prop := an = 0 ∨ (¬ an = 0 ∧ (kg = 0 ∨ kg = 1) ∧ ((kp = 0 ∧ yk = -1) ∨ (kp = 1 ∧ ∃ r, r < 16 ∧ kr = nI r ∧ yk = nI r)))
def sg_I (f_paging f_guard f_root f_room f_oldest f_faultAddress f_faultCode f_user f_savedUser f_stopped f_trapped f_any f_keptPaging f_keptGuard f_keptRoot y_root y_keptRoot y_faultCode y_behindTrap : Int32) (a_page a_users a_held a_away a_roomRoot a_leadsTo a_rights a_table a_ops a_first a_second a_numbers W G : Nat → Int32) : Prop :=
  sg_S a_page a_users a_held a_away a_roomRoot a_leadsTo a_rights a_table a_ops a_first a_second a_numbers f_guard W G ∧ sg_P f_paging f_root f_room a_roomRoot y_root ∧ sg_Fa f_faultAddress f_faultCode y_faultCode ∧ (∃ o, o < 3 ∧ f_oldest = nI o) ∧
  (f_guard = 0 ∨ f_guard = 1) ∧ (f_user = 0 ∨ f_user = 1) ∧ (f_savedUser = 0 ∨ f_savedUser = 1) ∧ (f_stopped = 0 → y_behindTrap = f_trapped) ∧ sg_K f_any f_keptPaging f_keptGuard f_keptRoot y_keptRoot
def i_Rel (_ : Nat) (u : SX) (v : SY) : Prop := match u, v with
  | (f_paging, f_guard, f_root, f_logged, f_room, f_oldest, f_dirWord, f_tableFrame, f_tableWord, f_target, f_reached, f_faultAddress, f_faultCode, f_accesses, f_faults, f_pc, f_savedPc, f_cause, f_output, f_outputs, f_traps, f_user, f_savedUser, f_stopped, f_trapped, f_any, f_keptPaging, f_keptGuard, f_keptRoot, a_page, a_users, a_held, a_away, a_roomRoot, a_leadsTo, a_rights, a_table, a_register, a_ops, a_first, a_second, a_numbers, a_kept), (y_root, y_keptRoot, f_logged'', f_accesses'', f_faults'', f_faultAddress'', y_faultCode, f_guard'', f_keptGuard'', f_any'', y_first, y_second, y_goal, y_code, f_pc'', f_savedPc'', f_cause'', f_output'', f_outputs'', f_traps'', f_user'', f_savedUser'', f_stopped'', y_behindTrap, W, a_kept'', G, a_register'') => (f_logged'' = f_logged ∧ f_accesses'' = f_accesses ∧ f_faults'' = f_faults ∧ f_faultAddress'' = f_faultAddress ∧ f_guard'' = f_guard ∧ f_keptGuard'' = f_keptGuard ∧ f_any'' = f_any ∧ f_pc'' = f_pc ∧ f_savedPc'' = f_savedPc ∧ f_cause'' = f_cause ∧ f_output'' = f_output ∧ f_outputs'' = f_outputs ∧ f_traps'' = f_traps ∧ f_user'' = f_user ∧ f_savedUser'' = f_savedUser ∧ f_stopped'' = f_stopped ∧ a_kept'' = a_kept ∧ a_register'' = a_register) ∧ sg_I f_paging f_guard f_root f_room f_oldest f_faultAddress f_faultCode f_user f_savedUser f_stopped f_trapped f_any f_keptPaging f_keptGuard f_keptRoot y_root y_keptRoot y_faultCode y_behindTrap a_page a_users a_held a_away a_roomRoot a_leadsTo a_rights a_table a_ops a_first a_second a_numbers W G
theorem sg_el {k : Nat} {u : SX} {v : SY} {P : SX → SY → Prop} (h : ∀ (f_paging f_guard f_root f_logged f_room f_oldest f_dirWord f_tableFrame f_tableWord f_target f_reached f_faultAddress f_faultCode f_accesses f_faults f_pc f_savedPc f_cause f_output f_outputs f_traps f_user f_savedUser f_stopped f_trapped f_any f_keptPaging f_keptGuard f_keptRoot y_root y_keptRoot y_faultCode y_first y_second y_goal y_code y_behindTrap : Int32) (a_page a_users a_held a_away a_roomRoot a_leadsTo a_rights a_table a_register a_ops a_first a_second a_numbers a_kept W G : Nat → Int32), sg_I f_paging f_guard f_root f_room f_oldest f_faultAddress f_faultCode f_user f_savedUser f_stopped f_trapped f_any f_keptPaging f_keptGuard f_keptRoot y_root y_keptRoot y_faultCode y_behindTrap a_page a_users a_held a_away a_roomRoot a_leadsTo a_rights a_table a_ops a_first a_second a_numbers W G → P (f_paging, f_guard, f_root, f_logged, f_room, f_oldest, f_dirWord, f_tableFrame, f_tableWord, f_target, f_reached, f_faultAddress, f_faultCode, f_accesses, f_faults, f_pc, f_savedPc, f_cause, f_output, f_outputs, f_traps, f_user, f_savedUser, f_stopped, f_trapped, f_any, f_keptPaging, f_keptGuard, f_keptRoot, a_page, a_users, a_held, a_away, a_roomRoot, a_leadsTo, a_rights, a_table, a_register, a_ops, a_first, a_second, a_numbers, a_kept) (y_root, y_keptRoot, f_logged, f_accesses, f_faults, f_faultAddress, y_faultCode, f_guard, f_keptGuard, f_any, y_first, y_second, y_goal, y_code, f_pc, f_savedPc, f_cause, f_output, f_outputs, f_traps, f_user, f_savedUser, f_stopped, y_behindTrap, W, a_kept, G, a_register)) (I : i_Rel k u v) : P u v := by
  obtain ⟨f_paging, f_guard, f_root, f_logged, f_room, f_oldest, f_dirWord, f_tableFrame, f_tableWord, f_target, f_reached, f_faultAddress, f_faultCode, f_accesses, f_faults, f_pc, f_savedPc, f_cause, f_output, f_outputs, f_traps, f_user, f_savedUser, f_stopped, f_trapped, f_any, f_keptPaging, f_keptGuard, f_keptRoot, a_page, a_users, a_held, a_away, a_roomRoot, a_leadsTo, a_rights, a_table, a_register, a_ops, a_first, a_second, a_numbers, a_kept⟩ := u
  obtain ⟨y_root, y_keptRoot, f_logged'', f_accesses'', f_faults'', f_faultAddress'', y_faultCode, f_guard'', f_keptGuard'', f_any'', y_first, y_second, y_goal, y_code, f_pc'', f_savedPc'', f_cause'', f_output'', f_outputs'', f_traps'', f_user'', f_savedUser'', f_stopped'', y_behindTrap, W, a_kept'', G, a_register''⟩ := v
  obtain ⟨⟨e0, e1, e2, e3, e4, e5, e6, e7, e8, e9, e10, e11, e12, e13, e14, e15, e16, e17⟩, hI⟩ := I
  subst e0 e1 e2 e3 e4 e5 e6 e7 e8 e9 e10 e11 e12 e13 e14 e15 e16 e17
  exact h _ _ _ _ _ _ _ _ _ _ _ _ _ _ _ _ _ _ _ _ _ _ _ _ _ _ _ _ _ _ _ _ _ _ _ _ _ _ _ _ _ _ _ _ _ _ _ _ _ _ _ _ _ hI
theorem i_up {k : Nat} {u : SX} {v : SY} (h : i_Rel k u v) : i_Rel (k + 5) u v := h
section
variable {f_paging f_guard f_root f_logged f_room f_oldest f_dirWord f_tableFrame f_tableWord f_target f_reached f_faultAddress f_faultCode f_accesses f_faults f_pc f_savedPc f_cause f_output f_outputs f_traps f_user f_savedUser f_stopped f_trapped f_any f_keptPaging f_keptGuard f_keptRoot : Int32} {a_page a_users a_held a_away a_roomRoot a_leadsTo a_rights a_table a_register a_ops a_first a_second a_numbers a_kept : Nat → Int32} {y_root y_keptRoot y_faultCode y_first y_second y_goal y_code y_behindTrap : Int32} {W G : Nat → Int32}
theorem sg_mk {k : Nat} (h : sg_I f_paging f_guard f_root f_room f_oldest f_faultAddress f_faultCode f_user f_savedUser f_stopped f_trapped f_any f_keptPaging f_keptGuard f_keptRoot y_root y_keptRoot y_faultCode y_behindTrap a_page a_users a_held a_away a_roomRoot a_leadsTo a_rights a_table a_ops a_first a_second a_numbers W G) : i_Rel k (f_paging, f_guard, f_root, f_logged, f_room, f_oldest, f_dirWord, f_tableFrame, f_tableWord, f_target, f_reached, f_faultAddress, f_faultCode, f_accesses, f_faults, f_pc, f_savedPc, f_cause, f_output, f_outputs, f_traps, f_user, f_savedUser, f_stopped, f_trapped, f_any, f_keptPaging, f_keptGuard, f_keptRoot, a_page, a_users, a_held, a_away, a_roomRoot, a_leadsTo, a_rights, a_table, a_register, a_ops, a_first, a_second, a_numbers, a_kept) (y_root, y_keptRoot, f_logged, f_accesses, f_faults, f_faultAddress, y_faultCode, f_guard, f_keptGuard, f_any, y_first, y_second, y_goal, y_code, f_pc, f_savedPc, f_cause, f_output, f_outputs, f_traps, f_user, f_savedUser, f_stopped, y_behindTrap, W, a_kept, G, a_register) := And.intro ⟨rfl, rfl, rfl, rfl, rfl, rfl, rfl, rfl, rfl, rfl, rfl, rfl, rfl, rfl, rfl, rfl, rfl, rfl⟩ h
end
end
section
/-! bounds, and the methods that reach for a word -/
theorem sg_lt_of {x : Int32} {N : Nat} (hN : N + 1 < 2 ^ 31) (h : nI (N + 1) ≤ x) : nI N < x := by
  rw [Int32.lt_iff_toInt_lt, nI_toInt (by omega)]
  rw [Int32.le_iff_toInt_le, nI_toInt (by omega)] at h
  omega
section
variable {f_paging f_guard f_root f_logged f_room f_oldest f_dirWord f_tableFrame f_tableWord f_target f_reached f_faultAddress f_faultCode f_accesses f_faults f_pc f_savedPc f_cause f_output f_outputs f_traps f_user f_savedUser f_stopped f_trapped f_any f_keptPaging f_keptGuard f_keptRoot : Int32} {a_page a_users a_held a_away a_roomRoot a_leadsTo a_rights a_table a_register a_ops a_first a_second a_numbers a_kept : Nat → Int32} {y_root y_keptRoot y_faultCode y_first y_second y_goal y_code y_behindTrap : Int32} {W G : Nat → Int32}
theorem xs_in0 {post : Int32 → Prop} {x : Int32} {N : Nat} (h : x < 0 ∨ nI N ≤ x) (hp : post 0) : wpX_in post x (nI N) := by
  unfold wpX_in
  by_cases z : x < 0
  · exact br_t z hp
  · exact br_f z (br_t (h.resolve_left z) hp)
theorem xs_in1 {post : Int32 → Prop} {j N : Nat} (h : j < N) (hN : N < 2 ^ 31) (hp : post 1) : wpX_in post (nI j) (nI N) := by
  unfold wpX_in
  exact br_f (nI_pos (by omega)) (br_f (nI_ge h hN) hp)
theorem ys_in0 {post : Int32 → Prop} {x : Int32} {N : Nat} (hN : N + 1 < 2 ^ 31) (h : x < 0 ∨ nI (N + 1) ≤ x) (hp : post 0) : wpY_in post x 0 (nI N) := by
  unfold wpY_in
  by_cases z : x < 0
  · exact br_t z hp
  · exact br_f z (br_t (sg_lt_of hN (h.resolve_left z)) hp)
theorem ys_in1 {post : Int32 → Prop} {j N : Nat} (h : j < N + 1) (hN : N + 1 < 2 ^ 31) (hp : post 1) : wpY_in post (nI j) 0 (nI N) := by
  unfold wpY_in
  exact br_f (nI_pos (by omega)) (br_f (nI_nlt (by omega) (by omega)) hp)
theorem ys_ad0 {post : Int32 → Prop} {x : Int32} (h : x < 0 ∨ nI 512 ≤ x) (hp : post 0) : wpY_isAddress post x := by
  unfold wpY_isAddress
  exact ys_in0 (N := 511) (by omega) h ⟨rfl, hp⟩
theorem ys_ad1 {post : Int32 → Prop} {j : Nat} (h : j < 512) (hp : post 1) : wpY_isAddress post (nI j) := by
  unfold wpY_isAddress
  exact ys_in1 (N := 511) h (by omega) ⟨rfl, hp⟩
end
theorem i_vc_log {k : Nat} {u : SX} {v : SY} (I : i_Rel k u v) (hk : k + 5 ≤ 2560) : wpX_log (fun r u' => wpY_log (fun r' v' => r' = r ∧ i_Rel (k + 5) u' v') v) u := by
  refine sg_el (P := fun u v => wpX_log (fun r u' => wpY_log (fun r' v' => r' = r ∧ i_Rel (k + 5) u' v') v) u) ?_ I
  intro f_paging f_guard f_root f_logged f_room f_oldest f_dirWord f_tableFrame f_tableWord f_target f_reached f_faultAddress f_faultCode f_accesses f_faults f_pc f_savedPc f_cause f_output f_outputs f_traps f_user f_savedUser f_stopped f_trapped f_any f_keptPaging f_keptGuard f_keptRoot y_root y_keptRoot y_faultCode y_first y_second y_goal y_code y_behindTrap a_page a_users a_held a_away a_roomRoot a_leadsTo a_rights a_table a_register a_ops a_first a_second a_numbers a_kept W G hI
  unfold wpX_log wpY_log
  exact ⟨rfl, sg_mk hI⟩
theorem i_vc_peek {k : Nat} {u : SX} {v : SY} (I : i_Rel k u v) (hk : k + 5 ≤ 2560) (v1 : Int32) (v2 : Int32) : wpX_peek (fun r => wpY_peek (fun r' => r' = r ∧ i_Rel (k + 5) u v) v v1 v2) u v1 v2 := by
  refine sg_el (P := fun u v => wpX_peek (fun r => wpY_peek (fun r' => r' = r ∧ i_Rel (k + 5) u v) v v1 v2) u v1 v2) ?_ I
  intro f_paging f_guard f_root f_logged f_room f_oldest f_dirWord f_tableFrame f_tableWord f_target f_reached f_faultAddress f_faultCode f_accesses f_faults f_pc f_savedPc f_cause f_output f_outputs f_traps f_user f_savedUser f_stopped f_trapped f_any f_keptPaging f_keptGuard f_keptRoot y_root y_keptRoot y_faultCode y_first y_second y_goal y_code y_behindTrap a_page a_users a_held a_away a_roomRoot a_leadsTo a_rights a_table a_register a_ops a_first a_second a_numbers a_kept W G hI
  have hM := hI.1.1
  unfold wpX_peek
  rcases pk_ix v1 (n := 16) (by omega) with h | h | ⟨f, hf, rfl⟩
  · refine xs_in0 (N := 16) (Or.inl h) (br_t rfl ?_)
    unfold wpY_peek
    exact ys_in0 (N := 15) (by omega) (Or.inl h) (br_t rfl ⟨rfl, sg_mk hI⟩)
  · refine xs_in0 (N := 16) (Or.inr h) (br_t rfl ?_)
    unfold wpY_peek
    exact ys_in0 (N := 15) (by omega) (Or.inr h) (br_t rfl ⟨rfl, sg_mk hI⟩)
  · refine xs_in1 (N := 16) hf (by omega) (br_f (by decide) ?_)
    rcases pk_ix v2 (n := 8) (by omega) with h | h | ⟨w, hw, rfl⟩
    · refine xs_in0 (N := 8) (Or.inl h) (br_t rfl ?_)
      unfold wpY_peek
      exact ys_in1 (N := 15) hf (by omega) (br_f (by decide) (ys_in0 (N := 7) (by omega) (Or.inl h) (br_t rfl ⟨rfl, sg_mk hI⟩)))
    · refine xs_in0 (N := 8) (Or.inr h) (br_t rfl ?_)
      unfold wpY_peek
      exact ys_in1 (N := 15) hf (by omega) (br_f (by decide) (ys_in0 (N := 7) (by omega) (Or.inr h) (br_t rfl ⟨rfl, sg_mk hI⟩)))
    · refine xs_in1 (N := 8) hw (by omega) (br_f (by decide) ?_)
      refine xs_word hM hf hw ?_
      unfold wpY_peek
      refine ys_in1 (N := 15) hf (by omega) (br_f (by decide) (ys_in1 (N := 7) hw (by omega) (br_f (by decide) ?_)))
      rw [sg_ix8 f w, nI_clamp (show 8 * f + w < 2 ^ 31 by omega)]
      exact ⟨vp_in_nI (by omega) (by omega), rfl, sg_mk hI⟩
theorem i_vc_load {k : Nat} {u : SX} {v : SY} (I : i_Rel k u v) (hk : k + 5 ≤ 2560) (v1 : Int32) (v2 : Int32) : wpX_load (fun r u' => wpY_load (fun r' v' => r' = r ∧ i_Rel (k + 5) u' v') v v1 (lw_bz v2)) u v1 (lw_bz v2) := by
  refine sg_el (P := fun u v => wpX_load (fun r u' => wpY_load (fun r' v' => r' = r ∧ i_Rel (k + 5) u' v') v v1 (lw_bz v2)) u v1 (lw_bz v2)) ?_ I
  intro f_paging f_guard f_root f_logged f_room f_oldest f_dirWord f_tableFrame f_tableWord f_target f_reached f_faultAddress f_faultCode f_accesses f_faults f_pc f_savedPc f_cause f_output f_outputs f_traps f_user f_savedUser f_stopped f_trapped f_any f_keptPaging f_keptGuard f_keptRoot y_root y_keptRoot y_faultCode y_first y_second y_goal y_code y_behindTrap a_page a_users a_held a_away a_roomRoot a_leadsTo a_rights a_table a_register a_ops a_first a_second a_numbers a_kept W G hI
  obtain ⟨hS, hP, hF, hR⟩ := id hI
  have out : (v1 < 0 ∨ nI 512 ≤ v1) → wpX_load (fun r u' => wpY_load (fun r' v' => r' = r ∧ i_Rel (k + 5) u' v') (y_root, y_keptRoot, f_logged, f_accesses, f_faults, f_faultAddress, y_faultCode, f_guard, f_keptGuard, f_any, y_first, y_second, y_goal, y_code, f_pc, f_savedPc, f_cause, f_output, f_outputs, f_traps, f_user, f_savedUser, f_stopped, y_behindTrap, W, a_kept, G, a_register) v1 (lw_bz v2)) (f_paging, f_guard, f_root, f_logged, f_room, f_oldest, f_dirWord, f_tableFrame, f_tableWord, f_target, f_reached, f_faultAddress, f_faultCode, f_accesses, f_faults, f_pc, f_savedPc, f_cause, f_output, f_outputs, f_traps, f_user, f_savedUser, f_stopped, f_trapped, f_any, f_keptPaging, f_keptGuard, f_keptRoot, a_page, a_users, a_held, a_away, a_roomRoot, a_leadsTo, a_rights, a_table, a_register, a_ops, a_first, a_second, a_numbers, a_kept) v1 (lw_bz v2) := by
    intro h
    unfold wpX_load
    refine xs_in0 (N := 512) h (br_t rfl ?_)
    unfold wpY_load
    exact ys_ad0 h (br_t rfl ⟨rfl, sg_mk hI⟩)
  rcases pk_ix v1 (n := 512) (by omega) with h | h | ⟨a, ha, rfl⟩
  · exact out (Or.inl h)
  · exact out (Or.inr h)
  · obtain ⟨f_logged', f_dirWord', f_tableFrame', f_tableWord', f_target', f_reached', f_faultAddress', f_faultCode', f_accesses', f_faults', y_first', y_second', y_goal', y_code', y_faultCode', a_page', a_users', a_held', a_away', a_leadsTo', a_rights', a_table', a_ops', W', G', hS', hF', hc⟩ := sg_reach (f_paging := f_paging) (f_guard := f_guard) (f_root := f_root) (f_logged := f_logged) (f_room := f_room) (f_oldest := f_oldest) (f_dirWord := f_dirWord) (f_tableFrame := f_tableFrame) (f_tableWord := f_tableWord) (f_target := f_target) (f_reached := f_reached) (f_faultAddress := f_faultAddress) (f_faultCode := f_faultCode) (f_accesses := f_accesses) (f_faults := f_faults) (f_pc := f_pc) (f_savedPc := f_savedPc) (f_cause := f_cause) (f_output := f_output) (f_outputs := f_outputs) (f_traps := f_traps) (f_user := f_user) (f_savedUser := f_savedUser) (f_stopped := f_stopped) (f_trapped := f_trapped) (f_any := f_any) (f_keptPaging := f_keptPaging) (f_keptGuard := f_keptGuard) (f_keptRoot := f_keptRoot) (y_root := y_root) (y_keptRoot := y_keptRoot) (y_faultCode := y_faultCode) (y_first := y_first) (y_second := y_second) (y_goal := y_goal) (y_code := y_code) (y_behindTrap := y_behindTrap) (a_page := a_page) (a_users := a_users) (a_held := a_held) (a_away := a_away) (a_roomRoot := a_roomRoot) (a_leadsTo := a_leadsTo) (a_rights := a_rights) (a_table := a_table) (a_register := a_register) (a_ops := a_ops) (a_first := a_first) (a_second := a_second) (a_numbers := a_numbers) (a_kept := a_kept) (W := W) (G := G) (wr := 0) (us := lw_bz v2) ha hS hF hP
    unfold wpX_load
    refine xs_in1 (N := 512) ha (by omega) (br_f (by decide) ?_)
    rcases hc with ⟨kx, ky⟩ | ⟨g, hg, eg, kx, ky⟩
    · refine kx _ (br_t rfl ?_)
      unfold wpY_load
      refine ys_ad1 ha (br_f (by decide) (ky _ ?_))
      exact br_f (by decide) ⟨rfl, sg_mk ⟨hS', hP, hF', hR⟩⟩
    · subst eg
      refine kx _ (br_f (by decide) ?_)
      rw [sg_an7 ha]
      refine xs_word hS'.1 hg (by omega) ?_
      unfold wpY_load
      refine ys_ad1 ha (br_f (by decide) (ky _ ?_))
      refine br_t (nI_pos' (by omega)) ⟨vp_in_nI (by omega) (by omega), ?_⟩
      rw [nI_clamp (show 8 * g + a % 8 < 2 ^ 31 by omega)]
      exact ⟨rfl, sg_mk ⟨hS', hP, hF', hR⟩⟩
theorem i_vc_store {k : Nat} {u : SX} {v : SY} (I : i_Rel k u v) (hk : k + 5 ≤ 2560) (v1 : Int32) (v2 : Int32) (v3 : Int32) : wpX_store (fun r u' => wpY_store (fun r' v' => r' = r ∧ i_Rel (k + 5) u' v') v v1 v2 (lw_bz v3)) u v1 v2 (lw_bz v3) := by
  refine sg_el (P := fun u v => wpX_store (fun r u' => wpY_store (fun r' v' => r' = r ∧ i_Rel (k + 5) u' v') v v1 v2 (lw_bz v3)) u v1 v2 (lw_bz v3)) ?_ I
  intro f_paging f_guard f_root f_logged f_room f_oldest f_dirWord f_tableFrame f_tableWord f_target f_reached f_faultAddress f_faultCode f_accesses f_faults f_pc f_savedPc f_cause f_output f_outputs f_traps f_user f_savedUser f_stopped f_trapped f_any f_keptPaging f_keptGuard f_keptRoot y_root y_keptRoot y_faultCode y_first y_second y_goal y_code y_behindTrap a_page a_users a_held a_away a_roomRoot a_leadsTo a_rights a_table a_register a_ops a_first a_second a_numbers a_kept W G hI
  obtain ⟨hS, hP, hF, hR⟩ := id hI
  have out : (v1 < 0 ∨ nI 512 ≤ v1) → wpX_store (fun r u' => wpY_store (fun r' v' => r' = r ∧ i_Rel (k + 5) u' v') (y_root, y_keptRoot, f_logged, f_accesses, f_faults, f_faultAddress, y_faultCode, f_guard, f_keptGuard, f_any, y_first, y_second, y_goal, y_code, f_pc, f_savedPc, f_cause, f_output, f_outputs, f_traps, f_user, f_savedUser, f_stopped, y_behindTrap, W, a_kept, G, a_register) v1 v2 (lw_bz v3)) (f_paging, f_guard, f_root, f_logged, f_room, f_oldest, f_dirWord, f_tableFrame, f_tableWord, f_target, f_reached, f_faultAddress, f_faultCode, f_accesses, f_faults, f_pc, f_savedPc, f_cause, f_output, f_outputs, f_traps, f_user, f_savedUser, f_stopped, f_trapped, f_any, f_keptPaging, f_keptGuard, f_keptRoot, a_page, a_users, a_held, a_away, a_roomRoot, a_leadsTo, a_rights, a_table, a_register, a_ops, a_first, a_second, a_numbers, a_kept) v1 v2 (lw_bz v3) := by
    intro h
    unfold wpX_store
    refine xs_in0 (N := 512) h (br_t rfl ?_)
    unfold wpY_store
    exact ys_ad0 h (br_t rfl ⟨rfl, sg_mk hI⟩)
  rcases pk_ix v1 (n := 512) (by omega) with h | h | ⟨a, ha, rfl⟩
  · exact out (Or.inl h)
  · exact out (Or.inr h)
  · obtain ⟨f_logged', f_dirWord', f_tableFrame', f_tableWord', f_target', f_reached', f_faultAddress', f_faultCode', f_accesses', f_faults', y_first', y_second', y_goal', y_code', y_faultCode', a_page', a_users', a_held', a_away', a_leadsTo', a_rights', a_table', a_ops', W', G', hS', hF', hc⟩ := sg_reach (f_paging := f_paging) (f_guard := f_guard) (f_root := f_root) (f_logged := f_logged) (f_room := f_room) (f_oldest := f_oldest) (f_dirWord := f_dirWord) (f_tableFrame := f_tableFrame) (f_tableWord := f_tableWord) (f_target := f_target) (f_reached := f_reached) (f_faultAddress := f_faultAddress) (f_faultCode := f_faultCode) (f_accesses := f_accesses) (f_faults := f_faults) (f_pc := f_pc) (f_savedPc := f_savedPc) (f_cause := f_cause) (f_output := f_output) (f_outputs := f_outputs) (f_traps := f_traps) (f_user := f_user) (f_savedUser := f_savedUser) (f_stopped := f_stopped) (f_trapped := f_trapped) (f_any := f_any) (f_keptPaging := f_keptPaging) (f_keptGuard := f_keptGuard) (f_keptRoot := f_keptRoot) (y_root := y_root) (y_keptRoot := y_keptRoot) (y_faultCode := y_faultCode) (y_first := y_first) (y_second := y_second) (y_goal := y_goal) (y_code := y_code) (y_behindTrap := y_behindTrap) (a_page := a_page) (a_users := a_users) (a_held := a_held) (a_away := a_away) (a_roomRoot := a_roomRoot) (a_leadsTo := a_leadsTo) (a_rights := a_rights) (a_table := a_table) (a_register := a_register) (a_ops := a_ops) (a_first := a_first) (a_second := a_second) (a_numbers := a_numbers) (a_kept := a_kept) (W := W) (G := G) (wr := 1) (us := lw_bz v3) ha hS hF hP
    unfold wpX_store
    refine xs_in1 (N := 512) ha (by omega) (br_f (by decide) ?_)
    rcases hc with ⟨kx, ky⟩ | ⟨g, hg, eg, kx, ky⟩
    · refine kx _ (br_t rfl ?_)
      unfold wpY_store
      refine ys_ad1 ha (br_f (by decide) (ky _ ?_))
      exact br_f (by decide) ⟨rfl, sg_mk ⟨hS', hP, hF', hR⟩⟩
    · subst eg
      obtain ⟨pg, ue, he, aw, rg, tb, op, n1, n2⟩ := xs_note (f_paging := f_paging) (f_guard := f_guard) (f_root := f_root) (f_logged := f_logged') (f_room := f_room) (f_oldest := f_oldest) (f_dirWord := f_dirWord') (f_tableFrame := f_tableFrame') (f_tableWord := f_tableWord') (f_target := f_target') (f_reached := nI g) (f_faultAddress := f_faultAddress') (f_faultCode := f_faultCode') (f_accesses := f_accesses') (f_faults := f_faults') (f_pc := f_pc) (f_savedPc := f_savedPc) (f_cause := f_cause) (f_output := f_output) (f_outputs := f_outputs) (f_traps := f_traps) (f_user := f_user) (f_savedUser := f_savedUser) (f_stopped := f_stopped) (f_trapped := f_trapped) (f_any := f_any) (f_keptPaging := f_keptPaging) (f_keptGuard := f_keptGuard) (f_keptRoot := f_keptRoot) (a_page := a_page') (a_users := a_users') (a_held := a_held') (a_away := a_away') (a_roomRoot := a_roomRoot) (a_leadsTo := a_leadsTo') (a_rights := a_rights') (a_table := a_table') (a_register := a_register) (a_ops := a_ops') (a_first := a_first) (a_second := a_second) (a_numbers := a_numbers) (a_kept := a_kept) (f := g) (w := a % 8) (v := v2) hS' hg (by omega)
      refine kx _ (br_f (by decide) ?_)
      rw [sg_an7 ha]
      refine n2 _ ?_
      unfold wpY_store
      refine ys_ad1 ha (br_f (by decide) (ky _ ?_))
      refine br_t (nI_pos' (by omega)) (ys_write (by omega) ?_)
      rw [show (8 * g + a % 8) / 8 = g by omega]
      exact ⟨rfl, sg_mk ⟨n1, hP, hF', hR⟩⟩
theorem i_vc_add {k : Nat} {u : SX} {v : SY} (I : i_Rel k u v) (hk : k + 5 ≤ 2560) (v1 : Int32) (v2 : Int32) (v3 : Int32) : wpX_add (fun r u' => wpY_add (fun r' v' => r' = r ∧ i_Rel (k + 5) u' v') v v1 v2 (lw_bz v3)) u v1 v2 (lw_bz v3) := by
  refine sg_el (P := fun u v => wpX_add (fun r u' => wpY_add (fun r' v' => r' = r ∧ i_Rel (k + 5) u' v') v v1 v2 (lw_bz v3)) u v1 v2 (lw_bz v3)) ?_ I
  intro f_paging f_guard f_root f_logged f_room f_oldest f_dirWord f_tableFrame f_tableWord f_target f_reached f_faultAddress f_faultCode f_accesses f_faults f_pc f_savedPc f_cause f_output f_outputs f_traps f_user f_savedUser f_stopped f_trapped f_any f_keptPaging f_keptGuard f_keptRoot y_root y_keptRoot y_faultCode y_first y_second y_goal y_code y_behindTrap a_page a_users a_held a_away a_roomRoot a_leadsTo a_rights a_table a_register a_ops a_first a_second a_numbers a_kept W G hI
  obtain ⟨hS, hP, hF, hR⟩ := id hI
  have out : (v1 < 0 ∨ nI 512 ≤ v1) → wpX_add (fun r u' => wpY_add (fun r' v' => r' = r ∧ i_Rel (k + 5) u' v') (y_root, y_keptRoot, f_logged, f_accesses, f_faults, f_faultAddress, y_faultCode, f_guard, f_keptGuard, f_any, y_first, y_second, y_goal, y_code, f_pc, f_savedPc, f_cause, f_output, f_outputs, f_traps, f_user, f_savedUser, f_stopped, y_behindTrap, W, a_kept, G, a_register) v1 v2 (lw_bz v3)) (f_paging, f_guard, f_root, f_logged, f_room, f_oldest, f_dirWord, f_tableFrame, f_tableWord, f_target, f_reached, f_faultAddress, f_faultCode, f_accesses, f_faults, f_pc, f_savedPc, f_cause, f_output, f_outputs, f_traps, f_user, f_savedUser, f_stopped, f_trapped, f_any, f_keptPaging, f_keptGuard, f_keptRoot, a_page, a_users, a_held, a_away, a_roomRoot, a_leadsTo, a_rights, a_table, a_register, a_ops, a_first, a_second, a_numbers, a_kept) v1 v2 (lw_bz v3) := by
    intro h
    unfold wpX_add
    refine xs_in0 (N := 512) h (br_t rfl ?_)
    unfold wpY_add
    exact ys_ad0 h (br_t rfl ⟨rfl, sg_mk hI⟩)
  rcases pk_ix v1 (n := 512) (by omega) with h | h | ⟨a, ha, rfl⟩
  · exact out (Or.inl h)
  · exact out (Or.inr h)
  · obtain ⟨f_logged', f_dirWord', f_tableFrame', f_tableWord', f_target', f_reached', f_faultAddress', f_faultCode', f_accesses', f_faults', y_first', y_second', y_goal', y_code', y_faultCode', a_page', a_users', a_held', a_away', a_leadsTo', a_rights', a_table', a_ops', W', G', hS', hF', hc⟩ := sg_reach (f_paging := f_paging) (f_guard := f_guard) (f_root := f_root) (f_logged := f_logged) (f_room := f_room) (f_oldest := f_oldest) (f_dirWord := f_dirWord) (f_tableFrame := f_tableFrame) (f_tableWord := f_tableWord) (f_target := f_target) (f_reached := f_reached) (f_faultAddress := f_faultAddress) (f_faultCode := f_faultCode) (f_accesses := f_accesses) (f_faults := f_faults) (f_pc := f_pc) (f_savedPc := f_savedPc) (f_cause := f_cause) (f_output := f_output) (f_outputs := f_outputs) (f_traps := f_traps) (f_user := f_user) (f_savedUser := f_savedUser) (f_stopped := f_stopped) (f_trapped := f_trapped) (f_any := f_any) (f_keptPaging := f_keptPaging) (f_keptGuard := f_keptGuard) (f_keptRoot := f_keptRoot) (y_root := y_root) (y_keptRoot := y_keptRoot) (y_faultCode := y_faultCode) (y_first := y_first) (y_second := y_second) (y_goal := y_goal) (y_code := y_code) (y_behindTrap := y_behindTrap) (a_page := a_page) (a_users := a_users) (a_held := a_held) (a_away := a_away) (a_roomRoot := a_roomRoot) (a_leadsTo := a_leadsTo) (a_rights := a_rights) (a_table := a_table) (a_register := a_register) (a_ops := a_ops) (a_first := a_first) (a_second := a_second) (a_numbers := a_numbers) (a_kept := a_kept) (W := W) (G := G) (wr := 1) (us := lw_bz v3) ha hS hF hP
    unfold wpX_add
    refine xs_in1 (N := 512) ha (by omega) (br_f (by decide) ?_)
    rcases hc with ⟨kx, ky⟩ | ⟨g, hg, eg, kx, ky⟩
    · refine kx _ (br_t rfl ?_)
      unfold wpY_add
      refine ys_ad1 ha (br_f (by decide) (ky _ ?_))
      exact br_f (by decide) ⟨rfl, sg_mk ⟨hS', hP, hF', hR⟩⟩
    · subst eg
      obtain ⟨pg, ue, he, aw, rg, tb, op, n1, n2⟩ := xs_note (f_paging := f_paging) (f_guard := f_guard) (f_root := f_root) (f_logged := f_logged') (f_room := f_room) (f_oldest := f_oldest) (f_dirWord := f_dirWord') (f_tableFrame := f_tableFrame') (f_tableWord := f_tableWord') (f_target := f_target') (f_reached := nI g) (f_faultAddress := f_faultAddress') (f_faultCode := f_faultCode') (f_accesses := f_accesses') (f_faults := f_faults') (f_pc := f_pc) (f_savedPc := f_savedPc) (f_cause := f_cause) (f_output := f_output) (f_outputs := f_outputs) (f_traps := f_traps) (f_user := f_user) (f_savedUser := f_savedUser) (f_stopped := f_stopped) (f_trapped := f_trapped) (f_any := f_any) (f_keptPaging := f_keptPaging) (f_keptGuard := f_keptGuard) (f_keptRoot := f_keptRoot) (a_page := a_page') (a_users := a_users') (a_held := a_held') (a_away := a_away') (a_roomRoot := a_roomRoot) (a_leadsTo := a_leadsTo') (a_rights := a_rights') (a_table := a_table') (a_register := a_register) (a_ops := a_ops') (a_first := a_first) (a_second := a_second) (a_numbers := a_numbers) (a_kept := a_kept) (f := g) (w := a % 8) (v := W' (8 * g + a % 8) + v2) hS' hg (by omega)
      refine kx _ (br_f (by decide) ?_)
      rw [sg_an7 ha]
      refine xs_word hS'.1 hg (by omega) ?_
      refine n2 _ ?_
      unfold wpY_add
      refine ys_ad1 ha (br_f (by decide) (ky _ ?_))
      refine br_t (nI_pos' (by omega)) ⟨vp_in_nI (by omega) (by omega), ?_⟩
      rw [nI_clamp (show 8 * g + a % 8 < 2 ^ 31 by omega)]
      refine nm_e (ys_write (by omega) ?_)
      rw [show (8 * g + a % 8) / 8 = g by omega]
      exact ⟨rfl, sg_mk ⟨n1, hP, hF', hR⟩⟩
end
section
/-! ways asked for, and the processor's and the host's numbers -/
def sg_gc (G : Nat → Int32) : Nat → Nat
  | 0 => 0
  | n + 1 => sg_gc G n + (if G n = 0 then 0 else 1)
theorem sg_gc_le (G : Nat → Int32) (n : Nat) : sg_gc G n ≤ n := by
  induction n with
  | zero => exact Nat.le_refl _
  | succ n ih => unfold sg_gc; split <;> omega
section
variable {f_paging f_guard f_root f_logged f_room f_oldest f_dirWord f_tableFrame f_tableWord f_target f_reached f_faultAddress f_faultCode f_accesses f_faults f_pc f_savedPc f_cause f_output f_outputs f_traps f_user f_savedUser f_stopped f_trapped f_any f_keptPaging f_keptGuard f_keptRoot : Int32} {a_page a_users a_held a_away a_roomRoot a_leadsTo a_rights a_table a_register a_ops a_first a_second a_numbers a_kept : Nat → Int32} {y_root y_keptRoot y_faultCode y_first y_second y_goal y_code y_behindTrap : Int32} {W G : Nat → Int32}
theorem xs_gone {post : Int32 → Prop} (hM : sg_M a_page a_users a_held a_away W G) (h : post (nI (sg_gc G 16))) : wpX_gone post (f_paging, f_guard, f_root, f_logged, f_room, f_oldest, f_dirWord, f_tableFrame, f_tableWord, f_target, f_reached, f_faultAddress, f_faultCode, f_accesses, f_faults, f_pc, f_savedPc, f_cause, f_output, f_outputs, f_traps, f_user, f_savedUser, f_stopped, f_trapped, f_any, f_keptPaging, f_keptGuard, f_keptRoot, a_page, a_users, a_held, a_away, a_roomRoot, a_leadsTo, a_rights, a_table, a_register, a_ops, a_first, a_second, a_numbers, a_kept) := by
  have key : ∀ m i, i + m = 16 → wX_gone_4 post f_paging f_guard f_root f_logged f_room f_oldest f_dirWord f_tableFrame f_tableWord f_target f_reached f_faultAddress f_faultCode f_accesses f_faults f_pc f_savedPc f_cause f_output f_outputs f_traps f_user f_savedUser f_stopped f_trapped f_any f_keptPaging f_keptGuard f_keptRoot a_page a_users a_held a_away a_roomRoot a_leadsTo a_rights a_table a_register a_ops a_first a_second a_numbers a_kept (m + 1) (nI (sg_gc G i)) (nI i) := by
    intro m
    induction m with
    | zero =>
      intro i hi
      have e : i = 16 := by omega
      subst e
      exact br_t (by decide) h
    | succ m ih =>
      intro i hi
      have hi16 : i < 16 := by omega
      have k := ih (i + 1) (by omega)
      unfold sg_gc at k
      refine br_f (nI_ge (b := 16) hi16 (by omega)) ⟨vp_in_nI hi16 (by omega), ?_⟩
      rw [nI_clamp (show i < 2 ^ 31 by omega)]
      rcases hM.1 i hi16 with ⟨e, eg⟩ | ⟨eg, p, hp, e⟩
      · rw [e]
        rw [eg, if_neg (by decide)] at k
        exact br_f (by decide) (nm_r (nI_1 _) (nm_r (nI_1 i) k))
      · rw [e]
        rw [eg, if_pos rfl] at k
        exact br_t (nI_pos' (by omega)) (nm_r (nI_1 i) k)
  unfold wpX_gone
  exact ⟨17, key 16 0 (by omega)⟩
theorem ys_state {post : Int32 → Prop} {x1 : Int32} (h : wY_state_4 post x1 y_root y_keptRoot f_logged f_accesses f_faults f_faultAddress y_faultCode f_guard f_keptGuard f_any y_first y_second y_goal y_code f_pc f_savedPc f_cause f_output f_outputs f_traps f_user f_savedUser f_stopped y_behindTrap W a_kept G a_register 1 (nI (sg_gc G 16)) (nI 16)) : wpY_state post (y_root, y_keptRoot, f_logged, f_accesses, f_faults, f_faultAddress, y_faultCode, f_guard, f_keptGuard, f_any, y_first, y_second, y_goal, y_code, f_pc, f_savedPc, f_cause, f_output, f_outputs, f_traps, f_user, f_savedUser, f_stopped, y_behindTrap, W, a_kept, G, a_register) x1 := by
  have key : ∀ m i, i + m = 16 → wY_state_4 post x1 y_root y_keptRoot f_logged f_accesses f_faults f_faultAddress y_faultCode f_guard f_keptGuard f_any y_first y_second y_goal y_code f_pc f_savedPc f_cause f_output f_outputs f_traps f_user f_savedUser f_stopped y_behindTrap W a_kept G a_register (m + 1) (nI (sg_gc G i)) (nI i) := by
    intro m
    induction m with
    | zero =>
      intro i hi
      have e : i = 16 := by omega
      subst e
      exact h
    | succ m ih =>
      intro i hi
      have hi16 : i < 16 := by omega
      have k := ih (i + 1) (by omega)
      unfold sg_gc at k
      refine br_f (nI_ge (b := 16) hi16 (by omega)) ⟨vp_in_nI hi16 (by omega), ?_⟩
      rw [nI_clamp (show i < 2 ^ 31 by omega)]
      by_cases e : G i = 0
      · rw [if_pos e] at k
        exact br_t e (nm_r (nI_1 i) k)
      · rw [if_neg e] at k
        exact br_f e (nm_r (nI_1 _) (nm_r (nI_1 i) k))
  unfold wpY_state
  exact ⟨17, key 16 0 (by omega)⟩
end
theorem i_vc_where {k : Nat} {u : SX} {v : SY} (I : i_Rel k u v) (hk : k + 5 ≤ 2560) (v1 : Int32) (v2 : Int32) (v3 : Int32) : wpX_where (fun r u' => wpY_where (fun r' v' => r' = r ∧ i_Rel (k + 5) u' v') v v1 (lw_bz v2) (lw_bz v3)) u v1 (lw_bz v2) (lw_bz v3) := by
  refine sg_el (P := fun u v => wpX_where (fun r u' => wpY_where (fun r' v' => r' = r ∧ i_Rel (k + 5) u' v') v v1 (lw_bz v2) (lw_bz v3)) u v1 (lw_bz v2) (lw_bz v3)) ?_ I
  intro f_paging f_guard f_root f_logged f_room f_oldest f_dirWord f_tableFrame f_tableWord f_target f_reached f_faultAddress f_faultCode f_accesses f_faults f_pc f_savedPc f_cause f_output f_outputs f_traps f_user f_savedUser f_stopped f_trapped f_any f_keptPaging f_keptGuard f_keptRoot y_root y_keptRoot y_faultCode y_first y_second y_goal y_code y_behindTrap a_page a_users a_held a_away a_roomRoot a_leadsTo a_rights a_table a_register a_ops a_first a_second a_numbers a_kept W G hI
  obtain ⟨hS, hP, hF, hR⟩ := id hI
  have hM := hS.1
  have out : (v1 < 0 ∨ nI 512 ≤ v1) → wpX_where (fun r u' => wpY_where (fun r' v' => r' = r ∧ i_Rel (k + 5) u' v') (y_root, y_keptRoot, f_logged, f_accesses, f_faults, f_faultAddress, y_faultCode, f_guard, f_keptGuard, f_any, y_first, y_second, y_goal, y_code, f_pc, f_savedPc, f_cause, f_output, f_outputs, f_traps, f_user, f_savedUser, f_stopped, y_behindTrap, W, a_kept, G, a_register) v1 (lw_bz v2) (lw_bz v3)) (f_paging, f_guard, f_root, f_logged, f_room, f_oldest, f_dirWord, f_tableFrame, f_tableWord, f_target, f_reached, f_faultAddress, f_faultCode, f_accesses, f_faults, f_pc, f_savedPc, f_cause, f_output, f_outputs, f_traps, f_user, f_savedUser, f_stopped, f_trapped, f_any, f_keptPaging, f_keptGuard, f_keptRoot, a_page, a_users, a_held, a_away, a_roomRoot, a_leadsTo, a_rights, a_table, a_register, a_ops, a_first, a_second, a_numbers, a_kept) v1 (lw_bz v2) (lw_bz v3) := by
    intro h
    unfold wpX_where
    refine xs_in0 (N := 512) h (br_t rfl ?_)
    unfold wpY_where
    exact ys_ad0 h (br_t rfl ⟨rfl, sg_mk hI⟩)
  rcases pk_ix v1 (n := 512) (by omega) with h | h | ⟨a, ha, rfl⟩
  · exact out (Or.inl h)
  · exact out (Or.inr h)
  · unfold wpX_where
    refine xs_in1 (N := 512) ha (by omega) (br_f (by decide) ?_)
    rcases hP with ⟨e1, e2⟩ | ⟨e1, r, c, hr, hc, e2, e3, e4, er⟩
    · refine br_t e1 ?_
      subst e2
      unfold wpX_flat
      rw [sg_sh37 ha, sg_sh6 ha, sg_an1 (by omega), sg_m8, nI_add, sg_an7 ha]
      dsimp only
      rw [sg_ix8]
      unfold wpY_where
      refine ys_ad1 ha (br_f (by decide) (ys_walk_in ha (ys_w0 (by omega) (by omega) (by omega) ?_)))
      exact ⟨rfl, sg_mk hI⟩
    · refine br_f (by rw [e1]; decide) ?_
      subst e2 e3
      refine xs_walk_0 ha ?_
      by_cases h1 : W (8 * r + a / 64) &&& 1 = 0
      · refine xs_wA hM hr (by omega) h1 (xs_allowedN (by decide) (br_t rfl ?_))
        unfold wpY_where
        refine ys_ad1 ha (br_f (by decide) (ys_walk_in ha (ys_wA hr (by omega) h1 ?_)))
        exact ⟨rfl, sg_mk hI⟩
      · by_cases h2 : W (8 * r + a / 64) &&& 32 = 0
        · refine xs_wT hM hr (by omega) h1 h2 ?_
          by_cases h3 : W (8 * sg_fr (W (8 * r + a / 64)) + a / 8 % 8) &&& 1 = 0
          · refine xs_w112N hM (sg_fr_lt _) (by omega) h3 (xs_allowedN (by decide) (br_t rfl ?_))
            unfold wpY_where
            refine ys_ad1 ha (br_f (by decide) (ys_walk_in ha (ys_wC hr (by omega) (by omega) h1 h2 h3 ?_)))
            exact ⟨rfl, sg_mk hI⟩
          · refine xs_w112 hM (sg_fr_lt _) (by omega) h3 (xs_allowed (sg_nn6 _) (fun hA => br_f (by decide) ?_) (fun hA => br_t rfl ?_))
            · rw [sg_an7 ha, sg_ix8]
              unfold wpY_where
              refine ys_ad1 ha (br_f (by decide) (ys_walk_in ha (ys_wD hr (by omega) (by omega) h1 h2 h3 (fun _ _ => ?_) (fun z => absurd (sg_AL_and.mp hA) z))))
              exact ⟨rfl, sg_mk hI⟩
            · unfold wpY_where
              refine ys_ad1 ha (br_f (by decide) (ys_walk_in ha (ys_wD hr (by omega) (by omega) h1 h2 h3 (fun y z => absurd (sg_AL_and.mpr ⟨y, z⟩) hA) (fun _ => ?_))))
              exact ⟨rfl, sg_mk hI⟩
        · refine xs_wB hM hr (by omega) h1 h2 (xs_allowed (sg_nn6 _) (fun hA => br_f (by decide) ?_) (fun hA => br_t rfl ?_))
          · rw [sg_an7 ha, sg_ix8]
            unfold wpY_where
            refine ys_ad1 ha (br_f (by decide) (ys_walk_in ha (ys_wB hr (by omega) h1 h2 (fun _ => ?_) (fun z => absurd (sg_AL_6.mp hA) z))))
            exact ⟨rfl, sg_mk hI⟩
          · unfold wpY_where
            refine ys_ad1 ha (br_f (by decide) (ys_walk_in ha (ys_wB hr (by omega) h1 h2 (fun z => absurd (sg_AL_6.mpr z) hA) (fun _ => ?_))))
            exact ⟨rfl, sg_mk hI⟩
theorem i_vc_set {k : Nat} {u : SX} {v : SY} (I : i_Rel k u v) (hk : k + 5 ≤ 2560) (v1 : Int32) (v2 : Int32) : wpX_set (fun r u' => wpY_set (fun r' v' => r' = r ∧ i_Rel (k + 5) u' v') v v1 v2) u v1 v2 := by
  refine sg_el (P := fun u v => wpX_set (fun r u' => wpY_set (fun r' v' => r' = r ∧ i_Rel (k + 5) u' v') v v1 v2) u v1 v2) ?_ I
  intro f_paging f_guard f_root f_logged f_room f_oldest f_dirWord f_tableFrame f_tableWord f_target f_reached f_faultAddress f_faultCode f_accesses f_faults f_pc f_savedPc f_cause f_output f_outputs f_traps f_user f_savedUser f_stopped f_trapped f_any f_keptPaging f_keptGuard f_keptRoot y_root y_keptRoot y_faultCode y_first y_second y_goal y_code y_behindTrap a_page a_users a_held a_away a_roomRoot a_leadsTo a_rights a_table a_register a_ops a_first a_second a_numbers a_kept W G hI
  obtain ⟨hS, hP, hF, ho, hg, hu, hs, ht, hK⟩ := id hI
  have out : (v1 < 0 ∨ nI 6 ≤ v1) → wpX_set (fun r u' => wpY_set (fun r' v' => r' = r ∧ i_Rel (k + 5) u' v') (y_root, y_keptRoot, f_logged, f_accesses, f_faults, f_faultAddress, y_faultCode, f_guard, f_keptGuard, f_any, y_first, y_second, y_goal, y_code, f_pc, f_savedPc, f_cause, f_output, f_outputs, f_traps, f_user, f_savedUser, f_stopped, y_behindTrap, W, a_kept, G, a_register) v1 v2) (f_paging, f_guard, f_root, f_logged, f_room, f_oldest, f_dirWord, f_tableFrame, f_tableWord, f_target, f_reached, f_faultAddress, f_faultCode, f_accesses, f_faults, f_pc, f_savedPc, f_cause, f_output, f_outputs, f_traps, f_user, f_savedUser, f_stopped, f_trapped, f_any, f_keptPaging, f_keptGuard, f_keptRoot, a_page, a_users, a_held, a_away, a_roomRoot, a_leadsTo, a_rights, a_table, a_register, a_ops, a_first, a_second, a_numbers, a_kept) v1 v2 := by
    intro h
    unfold wpX_set
    refine xs_in0 (N := 6) h (br_t rfl ?_)
    unfold wpY_set
    exact ys_in0 (N := 5) (by omega) h (br_t rfl ⟨rfl, sg_mk hI⟩)
  rcases pk_ix v1 (n := 6) (by omega) with h | h | ⟨j, hj, rfl⟩
  · exact out (Or.inl h)
  · exact out (Or.inr h)
  · unfold wpX_set
    refine xs_in1 (N := 6) hj (by omega) (br_f (by decide) ?_)
    by_cases h4 : (4 : Int32) ≤ nI j
    · refine br_t h4 ?_
      by_cases h5 : nI j = 5
      · refine br_t h5 ⟨rfl, rfl, ?_⟩
        unfold wpY_set
        refine ys_in1 (N := 5) hj (by omega) (br_f (by decide) (br_t h4 (br_t h5 ⟨rfl, rfl, ?_⟩)))
        exact ⟨rfl, sg_mk ⟨hS, hP, hF, ho, hg, Or.inr rfl, hs, fun _ => rfl, hK⟩⟩
      · refine br_f h5 ⟨rfl, rfl, ?_⟩
        unfold wpY_set
        refine ys_in1 (N := 5) hj (by omega) (br_f (by decide) (br_t h4 (br_f h5 ⟨rfl, rfl, ?_⟩)))
        exact ⟨rfl, sg_mk ⟨hS, hP, hF, ho, hg, Or.inl rfl, hs, fun _ => rfl, hK⟩⟩
    · have hj4 : j < 4 := by
        apply Classical.byContradiction
        intro z
        exact h4 (nI_le (a := 4) (by omega) (by omega))
      refine br_f h4 ⟨vp_in_nI hj4 (by omega), nm_e ?_⟩
      unfold wpY_set
      refine ys_in1 (N := 5) hj (by omega) (br_f (by decide) (br_f h4 ⟨vp_in_nI hj4 (by omega), nm_e ?_⟩))
      exact ⟨rfl, sg_mk hI⟩
theorem i_vc_cpu {k : Nat} {u : SX} {v : SY} (I : i_Rel k u v) (hk : k + 5 ≤ 2560) (v1 : Int32) : wpX_cpu (fun r => wpY_cpu (fun r' => r' = r ∧ i_Rel (k + 5) u v) v v1) u v1 := by
  refine sg_el (P := fun u v => wpX_cpu (fun r => wpY_cpu (fun r' => r' = r ∧ i_Rel (k + 5) u v) v v1) u v1) ?_ I
  intro f_paging f_guard f_root f_logged f_room f_oldest f_dirWord f_tableFrame f_tableWord f_target f_reached f_faultAddress f_faultCode f_accesses f_faults f_pc f_savedPc f_cause f_output f_outputs f_traps f_user f_savedUser f_stopped f_trapped f_any f_keptPaging f_keptGuard f_keptRoot y_root y_keptRoot y_faultCode y_first y_second y_goal y_code y_behindTrap a_page a_users a_held a_away a_roomRoot a_leadsTo a_rights a_table a_register a_ops a_first a_second a_numbers a_kept W G hI
  unfold wpX_cpu
  rcases pk_ix v1 (n := 13) (by omega) with h | h | ⟨j, hj, rfl⟩
  · have h4 : v1 < 4 := Int32.lt_trans h (by decide)
    refine xs_in0 (N := 4) (Or.inl h) (br_t rfl (br_t h4 ?_))
    unfold wpY_cpu
    exact br_t h ⟨rfl, sg_mk hI⟩
  · have h12 : (12 : Int32) < v1 := sg_lt_of (N := 12) (by omega) h
    have h4 : ¬ v1 < 4 := fun z => absurd (Int32.lt_trans h12 z) (by decide)
    have h0 : ¬ v1 < 0 := fun z => absurd (Int32.lt_trans h12 z) (by decide)
    refine xs_in0 (N := 4) (Or.inr (Int32.not_lt.mp h4)) (br_t rfl (br_f h4 (br_t h12 ?_)))
    unfold wpY_cpu
    exact br_f h0 (br_t h12 ⟨rfl, sg_mk hI⟩)
  · rcases (show j = 0 ∨ j = 1 ∨ j = 2 ∨ j = 3 ∨ j = 4 ∨ j = 5 ∨ j = 6 ∨ j = 7 ∨ j = 8 ∨ j = 9 ∨ j = 10 ∨ j = 11 ∨ j = 12 by omega) with rfl | rfl | rfl | rfl | rfl | rfl | rfl | rfl | rfl | rfl | rfl | rfl | rfl
    · refine xs_in1 (N := 4) (j := 0) (by omega) (by omega) (br_f (by decide) ⟨vp_in_nI (by omega) (by omega), ?_⟩)
      unfold wpY_cpu
      exact br_f (by decide) (br_f (by decide) (br_t rfl ⟨vp_in_nI (by omega) (by omega), rfl, sg_mk hI⟩))
    · refine xs_in1 (N := 4) (j := 1) (by omega) (by omega) (br_f (by decide) ⟨vp_in_nI (by omega) (by omega), ?_⟩)
      unfold wpY_cpu
      exact br_f (by decide) (br_f (by decide) (br_f (by decide) (br_t rfl ⟨vp_in_nI (by omega) (by omega), rfl, sg_mk hI⟩)))
    · refine xs_in1 (N := 4) (j := 2) (by omega) (by omega) (br_f (by decide) ⟨vp_in_nI (by omega) (by omega), ?_⟩)
      unfold wpY_cpu
      exact br_f (by decide) (br_f (by decide) (br_f (by decide) (br_f (by decide) (br_t rfl ⟨vp_in_nI (by omega) (by omega), rfl, sg_mk hI⟩))))
    · refine xs_in1 (N := 4) (j := 3) (by omega) (by omega) (br_f (by decide) ⟨vp_in_nI (by omega) (by omega), ?_⟩)
      unfold wpY_cpu
      exact br_f (by decide) (br_f (by decide) (br_f (by decide) (br_f (by decide) (br_f (by decide) (br_t rfl ⟨vp_in_nI (by omega) (by omega), rfl, sg_mk hI⟩)))))
    · refine xs_in0 (N := 4) (x := nI 4) (Or.inr (by decide)) (br_t rfl (br_f (by decide) (br_f (by decide) (br_t rfl ?_))))
      unfold wpY_cpu
      exact br_f (by decide) (br_f (by decide) (br_f (by decide) (br_f (by decide) (br_f (by decide) (br_f (by decide) (br_t rfl ⟨rfl, sg_mk hI⟩))))))
    · refine xs_in0 (N := 4) (x := nI 5) (Or.inr (by decide)) (br_t rfl (br_f (by decide) (br_f (by decide) (br_f (by decide) (br_t rfl ?_)))))
      unfold wpY_cpu
      by_cases z : f_user = 0
      · exact br_t z (br_f (by decide) (br_f (by decide) (br_f (by decide) (br_f (by decide) (br_f (by decide) (br_f (by decide) (br_f (by decide) (br_t rfl (br_t z ⟨rfl, sg_mk hI⟩)))))))))
      · exact br_f z (br_f (by decide) (br_f (by decide) (br_f (by decide) (br_f (by decide) (br_f (by decide) (br_f (by decide) (br_f (by decide) (br_t rfl (br_f z ⟨rfl, sg_mk hI⟩)))))))))
    · refine xs_in0 (N := 4) (x := nI 6) (Or.inr (by decide)) (br_t rfl (br_f (by decide) (br_f (by decide) (br_f (by decide) (br_f (by decide) (br_t rfl ?_))))))
      unfold wpY_cpu
      exact br_f (by decide) (br_f (by decide) (br_f (by decide) (br_f (by decide) (br_f (by decide) (br_f (by decide) (br_f (by decide) (br_f (by decide) (br_t rfl ⟨rfl, sg_mk hI⟩))))))))
    · refine xs_in0 (N := 4) (x := nI 7) (Or.inr (by decide)) (br_t rfl (br_f (by decide) (br_f (by decide) (br_f (by decide) (br_f (by decide) (br_f (by decide) (br_t rfl ?_)))))))
      unfold wpY_cpu
      by_cases z : f_savedUser = 0
      · exact br_t z (br_f (by decide) (br_f (by decide) (br_f (by decide) (br_f (by decide) (br_f (by decide) (br_f (by decide) (br_f (by decide) (br_f (by decide) (br_f (by decide) (br_t rfl (br_t z ⟨rfl, sg_mk hI⟩)))))))))))
      · exact br_f z (br_f (by decide) (br_f (by decide) (br_f (by decide) (br_f (by decide) (br_f (by decide) (br_f (by decide) (br_f (by decide) (br_f (by decide) (br_f (by decide) (br_t rfl (br_f z ⟨rfl, sg_mk hI⟩)))))))))))
    · refine xs_in0 (N := 4) (x := nI 8) (Or.inr (by decide)) (br_t rfl (br_f (by decide) (br_f (by decide) (br_f (by decide) (br_f (by decide) (br_f (by decide) (br_f (by decide) (br_t rfl ?_))))))))
      unfold wpY_cpu
      exact br_f (by decide) (br_f (by decide) (br_f (by decide) (br_f (by decide) (br_f (by decide) (br_f (by decide) (br_f (by decide) (br_f (by decide) (br_f (by decide) (br_f (by decide) (br_t rfl ⟨rfl, sg_mk hI⟩))))))))))
    · refine xs_in0 (N := 4) (x := nI 9) (Or.inr (by decide)) (br_t rfl (br_f (by decide) (br_f (by decide) (br_f (by decide) (br_f (by decide) (br_f (by decide) (br_f (by decide) (br_f (by decide) (br_t rfl ?_)))))))))
      unfold wpY_cpu
      by_cases z : f_stopped = 0
      · exact br_t z (br_f (by decide) (br_f (by decide) (br_f (by decide) (br_f (by decide) (br_f (by decide) (br_f (by decide) (br_f (by decide) (br_f (by decide) (br_f (by decide) (br_f (by decide) (br_f (by decide) (br_t rfl (br_t z ⟨rfl, sg_mk hI⟩)))))))))))))
      · exact br_f z (br_f (by decide) (br_f (by decide) (br_f (by decide) (br_f (by decide) (br_f (by decide) (br_f (by decide) (br_f (by decide) (br_f (by decide) (br_f (by decide) (br_f (by decide) (br_f (by decide) (br_t rfl (br_f z ⟨rfl, sg_mk hI⟩)))))))))))))
    · refine xs_in0 (N := 4) (x := nI 10) (Or.inr (by decide)) (br_t rfl (br_f (by decide) (br_f (by decide) (br_f (by decide) (br_f (by decide) (br_f (by decide) (br_f (by decide) (br_f (by decide) (br_f (by decide) (br_t rfl ?_))))))))))
      unfold wpY_cpu
      exact br_f (by decide) (br_f (by decide) (br_f (by decide) (br_f (by decide) (br_f (by decide) (br_f (by decide) (br_f (by decide) (br_f (by decide) (br_f (by decide) (br_f (by decide) (br_f (by decide) (br_f (by decide) (br_t rfl ⟨rfl, sg_mk hI⟩))))))))))))
    · refine xs_in0 (N := 4) (x := nI 11) (Or.inr (by decide)) (br_t rfl (br_f (by decide) (br_f (by decide) (br_f (by decide) (br_f (by decide) (br_f (by decide) (br_f (by decide) (br_f (by decide) (br_f (by decide) (br_f (by decide) (br_t rfl ?_)))))))))))
      unfold wpY_cpu
      exact br_f (by decide) (br_f (by decide) (br_f (by decide) (br_f (by decide) (br_f (by decide) (br_f (by decide) (br_f (by decide) (br_f (by decide) (br_f (by decide) (br_f (by decide) (br_f (by decide) (br_f (by decide) (br_f (by decide) (br_t rfl ⟨rfl, sg_mk hI⟩)))))))))))))
    · refine xs_in0 (N := 4) (x := nI 12) (Or.inr (by decide)) (br_t rfl (br_f (by decide) (br_f (by decide) (br_f (by decide) (br_f (by decide) (br_f (by decide) (br_f (by decide) (br_f (by decide) (br_f (by decide) (br_f (by decide) (br_f (by decide) (br_t rfl ?_))))))))))))
      unfold wpY_cpu
      exact br_f (by decide) (br_f (by decide) (br_f (by decide) (br_f (by decide) (br_f (by decide) (br_f (by decide) (br_f (by decide) (br_f (by decide) (br_f (by decide) (br_f (by decide) (br_f (by decide) (br_f (by decide) (br_f (by decide) (br_f (by decide) (br_t rfl ⟨rfl, sg_mk hI⟩))))))))))))))
theorem i_vc_state {k : Nat} {u : SX} {v : SY} (I : i_Rel k u v) (hk : k + 5 ≤ 2560) (v1 : Int32) : wpX_state (fun r => wpY_state (fun r' => r' = r ∧ i_Rel (k + 5) u v) v v1) u v1 := by
  refine sg_el (P := fun u v => wpX_state (fun r => wpY_state (fun r' => r' = r ∧ i_Rel (k + 5) u v) v v1) u v1) ?_ I
  intro f_paging f_guard f_root f_logged f_room f_oldest f_dirWord f_tableFrame f_tableWord f_target f_reached f_faultAddress f_faultCode f_accesses f_faults f_pc f_savedPc f_cause f_output f_outputs f_traps f_user f_savedUser f_stopped f_trapped f_any f_keptPaging f_keptGuard f_keptRoot y_root y_keptRoot y_faultCode y_first y_second y_goal y_code y_behindTrap a_page a_users a_held a_away a_roomRoot a_leadsTo a_rights a_table a_register a_ops a_first a_second a_numbers a_kept W G hI
  obtain ⟨hS, hP, hF, hR⟩ := id hI
  unfold wpX_state
  rcases pk_ix v1 (n := 7) (by omega) with h | h | ⟨j, hj, rfl⟩
  · refine br_t h (ys_state (br_t (by decide) (br_t h ?_)))
    exact ⟨rfl, sg_mk hI⟩
  · have h6 : (6 : Int32) < v1 := sg_lt_of (N := 6) (by omega) h
    have h0 : ¬ v1 < 0 := fun z => absurd (Int32.lt_trans h6 z) (by decide)
    refine br_f h0 (br_t h6 (ys_state (br_t (by decide) (br_f h0 (br_t h6 ?_)))))
    exact ⟨rfl, sg_mk hI⟩
  · rcases (show j = 0 ∨ j = 1 ∨ j = 2 ∨ j = 3 ∨ j = 4 ∨ j = 5 ∨ j = 6 by omega) with rfl | rfl | rfl | rfl | rfl | rfl | rfl
    · refine br_f (by decide) (br_f (by decide) (br_t rfl ?_))
      exact ys_state (br_t (by decide) (br_f (by decide) (br_f (by decide) (br_t rfl (⟨rfl, sg_mk hI⟩)))))
    · refine br_f (by decide) (br_f (by decide) (br_f (by decide) (br_t rfl ?_)))
      exact ys_state (br_t (by decide) (br_f (by decide) (br_f (by decide) (br_f (by decide) (br_t rfl (⟨rfl, sg_mk hI⟩))))))
    · refine br_f (by decide) (br_f (by decide) (br_f (by decide) (br_f (by decide) (br_t rfl (xs_gone hS.1 ?_)))))
      exact ys_state (br_t (by decide) (br_f (by decide) (br_f (by decide) (br_f (by decide) (br_f (by decide) (br_t rfl (⟨rfl, sg_mk hI⟩)))))))
    · rcases hP with ⟨e1, e2⟩ | ⟨e1, r, c, hr, hc, e2, e3, e4, er⟩
      · refine br_f (by decide) (br_f (by decide) (br_f (by decide) (br_f (by decide) (br_f (by decide) (br_t rfl (br_t e1 ?_))))))
        exact ys_state (br_t (by decide) (br_f (by decide) (br_f (by decide) (br_f (by decide) (br_f (by decide) (br_f (by decide) (br_t rfl (⟨e2, sg_mk hI⟩))))))))
      · refine br_f (by decide) (br_f (by decide) (br_f (by decide) (br_f (by decide) (br_f (by decide) (br_t rfl (br_f (by rw [e1]; decide) ?_))))))
        exact ys_state (br_t (by decide) (br_f (by decide) (br_f (by decide) (br_f (by decide) (br_f (by decide) (br_f (by decide) (br_t rfl (⟨e3.trans e2.symm, sg_mk hI⟩))))))))
    · by_cases z : f_guard = 0
      · refine br_f (by decide) (br_f (by decide) (br_f (by decide) (br_f (by decide) (br_f (by decide) (br_f (by decide) (br_t rfl (br_t z ?_)))))))
        exact ys_state (br_t (by decide) (br_f (by decide) (br_f (by decide) (br_f (by decide) (br_f (by decide) (br_f (by decide) (br_f (by decide) (br_t rfl (br_t z ⟨rfl, sg_mk hI⟩)))))))))
      · refine br_f (by decide) (br_f (by decide) (br_f (by decide) (br_f (by decide) (br_f (by decide) (br_f (by decide) (br_t rfl (br_f z ?_)))))))
        exact ys_state (br_t (by decide) (br_f (by decide) (br_f (by decide) (br_f (by decide) (br_f (by decide) (br_f (by decide) (br_f (by decide) (br_t rfl (br_f z ⟨rfl, sg_mk hI⟩)))))))))
    · refine br_f (by decide) (br_f (by decide) (br_f (by decide) (br_f (by decide) (br_f (by decide) (br_f (by decide) (br_f (by decide) (br_t rfl ?_)))))))
      exact ys_state (br_t (by decide) (br_f (by decide) (br_f (by decide) (br_f (by decide) (br_f (by decide) (br_f (by decide) (br_f (by decide) (br_f (by decide) (br_t rfl (⟨rfl, sg_mk hI⟩))))))))))
    · rcases hF with ⟨e1, e2⟩ | ⟨e1, e2⟩
      · refine br_f (by decide) (br_f (by decide) (br_f (by decide) (br_f (by decide) (br_f (by decide) (br_f (by decide) (br_f (by decide) (br_f (by decide) (br_t rfl (br_f (by rw [e1]; decide) ?_)))))))))
        exact ys_state (br_t (by decide) (br_f (by decide) (br_f (by decide) (br_f (by decide) (br_f (by decide) (br_f (by decide) (br_f (by decide) (br_f (by decide) (br_f (by decide) (br_t rfl (⟨e2, sg_mk hI⟩)))))))))))
      · refine br_f (by decide) (br_f (by decide) (br_f (by decide) (br_f (by decide) (br_f (by decide) (br_f (by decide) (br_f (by decide) (br_f (by decide) (br_t rfl (br_t e1 ?_)))))))))
        exact ys_state (br_t (by decide) (br_f (by decide) (br_f (by decide) (br_f (by decide) (br_f (by decide) (br_f (by decide) (br_f (by decide) (br_f (by decide) (br_f (by decide) (br_t rfl (⟨e2, sg_mk hI⟩)))))))))))
end
section
/-! a frame is taken away -/
theorem sg_ix64 (c : Nat) : (64 : Int32) * nI c + 64 = nI (64 * c + 64) := sg_ix 64 c 64
theorem sg_M_aw {pg us he aw W G aw' : Nat → Int32} {f p : Nat} (h : sg_M pg us he aw W G) (hp : p < 16) (e : he f = nI p) (k : ∀ j, (j < 8 * f ∨ 8 * f + 8 ≤ j) → aw' j = aw j) : sg_M pg us he aw' W G := by
  refine ⟨h.1, h.2.1, fun g hg w hw => ⟨fun z => ?_, (h.2.2 g hg w hw).2⟩⟩
  have hgf : g ≠ f := fun q => by
    rw [q, e] at z
    exact sg_nm1 p hp z
  rw [k _ (by omega)]
  exact (h.2.2 g hg w hw).1 z
section
variable {f_paging f_guard f_root f_logged f_room f_oldest f_dirWord f_tableFrame f_tableWord f_target f_reached f_faultAddress f_faultCode f_accesses f_faults f_pc f_savedPc f_cause f_output f_outputs f_traps f_user f_savedUser f_stopped f_trapped f_any f_keptPaging f_keptGuard f_keptRoot : Int32} {a_page a_users a_held a_away a_roomRoot a_leadsTo a_rights a_table a_register a_ops a_first a_second a_numbers a_kept : Nat → Int32} {y_root y_keptRoot y_faultCode y_first y_second y_goal y_code y_behindTrap : Int32} {W G : Nat → Int32}
theorem xs_st22 {f p : Nat} (hf : f < 16) (hp : p < 16) (e : a_held f = nI p) : ∀ (m i : Nat) (aw : Nat → Int32), i + m = 8 → sg_M a_page a_users a_held aw W G → ∃ aw' : Nat → Int32, (∀ w, i ≤ w → w < 8 → aw' (8 * f + w) = W (8 * f + w)) ∧ (∀ j, (j < 8 * f + i ∨ 8 * f + 8 ≤ j) → aw' j = aw j) ∧ ∀ post : Int32 → SX → Prop, wX_steal_22 post (nI f) f_paging f_guard f_root f_logged f_room f_oldest f_dirWord f_tableFrame f_tableWord f_target f_reached f_faultAddress f_faultCode f_accesses f_faults f_pc f_savedPc f_cause f_output f_outputs f_traps f_user f_savedUser f_stopped f_trapped f_any f_keptPaging f_keptGuard f_keptRoot 1 (nI 8) a_page a_users a_held aw' a_roomRoot a_leadsTo a_rights a_table a_register a_ops a_first a_second a_numbers a_kept → wX_steal_22 post (nI f) f_paging f_guard f_root f_logged f_room f_oldest f_dirWord f_tableFrame f_tableWord f_target f_reached f_faultAddress f_faultCode f_accesses f_faults f_pc f_savedPc f_cause f_output f_outputs f_traps f_user f_savedUser f_stopped f_trapped f_any f_keptPaging f_keptGuard f_keptRoot (m + 1) (nI i) a_page a_users a_held aw a_roomRoot a_leadsTo a_rights a_table a_register a_ops a_first a_second a_numbers a_kept := by
  intro m
  induction m with
  | zero =>
    intro i aw hi hM
    have ei : i = 8 := by omega
    subst ei
    exact ⟨aw, fun w h1 h2 => by omega, fun j _ => rfl, fun post h => h⟩
  | succ m ih =>
    intro i aw hi hM
    have hM' : sg_M a_page a_users a_held (upd aw (8 * f + i) (W (8 * f + i))) W G := sg_M_aw hM hp e (fun j hj => pk_un (by omega))
    obtain ⟨aw', h1, h2, h3⟩ := ih (i + 1) (upd aw (8 * f + i) (W (8 * f + i))) (by omega) hM'
    refine ⟨aw', ?_, ?_, fun post h => ?_⟩
    · intro w hw hw8
      by_cases z : w = i
      · rw [z, h2 _ (by omega), pk_us]
      · exact h1 w (by omega) hw8
    · intro j hj
      rw [h2 j (by omega), pk_un (by omega)]
    · refine br_f (nI_ge (b := 8) (by omega) (by omega)) (xs_word hM hf (by omega) ?_)
      rw [sg_ix8 f i, nI_clamp (show 8 * f + i < 2 ^ 31 by omega)]
      exact ⟨vp_in_nI (by omega) (by omega), nm_e (nm_r (nI_1 i) (h3 post h))⟩
theorem xs_ff63 {post : SX → Prop} {J2 J12 : Int32 → (Nat → Int32) → (Nat → Int32) → (Nat → Int32) → (Nat → Int32) → (Nat → Int32) → (Nat → Int32) → (Nat → Int32) → (Nat → Int32) → (Nat → Int32) → (Nat → Int32) → (Nat → Int32) → (Nat → Int32) → (Nat → Int32) → (Nat → Int32) → Prop} {x1 x2 : Int32} {k : Nat} (hk : k < 192) (h : J12 (nI (k + 1)) a_page a_users a_held a_away a_roomRoot a_leadsTo (upd a_rights k 0) a_table a_register a_ops a_first a_second a_numbers a_kept) : wX_forgetFrame_63 post J2 J12 x1 x2 (nI k) f_paging f_guard f_root f_logged f_room f_oldest f_dirWord f_tableFrame f_tableWord f_target f_reached f_faultAddress f_faultCode f_accesses f_faults f_pc f_savedPc f_cause f_output f_outputs f_traps f_user f_savedUser f_stopped f_trapped f_any f_keptPaging f_keptGuard f_keptRoot a_page a_users a_held a_away a_roomRoot a_leadsTo a_rights a_table a_register a_ops a_first a_second a_numbers a_kept := by
  unfold wX_forgetFrame_63 wX_forgetFrame_68
  refine br_f (by decide) ?_
  rw [nI_clamp (show k < 2 ^ 31 by omega), sg_b0]
  exact ⟨vp_in_nI hk (by omega), nm_e (nm_r (nI_1 k) h)⟩
theorem xs_ff68 {post : SX → Prop} {J2 J12 : Int32 → (Nat → Int32) → (Nat → Int32) → (Nat → Int32) → (Nat → Int32) → (Nat → Int32) → (Nat → Int32) → (Nat → Int32) → (Nat → Int32) → (Nat → Int32) → (Nat → Int32) → (Nat → Int32) → (Nat → Int32) → (Nat → Int32) → (Nat → Int32) → Prop} {x1 x2 : Int32} {k : Nat} (h : J12 (nI (k + 1)) a_page a_users a_held a_away a_roomRoot a_leadsTo a_rights a_table a_register a_ops a_first a_second a_numbers a_kept) : wX_forgetFrame_68 post J2 J12 x1 x2 (nI k) 0 f_paging f_guard f_root f_logged f_room f_oldest f_dirWord f_tableFrame f_tableWord f_target f_reached f_faultAddress f_faultCode f_accesses f_faults f_pc f_savedPc f_cause f_output f_outputs f_traps f_user f_savedUser f_stopped f_trapped f_any f_keptPaging f_keptGuard f_keptRoot a_page a_users a_held a_away a_roomRoot a_leadsTo a_rights a_table a_register a_ops a_first a_second a_numbers a_kept := by
  unfold wX_forgetFrame_68
  exact br_t rfl (nm_r (nI_1 k) h)
theorem xs_ff12 {f c : Nat} (hc : c < 3) : ∀ (m k : Nat) (rg : Nat → Int32), k + m = 64 * c + 64 → 64 * c ≤ k → ∃ rg' : Nat → Int32, (∀ j, k ≤ j → j < 64 * c + 64 → rg' j = 0 ∨ (rg' j = rg j ∧ a_roomRoot c ≠ nI f ∧ a_table (8 * c + j / 8 % 8) ≠ nI f ∧ a_leadsTo j ≠ nI f)) ∧ (∀ j, (j < k ∨ 64 * c + 64 ≤ j) → rg' j = rg j) ∧
    ∀ (post : SX → Prop) (J2 : Int32 → (Nat → Int32) → (Nat → Int32) → (Nat → Int32) → (Nat → Int32) → (Nat → Int32) → (Nat → Int32) → (Nat → Int32) → (Nat → Int32) → (Nat → Int32) → (Nat → Int32) → (Nat → Int32) → (Nat → Int32) → (Nat → Int32) → (Nat → Int32) → Prop), J2 (nI (c + 1)) a_page a_users a_held a_away a_roomRoot a_leadsTo rg' a_table a_register a_ops a_first a_second a_numbers a_kept → wX_forgetFrame_12 post J2 (nI f) (nI c) f_paging f_guard f_root f_logged f_room f_oldest f_dirWord f_tableFrame f_tableWord f_target f_reached f_faultAddress f_faultCode f_accesses f_faults f_pc f_savedPc f_cause f_output f_outputs f_traps f_user f_savedUser f_stopped f_trapped f_any f_keptPaging f_keptGuard f_keptRoot (m + 1) (nI k) a_page a_users a_held a_away a_roomRoot a_leadsTo rg a_table a_register a_ops a_first a_second a_numbers a_kept := by
  intro m
  induction m with
  | zero =>
    intro k rg hk _
    have e : k = 64 * c + 64 := by omega
    subst e
    refine ⟨rg, fun j h1 h2 => by omega, fun j _ => rfl, fun post J2 h => ?_⟩
    refine br_t ?_ (nm_r (nI_1 c) h)
    rw [sg_ix64]; exact nI_le (Nat.le_refl _) (by omega)
  | succ m ih =>
    intro k rg hk hk0
    have hlt : ¬ (64 : Int32) * nI c + 64 ≤ nI k := by rw [sg_ix64]; exact nI_ge (by omega) (by omega)
    have hix : (8 : Int32) * nI c + ((nI k >>> ((3 : Int32) &&& 31)) &&& 7) = nI (8 * c + k / 8 % 8) := by rw [sg_sh37 (by omega), sg_ix8]
    have hin1 : vp_in (nI c) 3 := vp_in_nI hc (by omega)
    have hin2 : vp_in (nI (8 * c + k / 8 % 8)) 24 := vp_in_nI (by omega) (by omega)
    have hin3 : vp_in (nI k) 192 := vp_in_nI (by omega) (by omega)
    by_cases q : a_roomRoot c = nI f ∨ a_table (8 * c + k / 8 % 8) = nI f ∨ a_leadsTo k = nI f
    · obtain ⟨rg', h1, h2, h3⟩ := ih (k + 1) (upd rg k 0) (by omega) (by omega)
      refine ⟨rg', ?_, ?_, fun post J2 h => ?_⟩
      · intro j hj1 hj2
        by_cases z : j = k
        · left; rw [z, h2 k (by omega), pk_us]
        · rcases h1 j (by omega) hj2 with y | ⟨y, y'⟩
          · exact Or.inl y
          · right; exact ⟨by rw [y, pk_un z], y'⟩
      · intro j hj
        rw [h2 j (by omega), pk_un (by omega)]
      · have K := xs_ff63 (post := post) (J2 := J2) (x1 := nI f) (x2 := nI c) (f_paging := f_paging) (f_guard := f_guard) (f_root := f_root) (f_logged := f_logged) (f_room := f_room) (f_oldest := f_oldest) (f_dirWord := f_dirWord) (f_tableFrame := f_tableFrame) (f_tableWord := f_tableWord) (f_target := f_target) (f_reached := f_reached) (f_faultAddress := f_faultAddress) (f_faultCode := f_faultCode) (f_accesses := f_accesses) (f_faults := f_faults) (f_pc := f_pc) (f_savedPc := f_savedPc) (f_cause := f_cause) (f_output := f_output) (f_outputs := f_outputs) (f_traps := f_traps) (f_user := f_user) (f_savedUser := f_savedUser) (f_stopped := f_stopped) (f_trapped := f_trapped) (f_any := f_any) (f_keptPaging := f_keptPaging) (f_keptGuard := f_keptGuard) (f_keptRoot := f_keptRoot) (a_page := a_page) (a_users := a_users) (a_held := a_held) (a_away := a_away) (a_roomRoot := a_roomRoot) (a_leadsTo := a_leadsTo) (a_rights := rg) (a_table := a_table) (a_register := a_register) (a_ops := a_ops) (a_first := a_first) (a_second := a_second) (a_numbers := a_numbers) (a_kept := a_kept) (J12 := wX_forgetFrame_12 post J2 (nI f) (nI c) f_paging f_guard f_root f_logged f_room f_oldest f_dirWord f_tableFrame f_tableWord f_target f_reached f_faultAddress f_faultCode f_accesses f_faults f_pc f_savedPc f_cause f_output f_outputs f_traps f_user f_savedUser f_stopped f_trapped f_any f_keptPaging f_keptGuard f_keptRoot (m + 1)) (k := k) (by omega) (h3 post J2 h)
        refine br_f hlt ⟨hin1, ?_⟩
        rw [hix, nI_clamp (show c < 2 ^ 31 by omega), nI_clamp (show 8 * c + k / 8 % 8 < 2 ^ 31 by omega), nI_clamp (show k < 2 ^ 31 by omega)]
        by_cases a1 : a_roomRoot c = nI f
        · exact br_t a1 K
        · refine br_f a1 ⟨hin2, ?_⟩
          by_cases a2 : a_table (8 * c + k / 8 % 8) = nI f
          · exact br_t a2 K
          · exact br_f a2 ⟨hin3, br_t ((q.resolve_left a1).resolve_left a2) K⟩
    · obtain ⟨rg', h1, h2, h3⟩ := ih (k + 1) rg (by omega) (by omega)
      refine ⟨rg', ?_, ?_, fun post J2 h => ?_⟩
      · intro j hj1 hj2
        by_cases z : j = k
        · right
          rw [z]
          exact ⟨h2 k (by omega), fun y => q (Or.inl y), fun y => q (Or.inr (Or.inl y)), fun y => q (Or.inr (Or.inr y))⟩
        · exact h1 j (by omega) hj2
      · intro j hj
        exact h2 j (by omega)
      · have K := xs_ff68 (post := post) (J2 := J2) (x1 := nI f) (x2 := nI c) (f_paging := f_paging) (f_guard := f_guard) (f_root := f_root) (f_logged := f_logged) (f_room := f_room) (f_oldest := f_oldest) (f_dirWord := f_dirWord) (f_tableFrame := f_tableFrame) (f_tableWord := f_tableWord) (f_target := f_target) (f_reached := f_reached) (f_faultAddress := f_faultAddress) (f_faultCode := f_faultCode) (f_accesses := f_accesses) (f_faults := f_faults) (f_pc := f_pc) (f_savedPc := f_savedPc) (f_cause := f_cause) (f_output := f_output) (f_outputs := f_outputs) (f_traps := f_traps) (f_user := f_user) (f_savedUser := f_savedUser) (f_stopped := f_stopped) (f_trapped := f_trapped) (f_any := f_any) (f_keptPaging := f_keptPaging) (f_keptGuard := f_keptGuard) (f_keptRoot := f_keptRoot) (a_page := a_page) (a_users := a_users) (a_held := a_held) (a_away := a_away) (a_roomRoot := a_roomRoot) (a_leadsTo := a_leadsTo) (a_rights := rg) (a_table := a_table) (a_register := a_register) (a_ops := a_ops) (a_first := a_first) (a_second := a_second) (a_numbers := a_numbers) (a_kept := a_kept) (J12 := wX_forgetFrame_12 post J2 (nI f) (nI c) f_paging f_guard f_root f_logged f_room f_oldest f_dirWord f_tableFrame f_tableWord f_target f_reached f_faultAddress f_faultCode f_accesses f_faults f_pc f_savedPc f_cause f_output f_outputs f_traps f_user f_savedUser f_stopped f_trapped f_any f_keptPaging f_keptGuard f_keptRoot (m + 1)) (k := k) (h3 post J2 h)
        refine br_f hlt ⟨hin1, ?_⟩
        rw [hix, nI_clamp (show c < 2 ^ 31 by omega), nI_clamp (show 8 * c + k / 8 % 8 < 2 ^ 31 by omega), nI_clamp (show k < 2 ^ 31 by omega)]
        exact br_f (fun y => q (Or.inl y)) ⟨hin2, br_f (fun y => q (Or.inr (Or.inl y))) ⟨hin3, br_f (fun y => q (Or.inr (Or.inr y))) K⟩⟩
theorem xs_ff {f : Nat} : ∃ rg : Nat → Int32, (∀ c, c < 3 → ∀ d, d < 8 → ∀ t, t < 8 → rg (64 * c + 8 * d + t) = 0 ∨ (rg (64 * c + 8 * d + t) = a_rights (64 * c + 8 * d + t) ∧ a_roomRoot c ≠ nI f ∧ a_table (8 * c + d) ≠ nI f ∧ a_leadsTo (64 * c + 8 * d + t) ≠ nI f)) ∧ ∀ post : SX → Prop, post (f_paging, f_guard, f_root, f_logged, f_room, f_oldest, f_dirWord, f_tableFrame, f_tableWord, f_target, f_reached, f_faultAddress, f_faultCode, f_accesses, f_faults, f_pc, f_savedPc, f_cause, f_output, f_outputs, f_traps, f_user, f_savedUser, f_stopped, f_trapped, f_any, f_keptPaging, f_keptGuard, f_keptRoot, a_page, a_users, a_held, a_away, a_roomRoot, a_leadsTo, rg, a_table, a_register, a_ops, a_first, a_second, a_numbers, a_kept) → wpX_forgetFrame post (f_paging, f_guard, f_root, f_logged, f_room, f_oldest, f_dirWord, f_tableFrame, f_tableWord, f_target, f_reached, f_faultAddress, f_faultCode, f_accesses, f_faults, f_pc, f_savedPc, f_cause, f_output, f_outputs, f_traps, f_user, f_savedUser, f_stopped, f_trapped, f_any, f_keptPaging, f_keptGuard, f_keptRoot, a_page, a_users, a_held, a_away, a_roomRoot, a_leadsTo, a_rights, a_table, a_register, a_ops, a_first, a_second, a_numbers, a_kept) (nI f) := by
  obtain ⟨g0, p0, q0, k0⟩ := xs_ff12 (f_paging := f_paging) (f_guard := f_guard) (f_root := f_root) (f_logged := f_logged) (f_room := f_room) (f_oldest := f_oldest) (f_dirWord := f_dirWord) (f_tableFrame := f_tableFrame) (f_tableWord := f_tableWord) (f_target := f_target) (f_reached := f_reached) (f_faultAddress := f_faultAddress) (f_faultCode := f_faultCode) (f_accesses := f_accesses) (f_faults := f_faults) (f_pc := f_pc) (f_savedPc := f_savedPc) (f_cause := f_cause) (f_output := f_output) (f_outputs := f_outputs) (f_traps := f_traps) (f_user := f_user) (f_savedUser := f_savedUser) (f_stopped := f_stopped) (f_trapped := f_trapped) (f_any := f_any) (f_keptPaging := f_keptPaging) (f_keptGuard := f_keptGuard) (f_keptRoot := f_keptRoot) (a_page := a_page) (a_users := a_users) (a_held := a_held) (a_away := a_away) (a_roomRoot := a_roomRoot) (a_leadsTo := a_leadsTo) (a_table := a_table) (a_register := a_register) (a_ops := a_ops) (a_first := a_first) (a_second := a_second) (a_numbers := a_numbers) (a_kept := a_kept) (f := f) (c := 0) (by omega) 64 0 a_rights (by omega) (by omega)
  obtain ⟨g1, p1, q1, k1⟩ := xs_ff12 (f_paging := f_paging) (f_guard := f_guard) (f_root := f_root) (f_logged := f_logged) (f_room := f_room) (f_oldest := f_oldest) (f_dirWord := f_dirWord) (f_tableFrame := f_tableFrame) (f_tableWord := f_tableWord) (f_target := f_target) (f_reached := f_reached) (f_faultAddress := f_faultAddress) (f_faultCode := f_faultCode) (f_accesses := f_accesses) (f_faults := f_faults) (f_pc := f_pc) (f_savedPc := f_savedPc) (f_cause := f_cause) (f_output := f_output) (f_outputs := f_outputs) (f_traps := f_traps) (f_user := f_user) (f_savedUser := f_savedUser) (f_stopped := f_stopped) (f_trapped := f_trapped) (f_any := f_any) (f_keptPaging := f_keptPaging) (f_keptGuard := f_keptGuard) (f_keptRoot := f_keptRoot) (a_page := a_page) (a_users := a_users) (a_held := a_held) (a_away := a_away) (a_roomRoot := a_roomRoot) (a_leadsTo := a_leadsTo) (a_table := a_table) (a_register := a_register) (a_ops := a_ops) (a_first := a_first) (a_second := a_second) (a_numbers := a_numbers) (a_kept := a_kept) (f := f) (c := 1) (by omega) 64 64 g0 (by omega) (by omega)
  obtain ⟨g2, p2, q2, k2⟩ := xs_ff12 (f_paging := f_paging) (f_guard := f_guard) (f_root := f_root) (f_logged := f_logged) (f_room := f_room) (f_oldest := f_oldest) (f_dirWord := f_dirWord) (f_tableFrame := f_tableFrame) (f_tableWord := f_tableWord) (f_target := f_target) (f_reached := f_reached) (f_faultAddress := f_faultAddress) (f_faultCode := f_faultCode) (f_accesses := f_accesses) (f_faults := f_faults) (f_pc := f_pc) (f_savedPc := f_savedPc) (f_cause := f_cause) (f_output := f_output) (f_outputs := f_outputs) (f_traps := f_traps) (f_user := f_user) (f_savedUser := f_savedUser) (f_stopped := f_stopped) (f_trapped := f_trapped) (f_any := f_any) (f_keptPaging := f_keptPaging) (f_keptGuard := f_keptGuard) (f_keptRoot := f_keptRoot) (a_page := a_page) (a_users := a_users) (a_held := a_held) (a_away := a_away) (a_roomRoot := a_roomRoot) (a_leadsTo := a_leadsTo) (a_table := a_table) (a_register := a_register) (a_ops := a_ops) (a_first := a_first) (a_second := a_second) (a_numbers := a_numbers) (a_kept := a_kept) (f := f) (c := 2) (by omega) 64 128 g1 (by omega) (by omega)
  refine ⟨g2, ?_, fun post h => ?_⟩
  · intro c hc d hd t ht
    have ed : (64 * c + 8 * d + t) / 8 % 8 = d := by omega
    rcases (show c = 0 ∨ c = 1 ∨ c = 2 by omega) with z | z | z
    · subst z
      have := p0 (64 * 0 + 8 * d + t) (by omega) (by omega)
      rw [ed] at this
      rw [q2 _ (by omega), q1 _ (by omega)]
      exact this
    · subst z
      have := p1 (64 * 1 + 8 * d + t) (by omega) (by omega)
      rw [ed, q0 _ (by omega)] at this
      rw [q2 _ (by omega)]
      exact this
    · subst z
      have := p2 (64 * 2 + 8 * d + t) (by omega) (by omega)
      rw [ed, q1 _ (by omega), q0 _ (by omega)] at this
      exact this
  · unfold wpX_forgetFrame
    refine ⟨4, br_f (by decide) (nm_r (e' := nI 0) (by decide) ⟨65, k0 post _ ?_⟩)⟩
    refine br_f (by decide) (nm_r (e' := nI 64) (by decide) ⟨65, k1 post _ ?_⟩)
    refine br_f (by decide) (nm_r (e' := nI 128) (by decide) ⟨65, k2 post _ ?_⟩)
    exact br_t (by decide) h
end
theorem i_vc_steal {k : Nat} {u : SX} {v : SY} (I : i_Rel k u v) (hk : k + 5 ≤ 2560) (v1 : Int32) : wpX_steal (fun r u' => wpY_steal (fun r' v' => r' = r ∧ i_Rel (k + 5) u' v') v v1) u v1 := by
  refine sg_el (P := fun u v => wpX_steal (fun r u' => wpY_steal (fun r' v' => r' = r ∧ i_Rel (k + 5) u' v') v v1) u v1) ?_ I
  intro f_paging f_guard f_root f_logged f_room f_oldest f_dirWord f_tableFrame f_tableWord f_target f_reached f_faultAddress f_faultCode f_accesses f_faults f_pc f_savedPc f_cause f_output f_outputs f_traps f_user f_savedUser f_stopped f_trapped f_any f_keptPaging f_keptGuard f_keptRoot y_root y_keptRoot y_faultCode y_first y_second y_goal y_code y_behindTrap a_page a_users a_held a_away a_roomRoot a_leadsTo a_rights a_table a_register a_ops a_first a_second a_numbers a_kept W G hI
  obtain ⟨hS, hR⟩ := id hI
  have hM := hS.1
  have out : (v1 < 0 ∨ nI 16 ≤ v1) → wpX_steal (fun r u' => wpY_steal (fun r' v' => r' = r ∧ i_Rel (k + 5) u' v') (y_root, y_keptRoot, f_logged, f_accesses, f_faults, f_faultAddress, y_faultCode, f_guard, f_keptGuard, f_any, y_first, y_second, y_goal, y_code, f_pc, f_savedPc, f_cause, f_output, f_outputs, f_traps, f_user, f_savedUser, f_stopped, y_behindTrap, W, a_kept, G, a_register) v1) (f_paging, f_guard, f_root, f_logged, f_room, f_oldest, f_dirWord, f_tableFrame, f_tableWord, f_target, f_reached, f_faultAddress, f_faultCode, f_accesses, f_faults, f_pc, f_savedPc, f_cause, f_output, f_outputs, f_traps, f_user, f_savedUser, f_stopped, f_trapped, f_any, f_keptPaging, f_keptGuard, f_keptRoot, a_page, a_users, a_held, a_away, a_roomRoot, a_leadsTo, a_rights, a_table, a_register, a_ops, a_first, a_second, a_numbers, a_kept) v1 := by
    intro h
    unfold wpX_steal
    refine xs_in0 (N := 16) h (br_t rfl ?_)
    unfold wpY_steal
    exact ys_in0 (N := 15) (by omega) h (br_t rfl ⟨rfl, sg_mk hI⟩)
  rcases pk_ix v1 (n := 16) (by omega) with h | h | ⟨f, hf, rfl⟩
  · exact out (Or.inl h)
  · exact out (Or.inr h)
  · unfold wpX_steal
    refine xs_in1 (N := 16) hf (by omega) (br_f (by decide) ⟨vp_in_nI hf (by omega), ?_⟩)
    rw [nI_clamp (show f < 2 ^ 31 by omega)]
    rcases hM.1 f hf with ⟨e, eg⟩ | ⟨eg, p, hp, e⟩
    · refine br_f (by rw [e]; decide) ?_
      unfold wpY_steal
      refine ys_in1 (N := 15) hf (by omega) (br_f (by decide) ⟨vp_in_nI hf (by omega), ?_⟩)
      rw [nI_clamp (show f < 2 ^ 31 by omega)]
      exact br_f (by rw [eg]; decide) ⟨rfl, sg_mk hI⟩
    · refine br_t (by rw [e]; exact nI_pos' (by omega)) ?_
      have hle := sg_hc_le a_held (nI p) 16
      have hpos := sg_M_pos hM hf e
      obtain ⟨aw, a1, a2, a3⟩ := xs_st22 (f_paging := f_paging) (f_guard := f_guard) (f_root := f_root) (f_logged := f_logged) (f_room := f_room) (f_oldest := f_oldest) (f_dirWord := f_dirWord) (f_tableFrame := f_tableFrame) (f_tableWord := f_tableWord) (f_target := f_target) (f_reached := f_reached) (f_faultAddress := f_faultAddress) (f_faultCode := f_faultCode) (f_accesses := f_accesses) (f_faults := f_faults) (f_pc := f_pc) (f_savedPc := f_savedPc) (f_cause := f_cause) (f_output := f_output) (f_outputs := f_outputs) (f_traps := f_traps) (f_user := f_user) (f_savedUser := f_savedUser) (f_stopped := f_stopped) (f_trapped := f_trapped) (f_any := f_any) (f_keptPaging := f_keptPaging) (f_keptGuard := f_keptGuard) (f_keptRoot := f_keptRoot) (a_page := a_page) (a_users := a_users) (a_held := a_held) (a_roomRoot := a_roomRoot) (a_leadsTo := a_leadsTo) (a_rights := a_rights) (a_table := a_table) (a_register := a_register) (a_ops := a_ops) (a_first := a_first) (a_second := a_second) (a_numbers := a_numbers) (a_kept := a_kept) hf hp e 8 0 a_away (by omega) hM
      obtain ⟨rg, r1, r2⟩ := xs_ff (f_paging := f_paging) (f_guard := f_guard) (f_root := f_root) (f_logged := f_logged) (f_room := f_room) (f_oldest := f_oldest) (f_dirWord := f_dirWord) (f_tableFrame := f_tableFrame) (f_tableWord := f_tableWord) (f_target := f_target) (f_reached := f_reached) (f_faultAddress := f_faultAddress) (f_faultCode := f_faultCode) (f_accesses := f_accesses) (f_faults := f_faults) (f_pc := f_pc) (f_savedPc := f_savedPc) (f_cause := f_cause) (f_output := f_output) (f_outputs := f_outputs) (f_traps := f_traps) (f_user := f_user) (f_savedUser := f_savedUser) (f_stopped := f_stopped) (f_trapped := f_trapped) (f_any := f_any) (f_keptPaging := f_keptPaging) (f_keptGuard := f_keptGuard) (f_keptRoot := f_keptRoot) (a_page := a_page) (a_users := upd a_users p (nI (sg_hc a_held (nI p) 16 - 1))) (a_held := upd a_held f (-1)) (a_away := aw) (a_roomRoot := a_roomRoot) (a_leadsTo := a_leadsTo) (a_rights := a_rights) (a_table := a_table) (a_register := a_register) (a_ops := a_ops) (a_first := a_first) (a_second := a_second) (a_numbers := a_numbers) (a_kept := a_kept) (f := f)
      have hM' : sg_M a_page (upd a_users p (nI (sg_hc a_held (nI p) 16 - 1))) (upd a_held f (-1)) aw W (upd G f 1) := sg_M_steal hM hf hp e (fun w hw => a1 w (Nat.zero_le _) hw) (fun j hj => a2 j (by omega)) pk_us (fun x _ hx => pk_un hx)
      refine ⟨9, a3 _ (br_t (by decide) ⟨vp_in_nI hf (by omega), ?_⟩)⟩
      rw [nI_clamp (show f < 2 ^ 31 by omega), e, nI_clamp (show p < 2 ^ 31 by omega), hM.2.1 p hp, sg_dec hpos hle, sg_bm1]
      refine ⟨vp_in_nI hp (by omega), vp_in_nI hp (by omega), nm_e ⟨vp_in_nI hf (by omega), nm_e (r2 _ ?_)⟩⟩
      unfold wpY_steal
      refine ys_in1 (N := 15) hf (by omega) (br_f (by decide) ⟨vp_in_nI hf (by omega), ?_⟩)
      rw [nI_clamp (show f < 2 ^ 31 by omega), sg_z1]
      exact br_t eg ⟨vp_in_nI hf (by omega), nm_e ⟨rfl, sg_mk ⟨⟨hM', sg_C_steal hS.2.1 r1, hS.2.2⟩, hR⟩⟩⟩
end
section
/-! rooms, paging, the guard -/
theorem sg_ix88 (c : Nat) : (8 : Int32) * nI c + 8 = nI (8 * c + 8) := sg_ix 8 c 8
section
variable {f_paging f_guard f_root f_logged f_room f_oldest f_dirWord f_tableFrame f_tableWord f_target f_reached f_faultAddress f_faultCode f_accesses f_faults f_pc f_savedPc f_cause f_output f_outputs f_traps f_user f_savedUser f_stopped f_trapped f_any f_keptPaging f_keptGuard f_keptRoot : Int32} {a_page a_users a_held a_away a_roomRoot a_leadsTo a_rights a_table a_register a_ops a_first a_second a_numbers a_kept : Nat → Int32} {y_root y_keptRoot y_faultCode y_first y_second y_goal y_code y_behindTrap : Int32} {W G : Nat → Int32}
theorem xs_en5 {post : SX → Prop} {r c : Nat} (hlt : ∀ i, i < c → a_roomRoot i ≠ nI r) (hc : c = 3 ∨ (c < 3 ∧ a_roomRoot c = nI r)) (h : wX_enter_42 post f_paging f_guard (nI r) f_logged (nI c) f_oldest f_dirWord f_tableFrame f_tableWord f_target f_reached f_faultAddress f_faultCode f_accesses f_faults f_pc f_savedPc f_cause f_output f_outputs f_traps f_user f_savedUser f_stopped f_trapped f_any f_keptPaging f_keptGuard f_keptRoot a_page a_users a_held a_away a_roomRoot a_leadsTo a_rights a_table a_register a_ops a_first a_second a_numbers a_kept) : wpX_enter post (f_paging, f_guard, nI r, f_logged, f_room, f_oldest, f_dirWord, f_tableFrame, f_tableWord, f_target, f_reached, f_faultAddress, f_faultCode, f_accesses, f_faults, f_pc, f_savedPc, f_cause, f_output, f_outputs, f_traps, f_user, f_savedUser, f_stopped, f_trapped, f_any, f_keptPaging, f_keptGuard, f_keptRoot, a_page, a_users, a_held, a_away, a_roomRoot, a_leadsTo, a_rights, a_table, a_register, a_ops, a_first, a_second, a_numbers, a_kept) := by
  have key : ∀ m i, i + m = c → wX_enter_5 post f_paging f_guard (nI r) f_logged f_oldest f_dirWord f_tableFrame f_tableWord f_target f_reached f_faultAddress f_faultCode f_accesses f_faults f_pc f_savedPc f_cause f_output f_outputs f_traps f_user f_savedUser f_stopped f_trapped f_any f_keptPaging f_keptGuard f_keptRoot a_page a_users a_held a_away a_roomRoot a_leadsTo a_rights a_table a_register a_ops a_first a_second a_numbers a_kept (m + 1) (nI i) := by
    intro m
    induction m with
    | zero =>
      intro i hi
      have e : i = c := by omega
      subst e
      rcases hc with z | ⟨z, e⟩
      · subst z
        exact br_t (by decide) h
      · refine br_f (nI_ge (b := 3) z (by omega)) ⟨vp_in_nI z (by omega), ?_⟩
        rw [nI_clamp (show i < 2 ^ 31 by omega)]
        exact br_t e h
    | succ m ih =>
      intro i hi
      refine br_f (nI_ge (b := 3) (by omega) (by omega)) ⟨vp_in_nI (by omega) (by omega), ?_⟩
      rw [nI_clamp (show i < 2 ^ 31 by omega)]
      exact br_f (hlt i (by omega)) (nm_r (nI_1 i) (ih (i + 1) (by omega)))
  unfold wpX_enter
  exact ⟨c + 1, key c 0 (by omega)⟩
theorem xs_en138 {c : Nat} (hc : c < 3) : ∀ (m k : Nat) (tb : Nat → Int32), k + m = 8 * c + 8 → 8 * c ≤ k → ∃ tb' : Nat → Int32, (∀ j, (j < k ∨ 8 * c + 8 ≤ j) → tb' j = tb j) ∧ ∀ post : SX → Prop, post (f_paging, f_guard, f_root, f_logged, nI c, f_oldest, f_dirWord, f_tableFrame, f_tableWord, f_target, f_reached, f_faultAddress, f_faultCode, f_accesses, f_faults, f_pc, f_savedPc, f_cause, f_output, f_outputs, f_traps, f_user, f_savedUser, f_stopped, f_trapped, f_any, f_keptPaging, f_keptGuard, f_keptRoot, a_page, a_users, a_held, a_away, a_roomRoot, a_leadsTo, a_rights, tb', a_register, a_ops, a_first, a_second, a_numbers, a_kept) → wX_enter_138 post f_paging f_guard f_root f_logged (nI c) f_oldest f_dirWord f_tableFrame f_tableWord f_target f_reached f_faultAddress f_faultCode f_accesses f_faults f_pc f_savedPc f_cause f_output f_outputs f_traps f_user f_savedUser f_stopped f_trapped f_any f_keptPaging f_keptGuard f_keptRoot (m + 1) (nI k) a_page a_users a_held a_away a_roomRoot a_leadsTo a_rights tb a_register a_ops a_first a_second a_numbers a_kept := by
  intro m
  induction m with
  | zero =>
    intro k tb hk _
    have e : k = 8 * c + 8 := by omega
    subst e
    refine ⟨tb, fun j _ => rfl, fun post h => br_t ?_ h⟩
    rw [sg_ix88]; exact nI_le (Nat.le_refl _) (by omega)
  | succ m ih =>
    intro k tb hk hk0
    obtain ⟨tb', h1, h2⟩ := ih (k + 1) (upd tb k (-1)) (by omega) (by omega)
    refine ⟨tb', fun j hj => by rw [h1 j (by omega), pk_un (by omega)], fun post h => ?_⟩
    refine br_f (by rw [sg_ix88]; exact nI_ge (by omega) (by omega)) ⟨vp_in_nI (by omega) (by omega), ?_⟩
    rw [nI_clamp (show k < 2 ^ 31 by omega), sg_bm1]
    exact nm_e (nm_r (nI_1 k) (h2 post h))
theorem xs_en103 {c : Nat} (hc : c < 3) : ∀ (m k : Nat) (rg : Nat → Int32), k + m = 64 * c + 64 → 64 * c ≤ k → ∃ rg' : Nat → Int32, (∀ j, k ≤ j → j < 64 * c + 64 → rg' j = 0) ∧ (∀ j, (j < k ∨ 64 * c + 64 ≤ j) → rg' j = rg j) ∧ ∀ post : SX → Prop, (∃ n138, wX_enter_138 post f_paging f_guard f_root f_logged (nI c) f_oldest f_dirWord f_tableFrame f_tableWord f_target f_reached f_faultAddress f_faultCode f_accesses f_faults f_pc f_savedPc f_cause f_output f_outputs f_traps f_user f_savedUser f_stopped f_trapped f_any f_keptPaging f_keptGuard f_keptRoot n138 (nI (8 * c)) a_page a_users a_held a_away a_roomRoot a_leadsTo rg' a_table a_register a_ops a_first a_second a_numbers a_kept) → wX_enter_103 post f_paging f_guard f_root f_logged (nI c) f_oldest f_dirWord f_tableFrame f_tableWord f_target f_reached f_faultAddress f_faultCode f_accesses f_faults f_pc f_savedPc f_cause f_output f_outputs f_traps f_user f_savedUser f_stopped f_trapped f_any f_keptPaging f_keptGuard f_keptRoot (m + 1) (nI k) a_page a_users a_held a_away a_roomRoot a_leadsTo rg a_table a_register a_ops a_first a_second a_numbers a_kept := by
  intro m
  induction m with
  | zero =>
    intro k rg hk _
    have e : k = 64 * c + 64 := by omega
    subst e
    refine ⟨rg, fun j h1 h2 => by omega, fun j _ => rfl, fun post h => br_t ?_ (nm_r (sg_m8 c) h)⟩
    rw [sg_ix64]; exact nI_le (Nat.le_refl _) (by omega)
  | succ m ih =>
    intro k rg hk hk0
    obtain ⟨rg', h1, h2, h3⟩ := ih (k + 1) (upd rg k 0) (by omega) (by omega)
    refine ⟨rg', ?_, fun j hj => by rw [h2 j (by omega), pk_un (by omega)], fun post h => ?_⟩
    · intro j hj1 hj2
      by_cases z : j = k
      · rw [z, h2 k (by omega), pk_us]
      · exact h1 j (by omega) hj2
    · refine br_f (by rw [sg_ix64]; exact nI_ge (by omega) (by omega)) ⟨vp_in_nI (by omega) (by omega), ?_⟩
      rw [nI_clamp (show k < 2 ^ 31 by omega), sg_b0]
      exact nm_e (nm_r (nI_1 k) (h3 post h))
theorem xs_en78 {r c : Nat} {z0 : Int32} (hr : r < 16) (hc : c < 3) (hC : sg_C W G f_guard a_roomRoot a_leadsTo a_rights a_table) : ∃ rr rg tb : Nat → Int32, rr c = nI r ∧ sg_C W G f_guard rr a_leadsTo rg tb ∧ ∀ post : SX → Prop, post (f_paging, f_guard, nI r, f_logged, nI c, z0, f_dirWord, f_tableFrame, f_tableWord, f_target, f_reached, f_faultAddress, f_faultCode, f_accesses, f_faults, f_pc, f_savedPc, f_cause, f_output, f_outputs, f_traps, f_user, f_savedUser, f_stopped, f_trapped, f_any, f_keptPaging, f_keptGuard, f_keptRoot, a_page, a_users, a_held, a_away, rr, a_leadsTo, rg, tb, a_register, a_ops, a_first, a_second, a_numbers, a_kept) → wX_enter_78 post z0 f_paging f_guard (nI r) f_logged (nI c) f_oldest f_dirWord f_tableFrame f_tableWord f_target f_reached f_faultAddress f_faultCode f_accesses f_faults f_pc f_savedPc f_cause f_output f_outputs f_traps f_user f_savedUser f_stopped f_trapped f_any f_keptPaging f_keptGuard f_keptRoot a_page a_users a_held a_away a_roomRoot a_leadsTo a_rights a_table a_register a_ops a_first a_second a_numbers a_kept := by
  obtain ⟨rg, g1, g2, g3⟩ := xs_en103 (f_paging := f_paging) (f_guard := f_guard) (f_root := nI r) (f_logged := f_logged) (f_oldest := z0) (f_dirWord := f_dirWord) (f_tableFrame := f_tableFrame) (f_tableWord := f_tableWord) (f_target := f_target) (f_reached := f_reached) (f_faultAddress := f_faultAddress) (f_faultCode := f_faultCode) (f_accesses := f_accesses) (f_faults := f_faults) (f_pc := f_pc) (f_savedPc := f_savedPc) (f_cause := f_cause) (f_output := f_output) (f_outputs := f_outputs) (f_traps := f_traps) (f_user := f_user) (f_savedUser := f_savedUser) (f_stopped := f_stopped) (f_trapped := f_trapped) (f_any := f_any) (f_keptPaging := f_keptPaging) (f_keptGuard := f_keptGuard) (f_keptRoot := f_keptRoot) (a_page := a_page) (a_users := a_users) (a_held := a_held) (a_away := a_away) (a_roomRoot := upd a_roomRoot c (nI r)) (a_leadsTo := a_leadsTo) (a_table := a_table) (a_register := a_register) (a_ops := a_ops) (a_first := a_first) (a_second := a_second) (a_numbers := a_numbers) (a_kept := a_kept) hc 64 (64 * c) a_rights (by omega) (by omega)
  obtain ⟨tb, t1, t2⟩ := xs_en138 (f_paging := f_paging) (f_guard := f_guard) (f_root := nI r) (f_logged := f_logged) (f_oldest := z0) (f_dirWord := f_dirWord) (f_tableFrame := f_tableFrame) (f_tableWord := f_tableWord) (f_target := f_target) (f_reached := f_reached) (f_faultAddress := f_faultAddress) (f_faultCode := f_faultCode) (f_accesses := f_accesses) (f_faults := f_faults) (f_pc := f_pc) (f_savedPc := f_savedPc) (f_cause := f_cause) (f_output := f_output) (f_outputs := f_outputs) (f_traps := f_traps) (f_user := f_user) (f_savedUser := f_savedUser) (f_stopped := f_stopped) (f_trapped := f_trapped) (f_any := f_any) (f_keptPaging := f_keptPaging) (f_keptGuard := f_keptGuard) (f_keptRoot := f_keptRoot) (a_page := a_page) (a_users := a_users) (a_held := a_held) (a_away := a_away) (a_roomRoot := upd a_roomRoot c (nI r)) (a_leadsTo := a_leadsTo) (a_rights := rg) (a_register := a_register) (a_ops := a_ops) (a_first := a_first) (a_second := a_second) (a_numbers := a_numbers) (a_kept := a_kept) hc 8 (8 * c) a_table (by omega) (by omega)
  refine ⟨upd a_roomRoot c (nI r), rg, tb, pk_us, sg_C_room hC hc (fun j hj => pk_un hj) g1 g2 t1, fun post h => ?_⟩
  unfold wX_enter_78
  rw [nI_clamp (show c < 2 ^ 31 by omega), sg_by r (by omega)]
  exact ⟨vp_in_nI hc (by omega), nm_e (nm_r (sg_m64 c) ⟨65, g3 post ⟨9, t2 post h⟩⟩)⟩
theorem xs_enter {r : Nat} (hr : r < 16) (ho : ∃ o, o < 3 ∧ f_oldest = nI o) (hC : sg_C W G f_guard a_roomRoot a_leadsTo a_rights a_table) : ∃ (rm ol : Int32) (rr rg tb : Nat → Int32), (∃ c, c < 3 ∧ rm = nI c ∧ rr c = nI r) ∧ (∃ o, o < 3 ∧ ol = nI o) ∧ sg_C W G f_guard rr a_leadsTo rg tb ∧ ∀ post : SX → Prop, post (f_paging, f_guard, nI r, f_logged, rm, ol, f_dirWord, f_tableFrame, f_tableWord, f_target, f_reached, f_faultAddress, f_faultCode, f_accesses, f_faults, f_pc, f_savedPc, f_cause, f_output, f_outputs, f_traps, f_user, f_savedUser, f_stopped, f_trapped, f_any, f_keptPaging, f_keptGuard, f_keptRoot, a_page, a_users, a_held, a_away, rr, a_leadsTo, rg, tb, a_register, a_ops, a_first, a_second, a_numbers, a_kept) → wpX_enter post (f_paging, f_guard, nI r, f_logged, f_room, f_oldest, f_dirWord, f_tableFrame, f_tableWord, f_target, f_reached, f_faultAddress, f_faultCode, f_accesses, f_faults, f_pc, f_savedPc, f_cause, f_output, f_outputs, f_traps, f_user, f_savedUser, f_stopped, f_trapped, f_any, f_keptPaging, f_keptGuard, f_keptRoot, a_page, a_users, a_held, a_away, a_roomRoot, a_leadsTo, a_rights, a_table, a_register, a_ops, a_first, a_second, a_numbers, a_kept) := by
  by_cases q : ∃ c, c < 3 ∧ a_roomRoot c = nI r
  · obtain ⟨c, ⟨hc, ec⟩, hl⟩ := pk_least (fun c => c < 3 ∧ a_roomRoot c = nI r) q
    refine ⟨nI c, f_oldest, a_roomRoot, a_rights, a_table, ⟨c, hc, rfl, ec⟩, ho, hC, fun post h => ?_⟩
    refine xs_en5 (c := c) (fun i hi z => hl i hi ⟨by omega, z⟩) (Or.inr ⟨hc, ec⟩) ?_
    exact br_f (nI_ge (b := 3) hc (by omega)) h
  · obtain ⟨o, ho3, eo⟩ := ho
    subst eo
    by_cases h2 : o = 2
    · subst h2
      obtain ⟨rr, rg, tb, k1, k2, k3⟩ := xs_en78 (f_paging := f_paging) (f_guard := f_guard) (f_logged := f_logged) (f_oldest := nI 2) (f_dirWord := f_dirWord) (f_tableFrame := f_tableFrame) (f_tableWord := f_tableWord) (f_target := f_target) (f_reached := f_reached) (f_faultAddress := f_faultAddress) (f_faultCode := f_faultCode) (f_accesses := f_accesses) (f_faults := f_faults) (f_pc := f_pc) (f_savedPc := f_savedPc) (f_cause := f_cause) (f_output := f_output) (f_outputs := f_outputs) (f_traps := f_traps) (f_user := f_user) (f_savedUser := f_savedUser) (f_stopped := f_stopped) (f_trapped := f_trapped) (f_any := f_any) (f_keptPaging := f_keptPaging) (f_keptGuard := f_keptGuard) (f_keptRoot := f_keptRoot) (a_page := a_page) (a_users := a_users) (a_held := a_held) (a_away := a_away) (a_roomRoot := a_roomRoot) (a_leadsTo := a_leadsTo) (a_rights := a_rights) (a_table := a_table) (a_register := a_register) (a_ops := a_ops) (a_first := a_first) (a_second := a_second) (a_numbers := a_numbers) (a_kept := a_kept) (z0 := 0) (c := 2) hr (by omega) hC
      refine ⟨nI 2, 0, rr, rg, tb, ⟨2, by omega, rfl, k1⟩, ⟨0, by omega, rfl⟩, k2, fun post h => ?_⟩
      refine xs_en5 (c := 3) (fun i hi z => q ⟨i, hi, z⟩) (Or.inl rfl) ?_
      exact br_t (by decide) (br_t rfl (k3 post h))
    · obtain ⟨rr, rg, tb, k1, k2, k3⟩ := xs_en78 (f_paging := f_paging) (f_guard := f_guard) (f_logged := f_logged) (f_oldest := nI o) (f_dirWord := f_dirWord) (f_tableFrame := f_tableFrame) (f_tableWord := f_tableWord) (f_target := f_target) (f_reached := f_reached) (f_faultAddress := f_faultAddress) (f_faultCode := f_faultCode) (f_accesses := f_accesses) (f_faults := f_faults) (f_pc := f_pc) (f_savedPc := f_savedPc) (f_cause := f_cause) (f_output := f_output) (f_outputs := f_outputs) (f_traps := f_traps) (f_user := f_user) (f_savedUser := f_savedUser) (f_stopped := f_stopped) (f_trapped := f_trapped) (f_any := f_any) (f_keptPaging := f_keptPaging) (f_keptGuard := f_keptGuard) (f_keptRoot := f_keptRoot) (a_page := a_page) (a_users := a_users) (a_held := a_held) (a_away := a_away) (a_roomRoot := a_roomRoot) (a_leadsTo := a_leadsTo) (a_rights := a_rights) (a_table := a_table) (a_register := a_register) (a_ops := a_ops) (a_first := a_first) (a_second := a_second) (a_numbers := a_numbers) (a_kept := a_kept) (z0 := nI o + 1) (c := o) hr (by omega) hC
      refine ⟨nI o, nI o + 1, rr, rg, tb, ⟨o, by omega, rfl, k1⟩, ⟨o + 1, by omega, nI_1 o⟩, k2, fun post h => ?_⟩
      refine xs_en5 (c := 3) (fun i hi z => q ⟨i, hi, z⟩) (Or.inl rfl) ?_
      exact br_t (by decide) (br_f (fun z => h2 (sg_inj (b := 2) (by omega) (by omega) z)) (k3 post h))
theorem xs_turn {p0 : Int32} (hp : p0 = -1 ∨ ∃ r, r < 16 ∧ p0 = nI r) (ho : ∃ o, o < 3 ∧ f_oldest = nI o) (hC : sg_C W G f_guard a_roomRoot a_leadsTo a_rights a_table) : ∃ (pa ro rm ol : Int32) (rr rg tb : Nat → Int32), sg_P pa ro rm rr p0 ∧ (∃ o, o < 3 ∧ ol = nI o) ∧ sg_C W G f_guard rr a_leadsTo rg tb ∧ ∀ post : SX → Prop, post (pa, f_guard, ro, f_logged, rm, ol, f_dirWord, f_tableFrame, f_tableWord, f_target, f_reached, f_faultAddress, f_faultCode, f_accesses, f_faults, f_pc, f_savedPc, f_cause, f_output, f_outputs, f_traps, f_user, f_savedUser, f_stopped, f_trapped, f_any, f_keptPaging, f_keptGuard, f_keptRoot, a_page, a_users, a_held, a_away, rr, a_leadsTo, rg, tb, a_register, a_ops, a_first, a_second, a_numbers, a_kept) → wpX_turn post (f_paging, f_guard, f_root, f_logged, f_room, f_oldest, f_dirWord, f_tableFrame, f_tableWord, f_target, f_reached, f_faultAddress, f_faultCode, f_accesses, f_faults, f_pc, f_savedPc, f_cause, f_output, f_outputs, f_traps, f_user, f_savedUser, f_stopped, f_trapped, f_any, f_keptPaging, f_keptGuard, f_keptRoot, a_page, a_users, a_held, a_away, a_roomRoot, a_leadsTo, a_rights, a_table, a_register, a_ops, a_first, a_second, a_numbers, a_kept) p0 := by
  rcases hp with e | ⟨r, hr, e⟩
  · subst e
    refine ⟨0, f_root, f_room, f_oldest, a_roomRoot, a_rights, a_table, Or.inl ⟨rfl, rfl⟩, ho, hC, fun post h => ?_⟩
    unfold wpX_turn
    exact br_t (by decide) ⟨rfl, rfl, br_t rfl h⟩
  · subst e
    obtain ⟨rm, ol, rr, rg, tb, ⟨c, hc, e1, e2⟩, k2, k3, k4⟩ := xs_enter (f_paging := 1) (f_guard := f_guard) (f_logged := f_logged) (f_room := f_room) (f_oldest := f_oldest) (f_dirWord := f_dirWord) (f_tableFrame := f_tableFrame) (f_tableWord := f_tableWord) (f_target := f_target) (f_reached := f_reached) (f_faultAddress := f_faultAddress) (f_faultCode := f_faultCode) (f_accesses := f_accesses) (f_faults := f_faults) (f_pc := f_pc) (f_savedPc := f_savedPc) (f_cause := f_cause) (f_output := f_output) (f_outputs := f_outputs) (f_traps := f_traps) (f_user := f_user) (f_savedUser := f_savedUser) (f_stopped := f_stopped) (f_trapped := f_trapped) (f_any := f_any) (f_keptPaging := f_keptPaging) (f_keptGuard := f_keptGuard) (f_keptRoot := f_keptRoot) (a_page := a_page) (a_users := a_users) (a_held := a_held) (a_away := a_away) (a_roomRoot := a_roomRoot) (a_leadsTo := a_leadsTo) (a_rights := a_rights) (a_table := a_table) (a_register := a_register) (a_ops := a_ops) (a_first := a_first) (a_second := a_second) (a_numbers := a_numbers) (a_kept := a_kept) hr ho hC
    refine ⟨1, nI r, rm, ol, rr, rg, tb, Or.inr ⟨rfl, r, c, hr, hc, rfl, rfl, e1, e2⟩, k2, k3, fun post h => ?_⟩
    unfold wpX_turn
    exact br_f (nI_pos (by omega)) ⟨rfl, rfl, br_f (by decide) (k4 _ h)⟩
theorem xs_watch {on : Int32} (h01 : on = 0 ∨ on = 1) (hC : sg_C W G f_guard a_roomRoot a_leadsTo a_rights a_table) : ∃ rg : Nat → Int32, sg_C W G on a_roomRoot a_leadsTo rg a_table ∧ ∀ post : SX → Prop, post (f_paging, on, f_root, f_logged, f_room, f_oldest, f_dirWord, f_tableFrame, f_tableWord, f_target, f_reached, f_faultAddress, f_faultCode, f_accesses, f_faults, f_pc, f_savedPc, f_cause, f_output, f_outputs, f_traps, f_user, f_savedUser, f_stopped, f_trapped, f_any, f_keptPaging, f_keptGuard, f_keptRoot, a_page, a_users, a_held, a_away, a_roomRoot, a_leadsTo, rg, a_table, a_register, a_ops, a_first, a_second, a_numbers, a_kept) → wpX_watch post (f_paging, f_guard, f_root, f_logged, f_room, f_oldest, f_dirWord, f_tableFrame, f_tableWord, f_target, f_reached, f_faultAddress, f_faultCode, f_accesses, f_faults, f_pc, f_savedPc, f_cause, f_output, f_outputs, f_traps, f_user, f_savedUser, f_stopped, f_trapped, f_any, f_keptPaging, f_keptGuard, f_keptRoot, a_page, a_users, a_held, a_away, a_roomRoot, a_leadsTo, a_rights, a_table, a_register, a_ops, a_first, a_second, a_numbers, a_kept) on := by
  by_cases q : on = f_guard
  · subst q
    refine ⟨a_rights, hC, fun post h => ?_⟩
    unfold wpX_watch
    exact ⟨1, br_f (by decide) (br_t rfl ⟨sg_nar h01, sg_fit h01, h⟩)⟩
  · have key : ∀ (m k : Nat) (rg : Nat → Int32), k + m = 192 → ∃ rg' : Nat → Int32, (∀ j, k ≤ j → j < 192 → rg' j = 0) ∧ (∀ j, j < k → rg' j = rg j) ∧ ∀ post : SX → Prop, post (f_paging, on, f_root, f_logged, f_room, f_oldest, f_dirWord, f_tableFrame, f_tableWord, f_target, f_reached, f_faultAddress, f_faultCode, f_accesses, f_faults, f_pc, f_savedPc, f_cause, f_output, f_outputs, f_traps, f_user, f_savedUser, f_stopped, f_trapped, f_any, f_keptPaging, f_keptGuard, f_keptRoot, a_page, a_users, a_held, a_away, a_roomRoot, a_leadsTo, rg', a_table, a_register, a_ops, a_first, a_second, a_numbers, a_kept) → wX_watch_2 post on f_paging f_guard f_root f_logged f_room f_oldest f_dirWord f_tableFrame f_tableWord f_target f_reached f_faultAddress f_faultCode f_accesses f_faults f_pc f_savedPc f_cause f_output f_outputs f_traps f_user f_savedUser f_stopped f_trapped f_any f_keptPaging f_keptGuard f_keptRoot (m + 1) (nI k) a_page a_users a_held a_away a_roomRoot a_leadsTo rg a_table a_register a_ops a_first a_second a_numbers a_kept := by
      intro m
      induction m with
      | zero =>
        intro k rg hk
        have e : k = 192 := by omega
        subst e
        exact ⟨rg, fun j h1 h2 => by omega, fun j _ => rfl, fun post h => br_t (by decide) ⟨sg_nar h01, sg_fit h01, h⟩⟩
      | succ m ih =>
        intro k rg hk
        obtain ⟨rg', h1, h2, h3⟩ := ih (k + 1) (upd rg k 0) (by omega)
        refine ⟨rg', ?_, fun j hj => by rw [h2 j (by omega), pk_un (by omega)], fun post h => ?_⟩
        · intro j hj1 hj2
          by_cases z : j = k
          · rw [z, h2 k (by omega), pk_us]
          · exact h1 j (by omega) hj2
        · refine br_f (nI_ge (b := 192) (by omega) (by omega)) (br_f q ⟨vp_in_nI (by omega) (by omega), ?_⟩)
          rw [nI_clamp (show k < 2 ^ 31 by omega), sg_b0]
          exact nm_e (nm_r (nI_1 k) (h3 post h))
    obtain ⟨rg, h1, h2, h3⟩ := key 192 0 a_rights (by omega)
    refine ⟨rg, sg_C_0 (fun k hk => h1 k (Nat.zero_le _) hk), fun post h => ?_⟩
    unfold wpX_watch
    exact ⟨193, h3 post h⟩
theorem xs_fa45 : ∀ (m k : Nat) (rr : Nat → Int32), k + m = 3 → ∃ rr' : Nat → Int32, ∀ post : SX → Prop, post (f_paging, f_guard, f_root, f_logged, f_room, f_oldest, f_dirWord, f_tableFrame, f_tableWord, f_target, f_reached, f_faultAddress, f_faultCode, f_accesses, f_faults, f_pc, f_savedPc, f_cause, f_output, f_outputs, f_traps, f_user, f_savedUser, f_stopped, f_trapped, f_any, f_keptPaging, f_keptGuard, f_keptRoot, a_page, a_users, a_held, a_away, rr', a_leadsTo, a_rights, a_table, a_register, a_ops, a_first, a_second, a_numbers, a_kept) → wX_forgetAll_45 post f_paging f_guard f_root f_logged f_room f_oldest f_dirWord f_tableFrame f_tableWord f_target f_reached f_faultAddress f_faultCode f_accesses f_faults f_pc f_savedPc f_cause f_output f_outputs f_traps f_user f_savedUser f_stopped f_trapped f_any f_keptPaging f_keptGuard f_keptRoot (m + 1) (nI k) a_page a_users a_held a_away rr a_leadsTo a_rights a_table a_register a_ops a_first a_second a_numbers a_kept := by
  intro m
  induction m with
  | zero =>
    intro k rr hk
    have e : k = 3 := by omega
    subst e
    exact ⟨rr, fun post h => br_t (by decide) h⟩
  | succ m ih =>
    intro k rr hk
    obtain ⟨rr', h3⟩ := ih (k + 1) (upd rr k (-1)) (by omega)
    refine ⟨rr', fun post h => ?_⟩
    refine br_f (nI_ge (b := 3) (by omega) (by omega)) ⟨vp_in_nI (by omega) (by omega), ?_⟩
    rw [nI_clamp (show k < 2 ^ 31 by omega), sg_bm1]
    exact nm_e (nm_r (nI_1 k) (h3 post h))
theorem xs_fa24 : ∀ (m k : Nat) (tb : Nat → Int32), k + m = 24 → ∃ tb' : Nat → Int32, ∀ post : SX → Prop, (∃ n45, wX_forgetAll_45 post f_paging f_guard f_root f_logged f_room f_oldest f_dirWord f_tableFrame f_tableWord f_target f_reached f_faultAddress f_faultCode f_accesses f_faults f_pc f_savedPc f_cause f_output f_outputs f_traps f_user f_savedUser f_stopped f_trapped f_any f_keptPaging f_keptGuard f_keptRoot n45 0 a_page a_users a_held a_away a_roomRoot a_leadsTo a_rights tb' a_register a_ops a_first a_second a_numbers a_kept) → wX_forgetAll_24 post f_paging f_guard f_root f_logged f_room f_oldest f_dirWord f_tableFrame f_tableWord f_target f_reached f_faultAddress f_faultCode f_accesses f_faults f_pc f_savedPc f_cause f_output f_outputs f_traps f_user f_savedUser f_stopped f_trapped f_any f_keptPaging f_keptGuard f_keptRoot (m + 1) (nI k) a_page a_users a_held a_away a_roomRoot a_leadsTo a_rights tb a_register a_ops a_first a_second a_numbers a_kept := by
  intro m
  induction m with
  | zero =>
    intro k tb hk
    have e : k = 24 := by omega
    subst e
    exact ⟨tb, fun post h => br_t (by decide) h⟩
  | succ m ih =>
    intro k tb hk
    obtain ⟨tb', h3⟩ := ih (k + 1) (upd tb k (-1)) (by omega)
    refine ⟨tb', fun post h => ?_⟩
    refine br_f (nI_ge (b := 24) (by omega) (by omega)) ⟨vp_in_nI (by omega) (by omega), ?_⟩
    rw [nI_clamp (show k < 2 ^ 31 by omega), sg_bm1]
    exact nm_e (nm_r (nI_1 k) (h3 post h))
theorem xs_fa2 : ∀ (m k : Nat) (rg : Nat → Int32), k + m = 192 → ∃ rg' : Nat → Int32, (∀ j, k ≤ j → j < 192 → rg' j = 0) ∧ (∀ j, j < k → rg' j = rg j) ∧ ∀ post : SX → Prop, (∃ n24, wX_forgetAll_24 post f_paging f_guard f_root f_logged f_room f_oldest f_dirWord f_tableFrame f_tableWord f_target f_reached f_faultAddress f_faultCode f_accesses f_faults f_pc f_savedPc f_cause f_output f_outputs f_traps f_user f_savedUser f_stopped f_trapped f_any f_keptPaging f_keptGuard f_keptRoot n24 0 a_page a_users a_held a_away a_roomRoot a_leadsTo rg' a_table a_register a_ops a_first a_second a_numbers a_kept) → wX_forgetAll_2 post f_paging f_guard f_root f_logged f_room f_oldest f_dirWord f_tableFrame f_tableWord f_target f_reached f_faultAddress f_faultCode f_accesses f_faults f_pc f_savedPc f_cause f_output f_outputs f_traps f_user f_savedUser f_stopped f_trapped f_any f_keptPaging f_keptGuard f_keptRoot (m + 1) (nI k) a_page a_users a_held a_away a_roomRoot a_leadsTo rg a_table a_register a_ops a_first a_second a_numbers a_kept := by
  intro m
  induction m with
  | zero =>
    intro k rg hk
    have e : k = 192 := by omega
    subst e
    exact ⟨rg, fun j h1 h2 => by omega, fun j _ => rfl, fun post h => br_t (by decide) h⟩
  | succ m ih =>
    intro k rg hk
    obtain ⟨rg', h1, h2, h3⟩ := ih (k + 1) (upd rg k 0) (by omega)
    refine ⟨rg', ?_, fun j hj => by rw [h2 j (by omega), pk_un (by omega)], fun post h => ?_⟩
    · intro j hj1 hj2
      by_cases z : j = k
      · rw [z, h2 k (by omega), pk_us]
      · exact h1 j (by omega) hj2
    · refine br_f (nI_ge (b := 192) (by omega) (by omega)) ⟨vp_in_nI (by omega) (by omega), ?_⟩
      rw [nI_clamp (show k < 2 ^ 31 by omega), sg_b0]
      exact nm_e (nm_r (nI_1 k) (h3 post h))
theorem xs_fa : ∃ rr rg tb : Nat → Int32, (∀ k, k < 192 → rg k = 0) ∧ ∀ post : SX → Prop, post (f_paging, f_guard, f_root, f_logged, f_room, f_oldest, f_dirWord, f_tableFrame, f_tableWord, f_target, f_reached, f_faultAddress, f_faultCode, f_accesses, f_faults, f_pc, f_savedPc, f_cause, f_output, f_outputs, f_traps, f_user, f_savedUser, f_stopped, f_trapped, f_any, f_keptPaging, f_keptGuard, f_keptRoot, a_page, a_users, a_held, a_away, rr, a_leadsTo, rg, tb, a_register, a_ops, a_first, a_second, a_numbers, a_kept) → wpX_forgetAll post (f_paging, f_guard, f_root, f_logged, f_room, f_oldest, f_dirWord, f_tableFrame, f_tableWord, f_target, f_reached, f_faultAddress, f_faultCode, f_accesses, f_faults, f_pc, f_savedPc, f_cause, f_output, f_outputs, f_traps, f_user, f_savedUser, f_stopped, f_trapped, f_any, f_keptPaging, f_keptGuard, f_keptRoot, a_page, a_users, a_held, a_away, a_roomRoot, a_leadsTo, a_rights, a_table, a_register, a_ops, a_first, a_second, a_numbers, a_kept) := by
  obtain ⟨rg, g1, g2, g3⟩ := xs_fa2 (f_paging := f_paging) (f_guard := f_guard) (f_root := f_root) (f_logged := f_logged) (f_room := f_room) (f_oldest := f_oldest) (f_dirWord := f_dirWord) (f_tableFrame := f_tableFrame) (f_tableWord := f_tableWord) (f_target := f_target) (f_reached := f_reached) (f_faultAddress := f_faultAddress) (f_faultCode := f_faultCode) (f_accesses := f_accesses) (f_faults := f_faults) (f_pc := f_pc) (f_savedPc := f_savedPc) (f_cause := f_cause) (f_output := f_output) (f_outputs := f_outputs) (f_traps := f_traps) (f_user := f_user) (f_savedUser := f_savedUser) (f_stopped := f_stopped) (f_trapped := f_trapped) (f_any := f_any) (f_keptPaging := f_keptPaging) (f_keptGuard := f_keptGuard) (f_keptRoot := f_keptRoot) (a_page := a_page) (a_users := a_users) (a_held := a_held) (a_away := a_away) (a_roomRoot := a_roomRoot) (a_leadsTo := a_leadsTo) (a_table := a_table) (a_register := a_register) (a_ops := a_ops) (a_first := a_first) (a_second := a_second) (a_numbers := a_numbers) (a_kept := a_kept) 192 0 a_rights (by omega)
  obtain ⟨tb, t3⟩ := xs_fa24 (f_paging := f_paging) (f_guard := f_guard) (f_root := f_root) (f_logged := f_logged) (f_room := f_room) (f_oldest := f_oldest) (f_dirWord := f_dirWord) (f_tableFrame := f_tableFrame) (f_tableWord := f_tableWord) (f_target := f_target) (f_reached := f_reached) (f_faultAddress := f_faultAddress) (f_faultCode := f_faultCode) (f_accesses := f_accesses) (f_faults := f_faults) (f_pc := f_pc) (f_savedPc := f_savedPc) (f_cause := f_cause) (f_output := f_output) (f_outputs := f_outputs) (f_traps := f_traps) (f_user := f_user) (f_savedUser := f_savedUser) (f_stopped := f_stopped) (f_trapped := f_trapped) (f_any := f_any) (f_keptPaging := f_keptPaging) (f_keptGuard := f_keptGuard) (f_keptRoot := f_keptRoot) (a_page := a_page) (a_users := a_users) (a_held := a_held) (a_away := a_away) (a_roomRoot := a_roomRoot) (a_leadsTo := a_leadsTo) (a_rights := rg) (a_register := a_register) (a_ops := a_ops) (a_first := a_first) (a_second := a_second) (a_numbers := a_numbers) (a_kept := a_kept) 24 0 a_table (by omega)
  obtain ⟨rr, r3⟩ := xs_fa45 (f_paging := f_paging) (f_guard := f_guard) (f_root := f_root) (f_logged := f_logged) (f_room := f_room) (f_oldest := f_oldest) (f_dirWord := f_dirWord) (f_tableFrame := f_tableFrame) (f_tableWord := f_tableWord) (f_target := f_target) (f_reached := f_reached) (f_faultAddress := f_faultAddress) (f_faultCode := f_faultCode) (f_accesses := f_accesses) (f_faults := f_faults) (f_pc := f_pc) (f_savedPc := f_savedPc) (f_cause := f_cause) (f_output := f_output) (f_outputs := f_outputs) (f_traps := f_traps) (f_user := f_user) (f_savedUser := f_savedUser) (f_stopped := f_stopped) (f_trapped := f_trapped) (f_any := f_any) (f_keptPaging := f_keptPaging) (f_keptGuard := f_keptGuard) (f_keptRoot := f_keptRoot) (a_page := a_page) (a_users := a_users) (a_held := a_held) (a_away := a_away) (a_leadsTo := a_leadsTo) (a_rights := rg) (a_table := tb) (a_register := a_register) (a_ops := a_ops) (a_first := a_first) (a_second := a_second) (a_numbers := a_numbers) (a_kept := a_kept) 3 0 a_roomRoot (by omega)
  refine ⟨rr, rg, tb, fun k hk => g1 k (Nat.zero_le _) hk, fun post h => ?_⟩
  unfold wpX_forgetAll
  exact ⟨193, g3 post ⟨25, t3 post ⟨4, r3 post h⟩⟩⟩
end
theorem sg_m1of {x : Int32} (h1 : ¬ x < -1) (h2 : x < 0) : x = -1 := by
  apply Int32.toInt_inj.mp
  rw [Int32.lt_iff_toInt_lt] at h1 h2
  rw [show (-1 : Int32).toInt = -1 by decide] at h1 ⊢
  rw [show (0 : Int32).toInt = 0 by decide] at h2
  omega
theorem i_vc_control {k : Nat} {u : SX} {v : SY} (I : i_Rel k u v) (hk : k + 5 ≤ 2560) (v1 : Int32) (v2 : Int32) : wpX_control (fun r u' => wpY_control (fun r' v' => r' = r ∧ i_Rel (k + 5) u' v') v v1 v2) u v1 v2 := by
  refine sg_el (P := fun u v => wpX_control (fun r u' => wpY_control (fun r' v' => r' = r ∧ i_Rel (k + 5) u' v') v v1 v2) u v1 v2) ?_ I
  intro f_paging f_guard f_root f_logged f_room f_oldest f_dirWord f_tableFrame f_tableWord f_target f_reached f_faultAddress f_faultCode f_accesses f_faults f_pc f_savedPc f_cause f_output f_outputs f_traps f_user f_savedUser f_stopped f_trapped f_any f_keptPaging f_keptGuard f_keptRoot y_root y_keptRoot y_faultCode y_first y_second y_goal y_code y_behindTrap a_page a_users a_held a_away a_roomRoot a_leadsTo a_rights a_table a_register a_ops a_first a_second a_numbers a_kept W G hI
  obtain ⟨hS, hP, hF, ho, hg, hR⟩ := id hI
  unfold wpX_control
  by_cases e0 : v1 = 0
  · have n1 : ¬ v1 = 1 := by rw [e0]; decide
    refine br_t e0 ?_
    by_cases q1 : v2 < -1
    · refine br_t q1 (br_f n1 ?_)
      unfold wpY_control
      refine br_t e0 (br_t q1 (br_t rfl (br_f n1 ?_)))
      exact ⟨rfl, sg_mk hI⟩
    · refine br_f q1 ?_
      by_cases q2 : (16 : Int32) ≤ v2
      · refine br_t q2 (br_f n1 ?_)
        unfold wpY_control
        refine br_t e0 (br_f q1 (br_t (sg_lt_of (N := 15) (by omega) q2) (br_t rfl (br_f n1 ?_))))
        exact ⟨rfl, sg_mk hI⟩
      · have hv : v2 = -1 ∨ ∃ r, r < 16 ∧ v2 = nI r := by
          rcases pk_ix v2 (n := 16) (by omega) with z | z | z
          · exact Or.inl (sg_m1of q1 z)
          · exact absurd z q2
          · exact Or.inr z
        have q3 : ¬ (15 : Int32) < v2 := by
          intro z
          rcases hv with y | ⟨r, hr, y⟩
          · rw [y] at z; exact absurd z (by decide)
          · rw [y] at z
            have := (nI_ltI (a := 15) (b := r) (by omega) (by omega)).mp z
            omega
        obtain ⟨pa, ro, rm, ol, rr, rg, tb, t1, t2, t3, t4⟩ := xs_turn (f_paging := f_paging) (f_guard := f_guard) (f_root := f_root) (f_logged := f_logged) (f_room := f_room) (f_oldest := f_oldest) (f_dirWord := f_dirWord) (f_tableFrame := f_tableFrame) (f_tableWord := f_tableWord) (f_target := f_target) (f_reached := f_reached) (f_faultAddress := f_faultAddress) (f_faultCode := f_faultCode) (f_accesses := f_accesses) (f_faults := f_faults) (f_pc := f_pc) (f_savedPc := f_savedPc) (f_cause := f_cause) (f_output := f_output) (f_outputs := f_outputs) (f_traps := f_traps) (f_user := f_user) (f_savedUser := f_savedUser) (f_stopped := f_stopped) (f_trapped := f_trapped) (f_any := f_any) (f_keptPaging := f_keptPaging) (f_keptGuard := f_keptGuard) (f_keptRoot := f_keptRoot) (a_page := a_page) (a_users := a_users) (a_held := a_held) (a_away := a_away) (a_roomRoot := a_roomRoot) (a_leadsTo := a_leadsTo) (a_rights := a_rights) (a_table := a_table) (a_register := a_register) (a_ops := a_ops) (a_first := a_first) (a_second := a_second) (a_numbers := a_numbers) (a_kept := a_kept) hv ho hS.2.1
        refine br_f q2 (t4 _ ?_)
        unfold wpY_control
        refine br_t e0 (br_f q1 (br_f q3 (br_f (by decide) ?_)))
        exact ⟨rfl, sg_mk ⟨⟨hS.1, t3, hS.2.2⟩, t1, hF, t2, hg, hR⟩⟩
  · refine br_f e0 ?_
    by_cases e1 : v1 = 1
    · refine br_t e1 ?_
      rcases pk_ix v2 (n := 2) (by omega) with h | h | ⟨j, hj, rfl⟩
      · refine xs_in0 (N := 2) (Or.inl h) (br_t rfl ?_)
        unfold wpY_control
        refine br_f e0 (br_t e1 (ys_in0 (N := 1) (by omega) (Or.inl h) (br_t rfl ?_)))
        exact ⟨rfl, sg_mk hI⟩
      · refine xs_in0 (N := 2) (Or.inr h) (br_t rfl ?_)
        unfold wpY_control
        refine br_f e0 (br_t e1 (ys_in0 (N := 1) (by omega) (Or.inr h) (br_t rfl ?_)))
        exact ⟨rfl, sg_mk hI⟩
      · refine xs_in1 (N := 2) hj (by omega) (br_f (by decide) ?_)
        by_cases ej : nI j = 1
        · obtain ⟨rg, w1, w2⟩ := xs_watch (f_paging := f_paging) (f_guard := f_guard) (f_root := f_root) (f_logged := f_logged) (f_room := f_room) (f_oldest := f_oldest) (f_dirWord := f_dirWord) (f_tableFrame := f_tableFrame) (f_tableWord := f_tableWord) (f_target := f_target) (f_reached := f_reached) (f_faultAddress := f_faultAddress) (f_faultCode := f_faultCode) (f_accesses := f_accesses) (f_faults := f_faults) (f_pc := f_pc) (f_savedPc := f_savedPc) (f_cause := f_cause) (f_output := f_output) (f_outputs := f_outputs) (f_traps := f_traps) (f_user := f_user) (f_savedUser := f_savedUser) (f_stopped := f_stopped) (f_trapped := f_trapped) (f_any := f_any) (f_keptPaging := f_keptPaging) (f_keptGuard := f_keptGuard) (f_keptRoot := f_keptRoot) (a_page := a_page) (a_users := a_users) (a_held := a_held) (a_away := a_away) (a_roomRoot := a_roomRoot) (a_leadsTo := a_leadsTo) (a_rights := a_rights) (a_table := a_table) (a_register := a_register) (a_ops := a_ops) (a_first := a_first) (a_second := a_second) (a_numbers := a_numbers) (a_kept := a_kept) (on := 1) (Or.inr rfl) hS.2.1
          refine br_t ej (w2 _ ?_)
          unfold wpY_control
          refine br_f e0 (br_t e1 (ys_in1 (N := 1) hj (by omega) (br_f (by decide) (br_t ej ?_))))
          exact ⟨rfl, sg_mk ⟨⟨hS.1, w1, hS.2.2⟩, hP, hF, ho, Or.inr rfl, hR⟩⟩
        · obtain ⟨rg, w1, w2⟩ := xs_watch (f_paging := f_paging) (f_guard := f_guard) (f_root := f_root) (f_logged := f_logged) (f_room := f_room) (f_oldest := f_oldest) (f_dirWord := f_dirWord) (f_tableFrame := f_tableFrame) (f_tableWord := f_tableWord) (f_target := f_target) (f_reached := f_reached) (f_faultAddress := f_faultAddress) (f_faultCode := f_faultCode) (f_accesses := f_accesses) (f_faults := f_faults) (f_pc := f_pc) (f_savedPc := f_savedPc) (f_cause := f_cause) (f_output := f_output) (f_outputs := f_outputs) (f_traps := f_traps) (f_user := f_user) (f_savedUser := f_savedUser) (f_stopped := f_stopped) (f_trapped := f_trapped) (f_any := f_any) (f_keptPaging := f_keptPaging) (f_keptGuard := f_keptGuard) (f_keptRoot := f_keptRoot) (a_page := a_page) (a_users := a_users) (a_held := a_held) (a_away := a_away) (a_roomRoot := a_roomRoot) (a_leadsTo := a_leadsTo) (a_rights := a_rights) (a_table := a_table) (a_register := a_register) (a_ops := a_ops) (a_first := a_first) (a_second := a_second) (a_numbers := a_numbers) (a_kept := a_kept) (on := 0) (Or.inl rfl) hS.2.1
          refine br_f ej (w2 _ ?_)
          unfold wpY_control
          refine br_f e0 (br_t e1 (ys_in1 (N := 1) hj (by omega) (br_f (by decide) (br_f ej ?_))))
          exact ⟨rfl, sg_mk ⟨⟨hS.1, w1, hS.2.2⟩, hP, hF, ho, Or.inl rfl, hR⟩⟩
    · refine br_f e1 ?_
      unfold wpY_control
      refine br_f e0 (br_f e1 ?_)
      exact ⟨rfl, sg_mk hI⟩
end
section
/-! the beginning -/
theorem sg_hc_cg {h g : Nat → Int32} {x : Int32} {n : Nat} (e : ∀ j, j < n → h j = g j) : sg_hc h x n = sg_hc g x n := by
  induction n with
  | zero => rfl
  | succ n ih =>
    unfold sg_hc
    rw [ih (fun j hj => e j (by omega)), e n (by omega)]
theorem sg_hc_id : ∀ p, p < 16 → sg_hc nI (nI p) 16 = 1 := by decide +kernel
section
variable {f_paging f_guard f_root f_logged f_room f_oldest f_dirWord f_tableFrame f_tableWord f_target f_reached f_faultAddress f_faultCode f_accesses f_faults f_pc f_savedPc f_cause f_output f_outputs f_traps f_user f_savedUser f_stopped f_trapped f_any f_keptPaging f_keptGuard f_keptRoot : Int32} {a_page a_users a_held a_away a_roomRoot a_leadsTo a_rights a_table a_register a_ops a_first a_second a_numbers a_kept : Nat → Int32} {y_root y_keptRoot y_faultCode y_first y_second y_goal y_code y_behindTrap : Int32} {W G : Nat → Int32}
theorem xs_in135 : ∀ (m i : Nat) (us he : Nat → Int32), i + m = 16 → (∀ j, j < i → he j = nI j ∧ us j = 1) → ∃ us' he' : Nat → Int32, (∀ j, j < 16 → he' j = nI j ∧ us' j = 1) ∧ ∀ post : SX → Prop, wX_init_135 post f_paging f_guard f_root f_logged f_room f_oldest f_dirWord f_tableFrame f_tableWord f_target f_reached f_faultAddress f_faultCode f_accesses f_faults f_pc f_savedPc f_cause f_output f_outputs f_traps f_user f_savedUser f_stopped f_trapped f_any f_keptPaging f_keptGuard f_keptRoot 1 (nI 16) a_page us' he' a_away a_roomRoot a_leadsTo a_rights a_table a_register a_ops a_first a_second a_numbers a_kept → wX_init_135 post f_paging f_guard f_root f_logged f_room f_oldest f_dirWord f_tableFrame f_tableWord f_target f_reached f_faultAddress f_faultCode f_accesses f_faults f_pc f_savedPc f_cause f_output f_outputs f_traps f_user f_savedUser f_stopped f_trapped f_any f_keptPaging f_keptGuard f_keptRoot (m + 1) (nI i) a_page us he a_away a_roomRoot a_leadsTo a_rights a_table a_register a_ops a_first a_second a_numbers a_kept := by
  intro m
  induction m with
  | zero =>
    intro i us he hi h
    have e : i = 16 := by omega
    subst e
    exact ⟨us, he, h, fun post k => k⟩
  | succ m ih =>
    intro i us he hi h
    have h' : ∀ j, j < i + 1 → upd he i (nI i) j = nI j ∧ upd us i 1 j = 1 := by
      intro j hj
      by_cases z : j = i
      · rw [z, pk_us, pk_us]; exact ⟨rfl, rfl⟩
      · rw [pk_un z, pk_un z]; exact h j (by omega)
    obtain ⟨us', he', k1, k2⟩ := ih (i + 1) (upd us i 1) (upd he i (nI i)) (by omega) h'
    refine ⟨us', he', k1, fun post k => ?_⟩
    refine br_f (nI_ge (b := 16) (by omega) (by omega)) ⟨vp_in_nI (by omega) (by omega), ?_⟩
    rw [nI_clamp (show i < 2 ^ 31 by omega), sg_by i (by omega), sg_b1]
    exact nm_e ⟨vp_in_nI (by omega) (by omega), nm_e (nm_r (nI_1 i) (k2 post k))⟩
end
theorem i_vc0 : wpX_init (fun u => wpY_init (fun v => i_Rel 0 u v)) := by
  obtain ⟨us, he, k1, k2⟩ := xs_in135 (f_paging := 0) (f_guard := 1) (f_root := 0) (f_logged := 0) (f_room := 0) (f_oldest := 0) (f_dirWord := 0) (f_tableFrame := 0) (f_tableWord := 0) (f_target := 0) (f_reached := 0) (f_faultAddress := -1) (f_faultCode := 0) (f_accesses := 0) (f_faults := 0) (f_pc := 0) (f_savedPc := 0) (f_cause := 0) (f_output := 0) (f_outputs := 0) (f_traps := 0) (f_user := 0) (f_savedUser := 0) (f_stopped := 0) (f_trapped := 0) (f_any := 0) (f_keptPaging := 0) (f_keptGuard := 0) (f_keptRoot := 0) (a_page := fun _ => 0) (a_away := fun _ => 0) (a_roomRoot := fun _ => 0) (a_leadsTo := fun _ => 0) (a_rights := fun _ => 0) (a_table := fun _ => 0) (a_register := fun _ => 0) (a_ops := fun _ => 0) (a_first := fun _ => 0) (a_second := fun _ => 0) (a_numbers := fun _ => 0) (a_kept := fun _ => 0) 16 0 (fun _ => 0) (fun _ => 0) (by omega) (fun j hj => by omega)
  obtain ⟨rr, rg, tb, g1, g2⟩ := xs_fa (f_paging := 0) (f_guard := 1) (f_root := 0) (f_logged := 0) (f_room := 0) (f_oldest := 0) (f_dirWord := 0) (f_tableFrame := 0) (f_tableWord := 0) (f_target := 0) (f_reached := 0) (f_faultAddress := -1) (f_faultCode := 0) (f_accesses := 0) (f_faults := 0) (f_pc := 0) (f_savedPc := 0) (f_cause := 0) (f_output := 0) (f_outputs := 0) (f_traps := 0) (f_user := 0) (f_savedUser := 0) (f_stopped := 0) (f_trapped := 0) (f_any := 0) (f_keptPaging := 0) (f_keptGuard := 0) (f_keptRoot := 0) (a_page := fun _ => 0) (a_users := us) (a_held := he) (a_away := fun _ => 0) (a_roomRoot := fun _ => 0) (a_leadsTo := fun _ => 0) (a_rights := fun _ => 0) (a_table := fun _ => 0) (a_register := fun _ => 0) (a_ops := fun _ => 0) (a_first := fun _ => 0) (a_second := fun _ => 0) (a_numbers := fun _ => 0) (a_kept := fun _ => 0)
  have hM : sg_M (fun _ => 0) us he (fun _ => 0) (fun _ => 0) (fun _ => 0) := by
    refine ⟨fun f hf => Or.inr ⟨rfl, f, hf, (k1 f hf).1⟩, fun p hp => ?_, fun f hf w hw => ⟨fun _ => rfl, fun p hp _ => rfl⟩⟩
    rw [(k1 p hp).2, sg_hc_cg (g := nI) (fun j hj => (k1 j hj).1), sg_hc_id p hp]; rfl
  have hO : sg_O (fun _ => 0) (fun _ => 0) (fun _ => 0) (fun _ => 0) (fun _ => 0) := fun i _ => Or.inl rfl
  refine Exists.intro 17 (k2 _ (br_t (by decide) (g2 _ ?_)))
  unfold wpY_init
  exact sg_mk ⟨⟨hM, sg_C_0 g1, hO⟩, Or.inl ⟨rfl, rfl⟩, Or.inl ⟨rfl, rfl⟩, ⟨0, by omega, rfl⟩, Or.inr rfl, Or.inl rfl, Or.inl rfl, fun _ => rfl, Or.inl rfl⟩
end
section
/-! device, save, restore -/
theorem sg_upd_id (W : Nat → Int32) (k : Nat) : upd W k (W k) = W := by
  funext j
  by_cases z : j = k
  · rw [z, pk_us]
  · rw [pk_un z]
section
variable {f_paging f_guard f_root f_logged f_room f_oldest f_dirWord f_tableFrame f_tableWord f_target f_reached f_faultAddress f_faultCode f_accesses f_faults f_pc f_savedPc f_cause f_output f_outputs f_traps f_user f_savedUser f_stopped f_trapped f_any f_keptPaging f_keptGuard f_keptRoot : Int32} {a_page a_users a_held a_away a_roomRoot a_leadsTo a_rights a_table a_register a_ops a_first a_second a_numbers a_kept : Nat → Int32} {y_root y_keptRoot y_faultCode y_first y_second y_goal y_code y_behindTrap : Int32} {W G : Nat → Int32}
theorem sg_dev {f w n e : Nat} {v : Int32} (hf : f < 16) (hw : w < 8) (hn : n ≤ 8) (he1 : e ≤ n) (he2 : w + e ≤ 8) (he3 : e = n ∨ w + e = 8) : ∀ (m i : Nat) (f_logged : Int32) (a_page a_users a_held a_away a_rights a_table a_ops W : Nat → Int32), i + m = e →
    sg_S a_page a_users a_held a_away a_roomRoot a_leadsTo a_rights a_table a_ops a_first a_second a_numbers f_guard W G →
    ∃ (lg : Int32) (pg ue he aw rg tb op W' : Nat → Int32), sg_S pg ue he aw a_roomRoot a_leadsTo rg tb op a_first a_second a_numbers f_guard W' G ∧
      (∀ post : Int32 → SX → Prop, post (nI e) (f_paging, f_guard, f_root, lg, f_room, f_oldest, f_dirWord, f_tableFrame, f_tableWord, f_target, f_reached, f_faultAddress, f_faultCode, f_accesses, f_faults, f_pc, f_savedPc, f_cause, f_output, f_outputs, f_traps, f_user, f_savedUser, f_stopped, f_trapped, f_any, f_keptPaging, f_keptGuard, f_keptRoot, pg, ue, he, aw, a_roomRoot, a_leadsTo, rg, tb, a_register, op, a_first, a_second, a_numbers, a_kept) → wX_device_41 post (nI f) (nI w) v (nI n) (m + 1) (nI i) f_paging f_guard f_root f_logged f_room f_oldest f_dirWord f_tableFrame f_tableWord f_target f_reached f_faultAddress f_faultCode f_accesses f_faults f_pc f_savedPc f_cause f_output f_outputs f_traps f_user f_savedUser f_stopped f_trapped f_any f_keptPaging f_keptGuard f_keptRoot a_page a_users a_held a_away a_roomRoot a_leadsTo a_rights a_table a_register a_ops a_first a_second a_numbers a_kept) ∧
      (∀ post : Int32 → SY → Prop, post (nI e) (y_root, y_keptRoot, lg, f_accesses, f_faults, f_faultAddress, y_faultCode, f_guard, f_keptGuard, f_any, y_first, y_second, y_goal, y_code, f_pc, f_savedPc, f_cause, f_output, f_outputs, f_traps, f_user, f_savedUser, f_stopped, y_behindTrap, W', a_kept, G, a_register) → wY_device_44 post (nI f) (nI w) v (nI n) (m + 1) (nI i) y_root y_keptRoot f_logged f_accesses f_faults f_faultAddress y_faultCode f_guard f_keptGuard f_any y_first y_second y_goal y_code f_pc f_savedPc f_cause f_output f_outputs f_traps f_user f_savedUser f_stopped y_behindTrap W a_kept G a_register) := by
  intro m
  induction m with
  | zero =>
    intro i f_logged a_page a_users a_held a_away a_rights a_table a_ops W hi hS
    have ei : i = e := by omega
    subst ei
    refine ⟨f_logged, a_page, a_users, a_held, a_away, a_rights, a_table, a_ops, W, hS, fun post h => ?_, fun post h => ?_⟩
    · by_cases z : nI n ≤ nI i
      · exact br_t z h
      · refine br_f z (br_t ?_ h)
        rw [nI_add]
        have : ¬ n ≤ i := fun y => z (nI_le y (by omega))
        exact nI_le (a := 8) (by omega) (by omega)
    · by_cases z : nI n ≤ nI i
      · exact br_t z h
      · refine br_f z (br_t ?_ h)
        rw [nI_add]
        have : ¬ n ≤ i := fun y => z (nI_le y (by omega))
        exact nI_le (a := 8) (by omega) (by omega)
  | succ m ih =>
    intro i f_logged a_page a_users a_held a_away a_rights a_table a_ops W hi hS
    obtain ⟨pg, ue, he, aw, rg, tb, op, n1, n2⟩ := xs_note (f_paging := f_paging) (f_guard := f_guard) (f_root := f_root) (f_logged := f_logged) (f_room := f_room) (f_oldest := f_oldest) (f_dirWord := f_dirWord) (f_tableFrame := f_tableFrame) (f_tableWord := f_tableWord) (f_target := f_target) (f_reached := f_reached) (f_faultAddress := f_faultAddress) (f_faultCode := f_faultCode) (f_accesses := f_accesses) (f_faults := f_faults) (f_pc := f_pc) (f_savedPc := f_savedPc) (f_cause := f_cause) (f_output := f_output) (f_outputs := f_outputs) (f_traps := f_traps) (f_user := f_user) (f_savedUser := f_savedUser) (f_stopped := f_stopped) (f_trapped := f_trapped) (f_any := f_any) (f_keptPaging := f_keptPaging) (f_keptGuard := f_keptGuard) (f_keptRoot := f_keptRoot) (a_page := a_page) (a_users := a_users) (a_held := a_held) (a_away := a_away) (a_roomRoot := a_roomRoot) (a_leadsTo := a_leadsTo) (a_rights := a_rights) (a_table := a_table) (a_register := a_register) (a_ops := a_ops) (a_first := a_first) (a_second := a_second) (a_numbers := a_numbers) (a_kept := a_kept) (f := f) (w := w + i) (v := v + nI i) hS hf (by omega)
    obtain ⟨lg, pg', ue', he', aw', rg', tb', op', W', h1, h2, h3⟩ := ih (i + 1) (f_logged ||| ((1 : Int32) <<< (nI f &&& 31))) pg ue he aw rg tb op (upd W (8 * f + (w + i)) (v + nI i)) (by omega) n1
    have g1 : ¬ nI n ≤ nI i := nI_ge (by omega) (by omega)
    have g2 : ¬ (8 : Int32) ≤ nI w + nI i := by rw [nI_add]; exact nI_ge (b := 8) (by omega) (by omega)
    refine ⟨lg, pg', ue', he', aw', rg', tb', op', W', h1, fun post h => ?_, fun post h => ?_⟩
    · refine br_f g1 (br_f g2 ?_)
      rw [nI_add w i]
      refine n2 _ ?_
      exact nm_r (nI_1 i) (h2 post h)
    · refine br_f g1 (br_f g2 ?_)
      rw [sg_ix8 f w, nI_add (8 * f + w) i, show 8 * f + w + i = 8 * f + (w + i) by omega]
      refine ys_write (by omega) ?_
      rw [show (8 * f + (w + i)) / 8 = f by omega]
      exact nm_r (nI_1 i) (h3 post h)
theorem sg_save (hM : sg_M a_page a_users a_held a_away W G) : ∀ (m i : Nat) (a_kept : Nat → Int32), i + m = 128 → ∃ kp : Nat → Int32,
      (∀ post : SX → Prop, wX_save_2 post f_paging f_guard f_root f_logged f_room f_oldest f_dirWord f_tableFrame f_tableWord f_target f_reached f_faultAddress f_faultCode f_accesses f_faults f_pc f_savedPc f_cause f_output f_outputs f_traps f_user f_savedUser f_stopped f_trapped f_any f_keptPaging f_keptGuard f_keptRoot 1 (nI 128) a_page a_users a_held a_away a_roomRoot a_leadsTo a_rights a_table a_register a_ops a_first a_second a_numbers kp → wX_save_2 post f_paging f_guard f_root f_logged f_room f_oldest f_dirWord f_tableFrame f_tableWord f_target f_reached f_faultAddress f_faultCode f_accesses f_faults f_pc f_savedPc f_cause f_output f_outputs f_traps f_user f_savedUser f_stopped f_trapped f_any f_keptPaging f_keptGuard f_keptRoot (m + 1) (nI i) a_page a_users a_held a_away a_roomRoot a_leadsTo a_rights a_table a_register a_ops a_first a_second a_numbers a_kept) ∧
      (∀ post : SY → Prop, wY_save_2 post y_root y_keptRoot f_logged f_accesses f_faults f_faultAddress y_faultCode f_guard f_keptGuard f_any y_first y_second y_goal y_code f_pc f_savedPc f_cause f_output f_outputs f_traps f_user f_savedUser f_stopped y_behindTrap 1 (nI 128) W kp G a_register → wY_save_2 post y_root y_keptRoot f_logged f_accesses f_faults f_faultAddress y_faultCode f_guard f_keptGuard f_any y_first y_second y_goal y_code f_pc f_savedPc f_cause f_output f_outputs f_traps f_user f_savedUser f_stopped y_behindTrap (m + 1) (nI i) W a_kept G a_register) := by
  intro m
  induction m with
  | zero =>
    intro i a_kept hi
    have e : i = 128 := by omega
    subst e
    exact ⟨a_kept, fun post h => h, fun post h => h⟩
  | succ m ih =>
    intro i a_kept hi
    obtain ⟨kp, h1, h2⟩ := ih (i + 1) (upd a_kept i (W i)) (by omega)
    refine ⟨kp, fun post h => ?_, fun post h => ?_⟩
    · refine br_f (nI_ge (b := 128) (by omega) (by omega)) ?_
      rw [sg_sh3 (show i < 512 by omega), sg_an7 (show i < 512 by omega)]
      refine xs_word hM (by omega) (by omega) ⟨vp_in_nI (by omega) (by omega), ?_⟩
      rw [nI_clamp (show i < 2 ^ 31 by omega), show 8 * (i / 8) + i % 8 = i by omega]
      exact nm_e (nm_r (nI_1 i) (h1 post h))
    · refine br_f (nI_ge (b := 128) (by omega) (by omega)) ⟨vp_in_nI (by omega) (by omega), vp_in_nI (by omega) (by omega), ?_⟩
      rw [nI_clamp (show i < 2 ^ 31 by omega)]
      exact nm_e (nm_r (nI_1 i) (h2 post h))
theorem sg_rest : ∀ (m i : Nat) (f_logged : Int32) (a_page a_users a_held a_away a_rights a_table a_ops W : Nat → Int32), i + m = 128 →
    sg_S a_page a_users a_held a_away a_roomRoot a_leadsTo a_rights a_table a_ops a_first a_second a_numbers f_guard W G →
    ∃ (lg : Int32) (pg ue he aw rg tb op W' : Nat → Int32), sg_S pg ue he aw a_roomRoot a_leadsTo rg tb op a_first a_second a_numbers f_guard W' G ∧
      (∀ post : Int32 → SX → Prop, wX_restore_11 post 1 (nI 128) f_paging f_guard f_root lg f_room f_oldest f_dirWord f_tableFrame f_tableWord f_target f_reached f_faultAddress f_faultCode f_accesses f_faults f_pc f_savedPc f_cause f_output f_outputs f_traps f_user f_savedUser f_stopped f_trapped f_any f_keptPaging f_keptGuard f_keptRoot pg ue he aw a_roomRoot a_leadsTo rg tb a_register op a_first a_second a_numbers a_kept → wX_restore_11 post (m + 1) (nI i) f_paging f_guard f_root f_logged f_room f_oldest f_dirWord f_tableFrame f_tableWord f_target f_reached f_faultAddress f_faultCode f_accesses f_faults f_pc f_savedPc f_cause f_output f_outputs f_traps f_user f_savedUser f_stopped f_trapped f_any f_keptPaging f_keptGuard f_keptRoot a_page a_users a_held a_away a_roomRoot a_leadsTo a_rights a_table a_register a_ops a_first a_second a_numbers a_kept) ∧
      (∀ post : Int32 → SY → Prop, wY_restore_11 post y_root y_keptRoot f_accesses f_faults f_faultAddress y_faultCode f_guard f_keptGuard f_any y_first y_second y_goal y_code f_pc f_savedPc f_cause f_output f_outputs f_traps f_user f_savedUser f_stopped y_behindTrap 1 (nI 128) lg W' a_kept G a_register → wY_restore_11 post y_root y_keptRoot f_accesses f_faults f_faultAddress y_faultCode f_guard f_keptGuard f_any y_first y_second y_goal y_code f_pc f_savedPc f_cause f_output f_outputs f_traps f_user f_savedUser f_stopped y_behindTrap (m + 1) (nI i) f_logged W a_kept G a_register) := by
  intro m
  induction m with
  | zero =>
    intro i f_logged a_page a_users a_held a_away a_rights a_table a_ops W hi hS
    have e : i = 128 := by omega
    subst e
    exact ⟨f_logged, a_page, a_users, a_held, a_away, a_rights, a_table, a_ops, W, hS, fun post h => h, fun post h => h⟩
  | succ m ih =>
    intro i f_logged a_page a_users a_held a_away a_rights a_table a_ops W hi hS
    have gi : ¬ (128 : Int32) ≤ nI i := nI_ge (b := 128) (by omega) (by omega)
    have vi : vp_in (nI i) 128 := vp_in_nI (by omega) (by omega)
    have e8 : 8 * (i / 8) + i % 8 = i := by omega
    by_cases q : W i = a_kept i
    · obtain ⟨lg, pg, ue, he, aw, rg, tb, op, W', h1, h2, h3⟩ := ih (i + 1) f_logged a_page a_users a_held a_away a_rights a_table a_ops W (by omega) hS
      refine ⟨lg, pg, ue, he, aw, rg, tb, op, W', h1, fun post h => ?_, fun post h => ?_⟩
      · refine br_f gi ?_
        rw [sg_sh3 (show i < 512 by omega), sg_an7 (show i < 512 by omega)]
        refine xs_word hS.1 (by omega) (by omega) ⟨vi, ?_⟩
        rw [nI_clamp (show i < 2 ^ 31 by omega), e8]
        exact br_t q (nm_r (nI_1 i) (h2 post h))
      · refine br_f gi ⟨vi, vi, ?_⟩
        rw [nI_clamp (show i < 2 ^ 31 by omega)]
        refine br_t q ?_
        unfold wY_restore_48
        rw [nI_clamp (show i < 2 ^ 31 by omega), ← q, sg_upd_id]
        exact ⟨vi, vi, nm_e (nm_r (nI_1 i) (h3 post h))⟩
    · obtain ⟨pg, ue, he, aw, rg, tb, op, n1, n2⟩ := xs_note (f_paging := f_paging) (f_guard := f_guard) (f_root := f_root) (f_logged := f_logged) (f_room := f_room) (f_oldest := f_oldest) (f_dirWord := f_dirWord) (f_tableFrame := f_tableFrame) (f_tableWord := f_tableWord) (f_target := f_target) (f_reached := f_reached) (f_faultAddress := f_faultAddress) (f_faultCode := f_faultCode) (f_accesses := f_accesses) (f_faults := f_faults) (f_pc := f_pc) (f_savedPc := f_savedPc) (f_cause := f_cause) (f_output := f_output) (f_outputs := f_outputs) (f_traps := f_traps) (f_user := f_user) (f_savedUser := f_savedUser) (f_stopped := f_stopped) (f_trapped := f_trapped) (f_any := f_any) (f_keptPaging := f_keptPaging) (f_keptGuard := f_keptGuard) (f_keptRoot := f_keptRoot) (a_page := a_page) (a_users := a_users) (a_held := a_held) (a_away := a_away) (a_roomRoot := a_roomRoot) (a_leadsTo := a_leadsTo) (a_rights := a_rights) (a_table := a_table) (a_register := a_register) (a_ops := a_ops) (a_first := a_first) (a_second := a_second) (a_numbers := a_numbers) (a_kept := a_kept) (f := i / 8) (w := i % 8) (v := a_kept i) hS (by omega) (by omega)
      rw [e8] at n1
      obtain ⟨lg, pg', ue', he', aw', rg', tb', op', W', h1, h2, h3⟩ := ih (i + 1) (f_logged ||| ((1 : Int32) <<< (nI (i / 8) &&& 31))) pg ue he aw rg tb op (upd W i (a_kept i)) (by omega) n1
      refine ⟨lg, pg', ue', he', aw', rg', tb', op', W', h1, fun post h => ?_, fun post h => ?_⟩
      · refine br_f gi ?_
        rw [sg_sh3 (show i < 512 by omega), sg_an7 (show i < 512 by omega)]
        refine xs_word hS.1 (by omega) (by omega) ⟨vi, ?_⟩
        rw [nI_clamp (show i < 2 ^ 31 by omega), e8]
        refine br_f q ⟨vi, n2 _ ?_⟩
        exact nm_r (nI_1 i) (h2 post h)
      · refine br_f gi ⟨vi, vi, ?_⟩
        rw [nI_clamp (show i < 2 ^ 31 by omega), sg_d8 (show i < 128 by omega)]
        refine br_f q ⟨by decide, nm_e ?_⟩
        unfold wY_restore_48
        rw [nI_clamp (show i < 2 ^ 31 by omega)]
        exact ⟨vi, vi, nm_e (nm_r (nI_1 i) (h3 post h))⟩
end
theorem i_vc_save {k : Nat} {u : SX} {v : SY} (I : i_Rel k u v) (hk : k + 5 ≤ 2560) : wpX_save (fun u' => wpY_save (fun v' => i_Rel (k + 5) u' v') v) u := by
  refine sg_el (P := fun u v => wpX_save (fun u' => wpY_save (fun v' => i_Rel (k + 5) u' v') v) u) ?_ I
  intro f_paging f_guard f_root f_logged f_room f_oldest f_dirWord f_tableFrame f_tableWord f_target f_reached f_faultAddress f_faultCode f_accesses f_faults f_pc f_savedPc f_cause f_output f_outputs f_traps f_user f_savedUser f_stopped f_trapped f_any f_keptPaging f_keptGuard f_keptRoot y_root y_keptRoot y_faultCode y_first y_second y_goal y_code y_behindTrap a_page a_users a_held a_away a_roomRoot a_leadsTo a_rights a_table a_register a_ops a_first a_second a_numbers a_kept W G hI
  obtain ⟨hS, hP, hF, ho, hg, hu, hs, ht, hK⟩ := id hI
  obtain ⟨kp, h1, h2⟩ := sg_save (f_paging := f_paging) (f_guard := f_guard) (f_root := f_root) (f_logged := f_logged) (f_room := f_room) (f_oldest := f_oldest) (f_dirWord := f_dirWord) (f_tableFrame := f_tableFrame) (f_tableWord := f_tableWord) (f_target := f_target) (f_reached := f_reached) (f_faultAddress := f_faultAddress) (f_faultCode := f_faultCode) (f_accesses := f_accesses) (f_faults := f_faults) (f_pc := f_pc) (f_savedPc := f_savedPc) (f_cause := f_cause) (f_output := f_output) (f_outputs := f_outputs) (f_traps := f_traps) (f_user := f_user) (f_savedUser := f_savedUser) (f_stopped := f_stopped) (f_trapped := f_trapped) (f_any := f_any) (f_keptPaging := f_keptPaging) (f_keptGuard := f_keptGuard) (f_keptRoot := f_keptRoot) (y_root := y_root) (y_keptRoot := y_keptRoot) (y_faultCode := y_faultCode) (y_first := y_first) (y_second := y_second) (y_goal := y_goal) (y_code := y_code) (y_behindTrap := y_behindTrap) (a_page := a_page) (a_users := a_users) (a_held := a_held) (a_away := a_away) (a_roomRoot := a_roomRoot) (a_leadsTo := a_leadsTo) (a_rights := a_rights) (a_table := a_table) (a_register := a_register) (a_ops := a_ops) (a_first := a_first) (a_second := a_second) (a_numbers := a_numbers) (W := W) (G := G) hS.1 128 0 a_kept (by omega)
  have hp : f_paging = 0 ∨ f_paging = 1 := by
    rcases hP with z | z
    · exact Or.inl z.1
    · exact Or.inr z.1
  have hK' : sg_K 1 f_paging f_guard f_root y_root := by
    refine Or.inr ⟨by decide, hg, ?_⟩
    rcases hP with z | ⟨z, r, c, hr, hc, e1, e2, _⟩
    · exact Or.inl z
    · exact Or.inr ⟨z, r, hr, e1, e2⟩
  unfold wpX_save
  refine ⟨129, h1 _ (br_t (by decide) ⟨sg_nar hp, sg_fit hp, sg_nar hg, sg_fit hg, ?_⟩)⟩
  unfold wpY_save
  refine ⟨129, h2 _ (br_t (by decide) ⟨sg_nar hg, sg_fit hg, ?_⟩)⟩
  exact sg_mk ⟨hS, hP, hF, ho, hg, hu, hs, ht, hK'⟩
theorem i_vc_restore {k : Nat} {u : SX} {v : SY} (I : i_Rel k u v) (hk : k + 5 ≤ 2560) : wpX_restore (fun r u' => wpY_restore (fun r' v' => r' = r ∧ i_Rel (k + 5) u' v') v) u := by
  refine sg_el (P := fun u v => wpX_restore (fun r u' => wpY_restore (fun r' v' => r' = r ∧ i_Rel (k + 5) u' v') v) u) ?_ I
  intro f_paging f_guard f_root f_logged f_room f_oldest f_dirWord f_tableFrame f_tableWord f_target f_reached f_faultAddress f_faultCode f_accesses f_faults f_pc f_savedPc f_cause f_output f_outputs f_traps f_user f_savedUser f_stopped f_trapped f_any f_keptPaging f_keptGuard f_keptRoot y_root y_keptRoot y_faultCode y_first y_second y_goal y_code y_behindTrap a_page a_users a_held a_away a_roomRoot a_leadsTo a_rights a_table a_register a_ops a_first a_second a_numbers a_kept W G hI
  obtain ⟨hS, hP, hF, ho, hg, hu, hs, ht, hK⟩ := id hI
  unfold wpX_restore
  rcases hK with z | ⟨z, hkg, hkp⟩
  · refine br_t z ?_
    unfold wpY_restore
    exact br_t z ⟨rfl, sg_mk hI⟩
  · obtain ⟨lg, pg, ue, he, aw, rg, tb, op, W', h1, h2, h3⟩ := sg_rest (f_paging := f_paging) (f_guard := f_guard) (f_root := f_root) (f_room := f_room) (f_oldest := f_oldest) (f_dirWord := f_dirWord) (f_tableFrame := f_tableFrame) (f_tableWord := f_tableWord) (f_target := f_target) (f_reached := f_reached) (f_faultAddress := f_faultAddress) (f_faultCode := f_faultCode) (f_accesses := f_accesses) (f_faults := f_faults) (f_pc := f_pc) (f_savedPc := f_savedPc) (f_cause := f_cause) (f_output := f_output) (f_outputs := f_outputs) (f_traps := f_traps) (f_user := f_user) (f_savedUser := f_savedUser) (f_stopped := f_stopped) (f_trapped := f_trapped) (f_any := f_any) (f_keptPaging := f_keptPaging) (f_keptGuard := f_keptGuard) (f_keptRoot := f_keptRoot) (y_root := y_root) (y_keptRoot := y_keptRoot) (y_faultCode := y_faultCode) (y_first := y_first) (y_second := y_second) (y_goal := y_goal) (y_code := y_code) (y_behindTrap := y_behindTrap) (a_roomRoot := a_roomRoot) (a_leadsTo := a_leadsTo) (a_register := a_register) (a_first := a_first) (a_second := a_second) (a_numbers := a_numbers) (a_kept := a_kept) (G := G) 128 0 f_logged a_page a_users a_held a_away a_rights a_table a_ops W (by omega) hS
    obtain ⟨rr2, rg2, tb2, a1, a2⟩ := xs_fa (f_paging := f_paging) (f_guard := f_keptGuard) (f_root := f_root) (f_logged := lg) (f_room := f_room) (f_oldest := f_oldest) (f_dirWord := f_dirWord) (f_tableFrame := f_tableFrame) (f_tableWord := f_tableWord) (f_target := f_target) (f_reached := f_reached) (f_faultAddress := f_faultAddress) (f_faultCode := f_faultCode) (f_accesses := f_accesses) (f_faults := f_faults) (f_pc := f_pc) (f_savedPc := f_savedPc) (f_cause := f_cause) (f_output := f_output) (f_outputs := f_outputs) (f_traps := f_traps) (f_user := f_user) (f_savedUser := f_savedUser) (f_stopped := f_stopped) (f_trapped := f_trapped) (f_any := f_any) (f_keptPaging := f_keptPaging) (f_keptGuard := f_keptGuard) (f_keptRoot := f_keptRoot) (a_page := pg) (a_users := ue) (a_held := he) (a_away := aw) (a_roomRoot := a_roomRoot) (a_leadsTo := a_leadsTo) (a_rights := rg) (a_table := tb) (a_register := a_register) (a_ops := op) (a_first := a_first) (a_second := a_second) (a_numbers := a_numbers) (a_kept := a_kept)
    have hC2 : sg_C W' G f_keptGuard rr2 a_leadsTo rg2 tb2 := sg_C_0 a1
    have hy : y_keptRoot = -1 ∨ ∃ r, r < 16 ∧ y_keptRoot = nI r := by
      rcases hkp with y | ⟨_, r, hr, _, y⟩
      · exact Or.inl y.2
      · exact Or.inr ⟨r, hr, y⟩
    obtain ⟨pa, ro, rm, ol, rr3, rg3, tb3, t1, t2, t3, t4⟩ := xs_turn (f_paging := f_paging) (f_guard := f_keptGuard) (f_root := f_root) (f_logged := lg) (f_room := f_room) (f_oldest := f_oldest) (f_dirWord := f_dirWord) (f_tableFrame := f_tableFrame) (f_tableWord := f_tableWord) (f_target := f_target) (f_reached := f_reached) (f_faultAddress := f_faultAddress) (f_faultCode := f_faultCode) (f_accesses := f_accesses) (f_faults := f_faults) (f_pc := f_pc) (f_savedPc := f_savedPc) (f_cause := f_cause) (f_output := f_output) (f_outputs := f_outputs) (f_traps := f_traps) (f_user := f_user) (f_savedUser := f_savedUser) (f_stopped := f_stopped) (f_trapped := f_trapped) (f_any := f_any) (f_keptPaging := f_keptPaging) (f_keptGuard := f_keptGuard) (f_keptRoot := f_keptRoot) (a_page := pg) (a_users := ue) (a_held := he) (a_away := aw) (a_roomRoot := rr2) (a_leadsTo := a_leadsTo) (a_rights := rg2) (a_table := tb2) (a_register := a_register) (a_ops := op) (a_first := a_first) (a_second := a_second) (a_numbers := a_numbers) (a_kept := a_kept) hy ho hC2
    have fin : wpY_restore (fun r' v' => r' = 1 ∧ i_Rel (k + 5) (pa, f_keptGuard, ro, lg, rm, ol, f_dirWord, f_tableFrame, f_tableWord, f_target, f_reached, f_faultAddress, f_faultCode, f_accesses, f_faults, f_pc, f_savedPc, f_cause, f_output, f_outputs, f_traps, f_user, f_savedUser, f_stopped, f_trapped, f_any, f_keptPaging, f_keptGuard, f_keptRoot, pg, ue, he, aw, rr3, a_leadsTo, rg3, tb3, a_register, op, a_first, a_second, a_numbers, a_kept) v') (y_root, y_keptRoot, f_logged, f_accesses, f_faults, f_faultAddress, y_faultCode, f_guard, f_keptGuard, f_any, y_first, y_second, y_goal, y_code, f_pc, f_savedPc, f_cause, f_output, f_outputs, f_traps, f_user, f_savedUser, f_stopped, y_behindTrap, W, a_kept, G, a_register) := by
      unfold wpY_restore
      refine br_f z ⟨129, h3 _ (br_t (by decide) ⟨sg_nar hkg, sg_fit hkg, ?_⟩)⟩
      exact ⟨rfl, sg_mk ⟨⟨h1.1, t3, h1.2.2⟩, t1, hF, t2, hkg, hu, hs, ht, Or.inr ⟨z, hkg, hkp⟩⟩⟩
    refine br_f z ⟨129, h2 _ (br_t (by decide) ⟨sg_nar hkg, sg_fit hkg, a2 _ ?_⟩)⟩
    rcases hkp with ⟨y1, y2⟩ | ⟨y1, r, hr, y2, y3⟩
    · rw [y2] at t4
      exact br_t y1 (t4 _ fin)
    · rw [y3, ← y2] at t4
      exact br_f (by rw [y1]; decide) (t4 _ fin)
theorem i_vc_device {k : Nat} {u : SX} {v : SY} (I : i_Rel k u v) (hk : k + 5 ≤ 2560) (v1 : Int32) (v2 : Int32) (v3 : Int32) (v4 : Int32) : wpX_device (fun r u' => wpY_device (fun r' v' => r' = r ∧ i_Rel (k + 5) u' v') v v1 v2 v3 v4) u v1 v2 v3 v4 := by
  refine sg_el (P := fun u v => wpX_device (fun r u' => wpY_device (fun r' v' => r' = r ∧ i_Rel (k + 5) u' v') v v1 v2 v3 v4) u v1 v2 v3 v4) ?_ I
  intro f_paging f_guard f_root f_logged f_room f_oldest f_dirWord f_tableFrame f_tableWord f_target f_reached f_faultAddress f_faultCode f_accesses f_faults f_pc f_savedPc f_cause f_output f_outputs f_traps f_user f_savedUser f_stopped f_trapped f_any f_keptPaging f_keptGuard f_keptRoot y_root y_keptRoot y_faultCode y_first y_second y_goal y_code y_behindTrap a_page a_users a_held a_away a_roomRoot a_leadsTo a_rights a_table a_register a_ops a_first a_second a_numbers a_kept W G hI
  obtain ⟨hS, hR⟩ := id hI
  unfold wpX_device
  by_cases q1 : v1 < 0 ∨ nI 16 ≤ v1
  · refine xs_in0 (N := 16) q1 (br_t rfl ?_)
    unfold wpY_device
    exact ys_in0 (N := 15) (by omega) q1 (br_t rfl ⟨rfl, sg_mk hI⟩)
  · obtain ⟨f, hf, rfl⟩ := ((pk_ix v1 (n := 16) (by omega)).resolve_left (fun z => q1 (Or.inl z))).resolve_left (fun z => q1 (Or.inr z))
    refine xs_in1 (N := 16) hf (by omega) (br_f (by decide) ?_)
    by_cases q2 : v2 < 0 ∨ nI 8 ≤ v2
    · refine xs_in0 (N := 8) q2 (br_t rfl ?_)
      unfold wpY_device
      exact ys_in1 (N := 15) hf (by omega) (br_f (by decide) (ys_in0 (N := 7) (by omega) q2 (br_t rfl ⟨rfl, sg_mk hI⟩)))
    · obtain ⟨w, hw, rfl⟩ := ((pk_ix v2 (n := 8) (by omega)).resolve_left (fun z => q2 (Or.inl z))).resolve_left (fun z => q2 (Or.inr z))
      refine xs_in1 (N := 8) hw (by omega) (br_f (by decide) ?_)
      by_cases q3 : v4 < 1
      · refine br_t q3 ?_
        unfold wpY_device
        exact ys_in1 (N := 15) hf (by omega) (br_f (by decide) (ys_in1 (N := 7) hw (by omega) (br_f (by decide) (br_t q3 (br_t rfl ⟨rfl, sg_mk hI⟩)))))
      · refine br_f q3 ?_
        by_cases q4 : v4 ≤ 8
        · have hn : ∃ n, n ≤ 8 ∧ v4 = nI n := nI_of2 (M := 8) (by decide) (fun z => q3 (Int32.lt_trans z (by decide))) q4
          obtain ⟨n, hn8, rfl⟩ := hn
          have hn1 : 1 ≤ n := by
            apply Classical.byContradiction
            intro z
            exact q3 (nI_lt (b := 1) (by omega) (by omega))
          obtain ⟨pg, ue, he, u1, u2⟩ := xs_use (f_paging := f_paging) (f_guard := f_guard) (f_root := f_root) (f_logged := f_logged) (f_room := f_room) (f_oldest := f_oldest) (f_dirWord := f_dirWord) (f_tableFrame := f_tableFrame) (f_tableWord := f_tableWord) (f_target := f_target) (f_reached := f_reached) (f_faultAddress := f_faultAddress) (f_faultCode := f_faultCode) (f_accesses := f_accesses) (f_faults := f_faults) (f_pc := f_pc) (f_savedPc := f_savedPc) (f_cause := f_cause) (f_output := f_output) (f_outputs := f_outputs) (f_traps := f_traps) (f_user := f_user) (f_savedUser := f_savedUser) (f_stopped := f_stopped) (f_trapped := f_trapped) (f_any := f_any) (f_keptPaging := f_keptPaging) (f_keptGuard := f_keptGuard) (f_keptRoot := f_keptRoot) (a_page := a_page) (a_users := a_users) (a_held := a_held) (a_away := a_away) (a_roomRoot := a_roomRoot) (a_leadsTo := a_leadsTo) (a_rights := a_rights) (a_table := a_table) (a_register := a_register) (a_ops := a_ops) (a_first := a_first) (a_second := a_second) (a_numbers := a_numbers) (a_kept := a_kept) hS.1 hf
          have hS2 : sg_S pg ue he a_away a_roomRoot a_leadsTo a_rights a_table a_ops a_first a_second a_numbers f_guard W (upd G f 0) := ⟨u1, sg_C_G hS.2.1 sg_u0, hS.2.2⟩
          obtain ⟨e, e1, e2, e3⟩ : ∃ e, e ≤ n ∧ w + e ≤ 8 ∧ (e = n ∨ w + e = 8) := by
            by_cases z : w + n ≤ 8
            · exact ⟨n, Nat.le_refl _, z, Or.inl rfl⟩
            · exact ⟨8 - w, by omega, by omega, Or.inr (by omega)⟩
          obtain ⟨lg, pg', ue', he', aw', rg', tb', op', W', d1, d2, d3⟩ := sg_dev (f_paging := f_paging) (f_guard := f_guard) (f_root := f_root) (f_room := f_room) (f_oldest := f_oldest) (f_dirWord := f_dirWord) (f_tableFrame := f_tableFrame) (f_tableWord := f_tableWord) (f_target := f_target) (f_reached := f_reached) (f_faultAddress := f_faultAddress) (f_faultCode := f_faultCode) (f_accesses := f_accesses) (f_faults := f_faults) (f_pc := f_pc) (f_savedPc := f_savedPc) (f_cause := f_cause) (f_output := f_output) (f_outputs := f_outputs) (f_traps := f_traps) (f_user := f_user) (f_savedUser := f_savedUser) (f_stopped := f_stopped) (f_trapped := f_trapped) (f_any := f_any) (f_keptPaging := f_keptPaging) (f_keptGuard := f_keptGuard) (f_keptRoot := f_keptRoot) (y_root := y_root) (y_keptRoot := y_keptRoot) (y_faultCode := y_faultCode) (y_first := y_first) (y_second := y_second) (y_goal := y_goal) (y_code := y_code) (y_behindTrap := y_behindTrap) (a_roomRoot := a_roomRoot) (a_leadsTo := a_leadsTo) (a_register := a_register) (a_first := a_first) (a_second := a_second) (a_numbers := a_numbers) (a_kept := a_kept) (G := upd G f 0) (v := v3) hf hw hn8 e1 e2 e3 e 0 f_logged pg ue he a_away a_rights a_table a_ops W (by omega) hS2
          refine br_t q4 (u2 _ ⟨e + 1, d2 _ ?_⟩)
          unfold wpY_device
          refine ys_in1 (N := 15) hf (by omega) (br_f (by decide) (ys_in1 (N := 7) hw (by omega) (br_f (by decide) (br_f q3 (br_f (fun z => absurd q4 (Int32.not_le.mpr z)) (br_f (by decide) ?_))))))
          rw [sg_m8]
          refine ys_use (by omega) ?_
          rw [show 8 * f / 8 = f by omega]
          exact ⟨e + 1, d3 _ ⟨rfl, sg_mk ⟨d1, hR⟩⟩⟩
        · refine br_f q4 ?_
          unfold wpY_device
          exact ys_in1 (N := 15) hf (by omega) (br_f (by decide) (ys_in1 (N := 7) hw (by omega) (br_f (by decide) (br_f q3 (br_t (Int32.not_le.mp q4) (br_t rfl ⟨rfl, sg_mk hI⟩))))))
end
section
/-! merge -/
def sg_sm (W : Nat → Int32) (f g : Nat) : Prop := ∀ w, w < 8 → W (8 * f + w) = W (8 * g + w)
def sg_AG (W G : Nat → Int32) (f : Nat) : Prop := ∃ g, g < f ∧ G g = 0 ∧ sg_sm W f g
/-- the first f frames with the same words share a page -/
def sg_mg (W he : Nat → Int32) (f : Nat) : Prop := ∀ i, i < f → ∀ j, j < f → he i ≠ -1 → he j ≠ -1 → sg_sm W i j → he i = he j
/-- how many of the first m pages the first n frames hold -/
def sg_dd (he : Nat → Int32) (n : Nat) : Nat → Nat
  | 0 => 0
  | m + 1 => sg_dd he n m + (if sg_hc he (nI m) n = 0 then 0 else 1)
theorem sg_dd_0 (he : Nat → Int32) (m : Nat) : sg_dd he 0 m = 0 := by
  induction m with
  | zero => rfl
  | succ m ih => unfold sg_dd; rw [ih]; rfl
theorem sg_dd_le (he : Nat → Int32) (n m : Nat) : sg_dd he n m ≤ m := by
  induction m with
  | zero => exact Nat.le_refl _
  | succ m ih => unfold sg_dd; split <;> omega
theorem sg_hc_s (h : Nat → Int32) (x : Int32) (n : Nat) : sg_hc h x (n + 1) = sg_hc h x n + (if h n = x then 1 else 0) := rfl
theorem sg_dd_a {he : Nat → Int32} {n m : Nat} (h : ∀ p, p < m → he n ≠ nI p) : sg_dd he (n + 1) m = sg_dd he n m := by
  induction m with
  | zero => rfl
  | succ m ih =>
    unfold sg_dd
    rw [ih (fun p hp => h p (by omega)), sg_hc_s, if_neg (h m (by omega)), Nat.add_zero]
theorem sg_dd_b {he : Nat → Int32} {n m p : Nat} (hm : m ≤ 16) (hp : p < 16) (e : he n = nI p) (h : 1 ≤ sg_hc he (nI p) n) : sg_dd he (n + 1) m = sg_dd he n m := by
  induction m with
  | zero => rfl
  | succ m ih =>
    unfold sg_dd
    rw [ih (by omega), sg_hc_s]
    by_cases z : m = p
    · rw [z, if_neg (by omega), if_neg (by omega)]
    · rw [if_neg (show ¬ he n = nI m from fun y => z (sg_inj (by omega) (by omega) (e.symm.trans y)).symm), Nat.add_zero]
theorem sg_dd_c {he : Nat → Int32} {n m p : Nat} (hm : m ≤ 16) (hp : p < m) (e : he n = nI p) (h : sg_hc he (nI p) n = 0) : sg_dd he (n + 1) m = sg_dd he n m + 1 := by
  induction m with
  | zero => omega
  | succ m ih =>
    unfold sg_dd
    rw [sg_hc_s]
    by_cases z : m = p
    · rw [sg_dd_a (fun i hi y => by
        have := sg_inj (a := p) (b := i) (by omega) (by omega) (e.symm.trans y)
        omega), z, h, if_pos e]
      simp
    · rw [ih (by omega) (by omega), if_neg (show ¬ he n = nI m from fun y => z (sg_inj (by omega) (by omega) (e.symm.trans y)).symm)]
      simp only [Nat.add_zero]
      omega
theorem sg_hc_ex {h : Nat → Int32} {x : Int32} {n : Nat} (e : 1 ≤ sg_hc h x n) : ∃ g, g < n ∧ h g = x := by
  apply Classical.byContradiction
  intro no
  have : sg_hc h x n = 0 := by
    clear e
    induction n with
    | zero => rfl
    | succ n ih =>
      rw [sg_hc_s, ih (fun ⟨g, hg, e⟩ => no ⟨g, by omega, e⟩), if_neg (fun y => no ⟨n, by omega, y⟩)]
  omega
theorem sg_dd_s {pg us he aw W G : Nat → Int32} {n : Nat} (hM : sg_M pg us he aw W G) (hg : sg_mg W he 16) (hn : n < 16) : (G n = 0 → ¬ sg_AG W G n → sg_dd he (n + 1) 16 = sg_dd he n 16 + 1) ∧ ((¬ G n = 0 ∨ sg_AG W G n) → sg_dd he (n + 1) 16 = sg_dd he n 16) := by
  rcases hM.1 n hn with ⟨e, eg⟩ | ⟨eg, p, hp, e⟩
  · refine ⟨fun z => absurd (eg.symm.trans z) (by decide), fun _ => sg_dd_a (fun p hp y => sg_nm1 p hp (y.symm.trans e))⟩
  · constructor
    · intro _ nA
      refine sg_dd_c (Nat.le_refl _) hp e ?_
      apply Classical.byContradiction
      intro z
      obtain ⟨g, hgn, eg'⟩ := sg_hc_ex (Nat.pos_of_ne_zero z)
      apply nA
      refine ⟨g, hgn, ?_, fun w hw => ?_⟩
      · rcases hM.1 g (by omega) with y | y
        · exact absurd (eg'.symm.trans y.1) (sg_nm1 p hp)
        · exact y.1
      · rw [(hM.2.2 n hn w hw).2 p hp e, (hM.2.2 g (by omega) w hw).2 p hp eg']
    · intro hA
      obtain ⟨g, hgn, gg, hs⟩ := hA.resolve_left (fun z => z eg)
      obtain ⟨q, hq, eq⟩ := sg_M_he hM (show g < 16 by omega) gg
      have e2 := hg n hn g (by omega) (by rw [e]; exact sg_nm1 p hp) (by rw [eq]; exact sg_nm1 q hq) hs
      exact sg_dd_b (Nat.le_refl _) hp e (sg_hc_pos hgn (e2.symm.trans e))
section
variable {f_paging f_guard f_root f_logged f_room f_oldest f_dirWord f_tableFrame f_tableWord f_target f_reached f_faultAddress f_faultCode f_accesses f_faults f_pc f_savedPc f_cause f_output f_outputs f_traps f_user f_savedUser f_stopped f_trapped f_any f_keptPaging f_keptGuard f_keptRoot : Int32} {a_page a_users a_held a_away a_roomRoot a_leadsTo a_rights a_table a_register a_ops a_first a_second a_numbers a_kept : Nat → Int32} {y_root y_keptRoot y_faultCode y_first y_second y_goal y_code y_behindTrap : Int32} {W G : Nat → Int32}
theorem xs_alike {post : Int32 → Prop} {p q : Nat} (hp : p < 16) (hq : q < 16) (h1 : (∀ w, w < 8 → a_page (8 * p + w) = a_page (8 * q + w)) → post 1) (h0 : ¬ (∀ w, w < 8 → a_page (8 * p + w) = a_page (8 * q + w)) → post 0) : wpX_alike post (f_paging, f_guard, f_root, f_logged, f_room, f_oldest, f_dirWord, f_tableFrame, f_tableWord, f_target, f_reached, f_faultAddress, f_faultCode, f_accesses, f_faults, f_pc, f_savedPc, f_cause, f_output, f_outputs, f_traps, f_user, f_savedUser, f_stopped, f_trapped, f_any, f_keptPaging, f_keptGuard, f_keptRoot, a_page, a_users, a_held, a_away, a_roomRoot, a_leadsTo, a_rights, a_table, a_register, a_ops, a_first, a_second, a_numbers, a_kept) (nI p) (nI q) := by
  have key : ∀ m i, i + m = 8 → (∀ w, w < i → a_page (8 * p + w) = a_page (8 * q + w)) → wX_alike_2 post (nI p) (nI q) f_paging f_guard f_root f_logged f_room f_oldest f_dirWord f_tableFrame f_tableWord f_target f_reached f_faultAddress f_faultCode f_accesses f_faults f_pc f_savedPc f_cause f_output f_outputs f_traps f_user f_savedUser f_stopped f_trapped f_any f_keptPaging f_keptGuard f_keptRoot a_page a_users a_held a_away a_roomRoot a_leadsTo a_rights a_table a_register a_ops a_first a_second a_numbers a_kept (m + 1) (nI i) := by
    intro m
    induction m with
    | zero =>
      intro i hi h
      have e : i = 8 := by omega
      subst e
      exact br_t (by decide) (h1 h)
    | succ m ih =>
      intro i hi h
      refine br_f (nI_ge (b := 8) (by omega) (by omega)) ?_
      rw [sg_ix8 p i, sg_ix8 q i, nI_clamp (show 8 * p + i < 2 ^ 31 by omega), nI_clamp (show 8 * q + i < 2 ^ 31 by omega)]
      refine ⟨vp_in_nI (by omega) (by omega), vp_in_nI (by omega) (by omega), ?_⟩
      by_cases e : a_page (8 * p + i) = a_page (8 * q + i)
      · exact br_t e (nm_r (nI_1 i) (ih (i + 1) (by omega) (fun w hw => by
          by_cases z : w = i
          · rw [z]; exact e
          · exact h w (by omega))))
      · exact br_f e (h0 (fun z => e (z i (by omega))))
  unfold wpX_alike
  exact ⟨9, key 8 0 (by omega) (fun w hw => by omega)⟩
theorem ys_same {post : Int32 → Prop} {p q : Nat} (hp : p < 16) (hq : q < 16) (h1 : sg_sm W p q → post 1) (h0 : ¬ sg_sm W p q → post 0) : wpY_same post (y_root, y_keptRoot, f_logged, f_accesses, f_faults, f_faultAddress, y_faultCode, f_guard, f_keptGuard, f_any, y_first, y_second, y_goal, y_code, f_pc, f_savedPc, f_cause, f_output, f_outputs, f_traps, f_user, f_savedUser, f_stopped, y_behindTrap, W, a_kept, G, a_register) (nI p) (nI q) := by
  have key : ∀ m i, i + m = 8 → (∀ w, w < i → W (8 * p + w) = W (8 * q + w)) → wY_same_2 post (nI p) (nI q) y_root y_keptRoot f_logged f_accesses f_faults f_faultAddress y_faultCode f_guard f_keptGuard f_any y_first y_second y_goal y_code f_pc f_savedPc f_cause f_output f_outputs f_traps f_user f_savedUser f_stopped y_behindTrap W a_kept G a_register (m + 1) (nI i) := by
    intro m
    induction m with
    | zero =>
      intro i hi h
      have e : i = 8 := by omega
      subst e
      exact br_t (by decide) (h1 h)
    | succ m ih =>
      intro i hi h
      refine br_f (nI_ge (b := 8) (by omega) (by omega)) ?_
      rw [sg_ix8 p i, sg_ix8 q i, nI_clamp (show 8 * p + i < 2 ^ 31 by omega), nI_clamp (show 8 * q + i < 2 ^ 31 by omega)]
      refine ⟨vp_in_nI (by omega) (by omega), vp_in_nI (by omega) (by omega), ?_⟩
      by_cases e : W (8 * p + i) = W (8 * q + i)
      · exact br_t e (nm_r (nI_1 i) (ih (i + 1) (by omega) (fun w hw => by
          by_cases z : w = i
          · rw [z]; exact e
          · exact h w (by omega))))
      · exact br_f e (h0 (fun z => e (z i (by omega))))
  unfold wpY_same
  exact ⟨9, key 8 0 (by omega) (fun w hw => by omega)⟩
theorem ys_mg15 {post : Int32 → Prop} {J4 : Int32 → Int32 → Prop} {f x : Nat} (hf : f < 16) (hy : G f = 0 → ¬ sg_AG W G f → J4 (nI (x + 1)) (nI (f + 1))) (hn : (¬ G f = 0 ∨ sg_AG W G f) → J4 (nI x) (nI (f + 1))) :
    ∀ (m g : Nat) (x3 : Int32), g + m = f → ((x3 = 0 ∧ ∀ j, j < g → ¬ (G j = 0 ∧ sg_sm W f j)) ∨ (x3 = 1 ∧ sg_AG W G f)) → wY_merge_15 post J4 (nI x) (nI f) y_root y_keptRoot f_logged f_accesses f_faults f_faultAddress y_faultCode f_guard f_keptGuard f_any y_first y_second y_goal y_code f_pc f_savedPc f_cause f_output f_outputs f_traps f_user f_savedUser f_stopped y_behindTrap W a_kept G a_register (m + 1) x3 (nI g) := by
  intro m
  induction m with
  | zero =>
    intro g x3 hg h
    have e : g = f := by omega
    subst e
    refine br_t (nI_le (Nat.le_refl _) (by omega)) ⟨vp_in_nI hf (by omega), ?_⟩
    rw [nI_clamp (show g < 2 ^ 31 by omega)]
    by_cases z : G g = 0
    · refine br_t z ?_
      rcases h with ⟨h1, h2⟩ | ⟨h1, h2⟩
      · exact br_t h1 (nm_r (nI_1 x) (nm_r (nI_1 g) (hy z (fun ⟨j, hj, k⟩ => h2 j hj k))))
      · exact br_f (by rw [h1]; decide) (nm_r (nI_1 g) (hn (Or.inr h2)))
    · exact br_f z (nm_r (nI_1 g) (hn (Or.inl z)))
  | succ m ih =>
    intro g x3 hg h
    refine br_f (nI_ge (by omega) (by omega)) ⟨vp_in_nI (by omega) (by omega), ?_⟩
    rw [nI_clamp (show g < 2 ^ 31 by omega)]
    have keep : (¬ (G g = 0 ∧ sg_sm W f g)) → ((x3 ||| 0 = 0 ∧ ∀ j, j < g + 1 → ¬ (G j = 0 ∧ sg_sm W f j)) ∨ (x3 ||| 0 = 1 ∧ sg_AG W G f)) := by
      intro k
      rcases h with ⟨h1, h2⟩ | ⟨h1, h2⟩
      · left
        refine ⟨by rw [h1]; decide, fun j hj => ?_⟩
        by_cases y : j = g
        · rw [y]; exact k
        · exact h2 j (by omega)
      · exact Or.inr ⟨by rw [h1]; decide, h2⟩
    by_cases z : G g = 0
    · refine br_t z (ys_same hf (by omega) (fun s => br_f (by decide) ?_) (fun s => br_t rfl ?_))
      · refine nm_e (nm_r (nI_1 g) (ih (g + 1) _ (by omega) (Or.inr ⟨?_, g, by omega, z, s⟩)))
        rcases h with ⟨h1, _⟩ | ⟨h1, _⟩ <;> rw [h1] <;> decide
      · exact nm_e (nm_r (nI_1 g) (ih (g + 1) _ (by omega) (keep (fun y => s y.2))))
    · exact br_f z (nm_e (nm_r (nI_1 g) (ih (g + 1) _ (by omega) (keep (fun y => z y.1)))))
theorem ys_merge {post : Int32 → Prop} {he pg us aw : Nat → Int32} (hM : sg_M pg us he aw W G) (hg : sg_mg W he 16) (h : post (nI (sg_dd he 16 16))) : wpY_merge post (y_root, y_keptRoot, f_logged, f_accesses, f_faults, f_faultAddress, y_faultCode, f_guard, f_keptGuard, f_any, y_first, y_second, y_goal, y_code, f_pc, f_savedPc, f_cause, f_output, f_outputs, f_traps, f_user, f_savedUser, f_stopped, y_behindTrap, W, a_kept, G, a_register) := by
  have key : ∀ m f, f + m = 16 → wY_merge_4 post y_root y_keptRoot f_logged f_accesses f_faults f_faultAddress y_faultCode f_guard f_keptGuard f_any y_first y_second y_goal y_code f_pc f_savedPc f_cause f_output f_outputs f_traps f_user f_savedUser f_stopped y_behindTrap W a_kept G a_register (m + 1) (nI (sg_dd he f 16)) (nI f) := by
    intro m
    induction m with
    | zero =>
      intro f hf
      have e : f = 16 := by omega
      subst e
      exact br_t (by decide) h
    | succ m ih =>
      intro f hf
      have k := ih (f + 1) (by omega)
      have s := sg_dd_s hM hg (show f < 16 by omega)
      refine br_f (nI_ge (b := 16) (by omega) (by omega)) ⟨f + 1, ys_mg15 (by omega) (fun a b => ?_) (fun a => ?_) f 0 0 (by omega) (Or.inl ⟨rfl, fun j hj => by omega⟩)⟩
      · rw [s.1 a b] at k
        exact k
      · rw [s.2 a] at k
        exact k
  unfold wpY_merge
  refine ⟨17, ?_⟩
  have k := key 16 0 (by omega)
  rw [sg_dd_0] at k
  exact k
theorem xs_mg127 {post : Int32 → SX → Prop} (hM : sg_M a_page a_users a_held a_away W G) (h : post (nI (sg_dd a_held 16 16)) (f_paging, f_guard, f_root, f_logged, f_room, f_oldest, f_dirWord, f_tableFrame, f_tableWord, f_target, f_reached, f_faultAddress, f_faultCode, f_accesses, f_faults, f_pc, f_savedPc, f_cause, f_output, f_outputs, f_traps, f_user, f_savedUser, f_stopped, f_trapped, f_any, f_keptPaging, f_keptGuard, f_keptRoot, a_page, a_users, a_held, a_away, a_roomRoot, a_leadsTo, a_rights, a_table, a_register, a_ops, a_first, a_second, a_numbers, a_kept)) : ∃ n, wX_merge_127 post f_paging f_guard f_root f_logged f_room f_oldest f_dirWord f_tableFrame f_tableWord f_target f_reached f_faultAddress f_faultCode f_accesses f_faults f_pc f_savedPc f_cause f_output f_outputs f_traps f_user f_savedUser f_stopped f_trapped f_any f_keptPaging f_keptGuard f_keptRoot a_page a_users a_held a_away a_roomRoot a_leadsTo a_rights a_table a_register a_ops a_first a_second a_numbers a_kept n 0 0 := by
  have key : ∀ m p, p + m = 16 → wX_merge_127 post f_paging f_guard f_root f_logged f_room f_oldest f_dirWord f_tableFrame f_tableWord f_target f_reached f_faultAddress f_faultCode f_accesses f_faults f_pc f_savedPc f_cause f_output f_outputs f_traps f_user f_savedUser f_stopped f_trapped f_any f_keptPaging f_keptGuard f_keptRoot a_page a_users a_held a_away a_roomRoot a_leadsTo a_rights a_table a_register a_ops a_first a_second a_numbers a_kept (m + 1) (nI (sg_dd a_held 16 p)) (nI p) := by
    intro m
    induction m with
    | zero =>
      intro p hp
      have e : p = 16 := by omega
      subst e
      exact br_t (by decide) h
    | succ m ih =>
      intro p hp
      have k := ih (p + 1) (by omega)
      unfold sg_dd at k
      have hle := sg_hc_le a_held (nI p) 16
      refine br_f (nI_ge (b := 16) (by omega) (by omega)) ⟨vp_in_nI (by omega) (by omega), ?_⟩
      rw [nI_clamp (show p < 2 ^ 31 by omega), hM.2.1 p (by omega)]
      by_cases z : sg_hc a_held (nI p) 16 = 0
      · rw [if_pos z] at k
        rw [z]
        exact br_t (by decide) (nm_r (nI_1 p) k)
      · rw [if_neg z] at k
        exact br_f (nI_nle (by omega) (by omega)) (nm_r (nI_1 _) (nm_r (nI_1 p) k))
  exact ⟨17, key 16 0 (by omega)⟩
theorem xs_mgC {post : Int32 → SX → Prop} {J2 : Int32 → (Nat → Int32) → (Nat → Int32) → (Nat → Int32) → (Nat → Int32) → (Nat → Int32) → (Nat → Int32) → (Nat → Int32) → (Nat → Int32) → (Nat → Int32) → (Nat → Int32) → (Nat → Int32) → (Nat → Int32) → (Nat → Int32) → (Nat → Int32) → Prop} {f n : Nat} {x3 : Int32} (h : J2 (nI (f + 1)) a_page a_users a_held a_away a_roomRoot a_leadsTo a_rights a_table a_register a_ops a_first a_second a_numbers a_kept) : wX_merge_25 post J2 (nI f) f_paging f_guard f_root f_logged f_room f_oldest f_dirWord f_tableFrame f_tableWord f_target f_reached f_faultAddress f_faultCode f_accesses f_faults f_pc f_savedPc f_cause f_output f_outputs f_traps f_user f_savedUser f_stopped f_trapped f_any f_keptPaging f_keptGuard f_keptRoot (n + 1) 0 x3 a_page a_users a_held a_away a_roomRoot a_leadsTo a_rights a_table a_register a_ops a_first a_second a_numbers a_kept :=
  br_c (fun _ => nm_r (nI_1 f) h) (fun _ => br_t rfl (nm_r (nI_1 f) h))
theorem xs_mg25 {f p : Nat} (hf : f < 16) (hp : p < 16) (hM : sg_M a_page a_users a_held a_away W G) (e : a_held f = nI p) : ∀ (m g : Nat), g + m = f → (∀ j, j < g → a_held j = -1 ∨ ¬ sg_sm W f j) →
    ∃ us he : Nat → Int32, sg_M a_page us he a_away W G ∧ (∀ j, j ≠ f → he j = a_held j) ∧ ((∃ j, j < f ∧ a_held j ≠ -1 ∧ he f = a_held j ∧ sg_sm W f j) ∨ (∀ j, j < f → a_held j = -1 ∨ ¬ sg_sm W f j)) ∧
      ∀ (post : Int32 → SX → Prop) (J2 : Int32 → (Nat → Int32) → (Nat → Int32) → (Nat → Int32) → (Nat → Int32) → (Nat → Int32) → (Nat → Int32) → (Nat → Int32) → (Nat → Int32) → (Nat → Int32) → (Nat → Int32) → (Nat → Int32) → (Nat → Int32) → (Nat → Int32) → (Nat → Int32) → Prop), J2 (nI (f + 1)) a_page us he a_away a_roomRoot a_leadsTo a_rights a_table a_register a_ops a_first a_second a_numbers a_kept → wX_merge_25 post J2 (nI f) f_paging f_guard f_root f_logged f_room f_oldest f_dirWord f_tableFrame f_tableWord f_target f_reached f_faultAddress f_faultCode f_accesses f_faults f_pc f_savedPc f_cause f_output f_outputs f_traps f_user f_savedUser f_stopped f_trapped f_any f_keptPaging f_keptGuard f_keptRoot (m + 2) 1 (nI g) a_page a_users a_held a_away a_roomRoot a_leadsTo a_rights a_table a_register a_ops a_first a_second a_numbers a_kept := by
  intro m
  induction m with
  | zero =>
    intro g hg h
    have eg : g = f := by omega
    subst eg
    refine ⟨a_users, a_held, hM, fun j _ => rfl, Or.inr h, fun post J2 k => ?_⟩
    exact br_t (nI_le (Nat.le_refl _) (by omega)) (nm_r (nI_1 g) k)
  | succ m ih =>
    intro g hg h
    have hg16 : g < 16 := by omega
    have c1 : ¬ nI f ≤ nI g := nI_ge (by omega) (by omega)
    have next : (a_held g = -1 ∨ ¬ sg_sm W f g) → ∀ j, j < g + 1 → a_held j = -1 ∨ ¬ sg_sm W f j := by
      intro z j hj
      by_cases y : j = g
      · rw [y]; exact z
      · exact h j (by omega)
    rcases hM.1 g hg16 with ⟨eg, _⟩ | ⟨gg, q, hq, eg⟩
    · obtain ⟨us, he, k1, k2, k3, k4⟩ := ih (g + 1) (by omega) (next (Or.inl eg))
      refine ⟨us, he, k1, k2, k3, fun post J2 k => ?_⟩
      refine br_f c1 (br_f (by decide) ⟨vp_in_nI hg16 (by omega), ?_⟩)
      rw [nI_clamp (show g < 2 ^ 31 by omega)]
      exact br_t (by rw [eg]; decide) (nm_r (nI_1 g) (k4 post J2 k))
    · by_cases s : sg_sm W f g
      · have hs : ∀ w, w < 8 → a_page (8 * p + w) = a_page (8 * q + w) := fun w hw => by
          rw [← (hM.2.2 f hf w hw).2 p hp e, ← (hM.2.2 g hg16 w hw).2 q hq eg]; exact s w hw
        have hle := sg_hc_le a_held (nI p) 16
        have hleq := sg_hc_le a_held (nI q) 16
        have hpos := sg_M_pos hM hf e
        obtain ⟨x, hx, ex, x1, x2⟩ : ∃ x, x ≤ 16 ∧ upd a_users p (nI (sg_hc a_held (nI p) 16 - 1)) q = nI x ∧ (p ≠ q → x = sg_hc a_held (nI q) 16) ∧ (p = q → x = sg_hc a_held (nI p) 16 - 1) := by
          by_cases y : p = q
          · exact ⟨sg_hc a_held (nI p) 16 - 1, by omega, by rw [← y, pk_us], fun z => absurd y z, fun _ => rfl⟩
          · exact ⟨sg_hc a_held (nI q) 16, hleq, by rw [pk_un (fun z => y z.symm), hM.2.1 q hq], fun _ => rfl, fun z => absurd z y⟩
        have hM' : sg_M a_page (upd (upd a_users p (nI (sg_hc a_held (nI p) 16 - 1))) q (nI (x + 1))) (upd a_held f (nI q)) a_away W G := by
          refine sg_M_merge hM hf hg16 hp hq e eg s (fun y => by rw [pk_us, x1 y]) (fun y => by rw [pk_un y, pk_us]) (fun y => ?_) (fun i _ a b => by rw [pk_un a, pk_un b])
          rw [← y, pk_us, x2 y, hM.2.1 p hp, show sg_hc a_held (nI p) 16 - 1 + 1 = sg_hc a_held (nI p) 16 by omega]
        refine ⟨_, _, hM', fun j hj => pk_un hj, Or.inl ⟨g, by omega, by rw [eg]; exact sg_nm1 q hq, by rw [pk_us, eg], s⟩, fun post J2 k => ?_⟩
        refine br_f c1 (br_f (by decide) ⟨vp_in_nI hg16 (by omega), ?_⟩)
        rw [nI_clamp (show g < 2 ^ 31 by omega)]
        refine br_f (by rw [eg]; exact nI_pos (by omega)) ⟨vp_in_nI hf (by omega), vp_in_nI hg16 (by omega), ?_⟩
        rw [nI_clamp (show f < 2 ^ 31 by omega), e, eg]
        refine xs_alike hp hq (fun _ => br_f (by decide) ?_) (fun z => absurd hs z)
        rw [nI_clamp (show p < 2 ^ 31 by omega), hM.2.1 p hp, sg_dec hpos hle, sg_by' q (by omega)]
        refine ⟨vp_in_nI hf (by omega), vp_in_nI hp (by omega), vp_in_nI hp (by omega), nm_e ⟨vp_in_nI hg16 (by omega), vp_in_nI hf (by omega), nm_e ?_⟩⟩
        rw [pk_us, nI_clamp (show q < 2 ^ 31 by omega), ex, sg_inc hx]
        exact ⟨vp_in_nI hf (by omega), vp_in_nI hq (by omega), vp_in_nI hq (by omega), nm_e (nm_e (xs_mgC k))⟩
      · have hs : ¬ ∀ w, w < 8 → a_page (8 * p + w) = a_page (8 * q + w) := fun z => s (fun w hw => by
          rw [(hM.2.2 f hf w hw).2 p hp e, (hM.2.2 g hg16 w hw).2 q hq eg]; exact z w hw)
        obtain ⟨us, he, k1, k2, k3, k4⟩ := ih (g + 1) (by omega) (next (Or.inr s))
        refine ⟨us, he, k1, k2, k3, fun post J2 k => ?_⟩
        refine br_f c1 (br_f (by decide) ⟨vp_in_nI hg16 (by omega), ?_⟩)
        rw [nI_clamp (show g < 2 ^ 31 by omega)]
        refine br_f (by rw [eg]; exact nI_pos (by omega)) ⟨vp_in_nI hf (by omega), vp_in_nI hg16 (by omega), ?_⟩
        rw [nI_clamp (show f < 2 ^ 31 by omega), e, eg]
        exact xs_alike hp hq (fun z => absurd z hs) (fun _ => br_t rfl (nm_r (nI_1 g) (k4 post J2 k)))
theorem xs_mg2 : ∀ (m f : Nat) (a_users a_held : Nat → Int32), f + m = 16 → sg_M a_page a_users a_held a_away W G → sg_mg W a_held f → ∃ us he : Nat → Int32, sg_M a_page us he a_away W G ∧ sg_mg W he 16 ∧
    ∀ post : Int32 → SX → Prop, (∃ n, wX_merge_127 post f_paging f_guard f_root f_logged f_room f_oldest f_dirWord f_tableFrame f_tableWord f_target f_reached f_faultAddress f_faultCode f_accesses f_faults f_pc f_savedPc f_cause f_output f_outputs f_traps f_user f_savedUser f_stopped f_trapped f_any f_keptPaging f_keptGuard f_keptRoot a_page us he a_away a_roomRoot a_leadsTo a_rights a_table a_register a_ops a_first a_second a_numbers a_kept n 0 0) → wX_merge_2 post f_paging f_guard f_root f_logged f_room f_oldest f_dirWord f_tableFrame f_tableWord f_target f_reached f_faultAddress f_faultCode f_accesses f_faults f_pc f_savedPc f_cause f_output f_outputs f_traps f_user f_savedUser f_stopped f_trapped f_any f_keptPaging f_keptGuard f_keptRoot (m + 1) (nI f) a_page a_users a_held a_away a_roomRoot a_leadsTo a_rights a_table a_register a_ops a_first a_second a_numbers a_kept := by
  intro m
  induction m with
  | zero =>
    intro f a_users a_held hf hM hg
    have e : f = 16 := by omega
    subst e
    exact ⟨a_users, a_held, hM, hg, fun post h => br_t (by decide) h⟩
  | succ m ih =>
    intro f a_users a_held hf hM hg
    have hf16 : f < 16 := by omega
    rcases hM.1 f hf16 with ⟨e, _⟩ | ⟨_, p, hp, e⟩
    · have hg' : sg_mg W a_held (f + 1) := by
        intro i hi j hj ni nj s
        have a : i ≠ f := fun z => ni (by rw [z]; exact e)
        have b : j ≠ f := fun z => nj (by rw [z]; exact e)
        exact hg i (by omega) j (by omega) ni nj s
      obtain ⟨us, he, k1, k2, k3⟩ := ih (f + 1) a_users a_held (by omega) hM hg'
      refine ⟨us, he, k1, k2, fun post h => ?_⟩
      refine br_f (nI_ge (b := 16) hf16 (by omega)) ⟨vp_in_nI hf16 (by omega), ?_⟩
      rw [nI_clamp (show f < 2 ^ 31 by omega)]
      exact br_t (by rw [e]; decide) ⟨1, xs_mgC (k3 post h)⟩
    · obtain ⟨us1, he1, j1, j2, j3, j4⟩ := xs_mg25 (f_paging := f_paging) (f_guard := f_guard) (f_root := f_root) (f_logged := f_logged) (f_room := f_room) (f_oldest := f_oldest) (f_dirWord := f_dirWord) (f_tableFrame := f_tableFrame) (f_tableWord := f_tableWord) (f_target := f_target) (f_reached := f_reached) (f_faultAddress := f_faultAddress) (f_faultCode := f_faultCode) (f_accesses := f_accesses) (f_faults := f_faults) (f_pc := f_pc) (f_savedPc := f_savedPc) (f_cause := f_cause) (f_output := f_output) (f_outputs := f_outputs) (f_traps := f_traps) (f_user := f_user) (f_savedUser := f_savedUser) (f_stopped := f_stopped) (f_trapped := f_trapped) (f_any := f_any) (f_keptPaging := f_keptPaging) (f_keptGuard := f_keptGuard) (f_keptRoot := f_keptRoot) (a_page := a_page) (a_users := a_users) (a_held := a_held) (a_away := a_away) (a_roomRoot := a_roomRoot) (a_leadsTo := a_leadsTo) (a_rights := a_rights) (a_table := a_table) (a_register := a_register) (a_ops := a_ops) (a_first := a_first) (a_second := a_second) (a_numbers := a_numbers) (a_kept := a_kept) hf16 hp hM e f 0 (by omega) (fun j hj => by omega)
      have hg' : sg_mg W he1 (f + 1) := by
        have one : ∀ j, j < f → he1 f ≠ -1 → he1 j ≠ -1 → sg_sm W f j → he1 f = he1 j := by
          intro j hj _ nj s
          rw [j2 j (by omega)] at nj ⊢
          rcases j3 with ⟨g, hgf, ng, eg, sg⟩ | z
          · rw [eg]
            exact hg g hgf j hj ng nj (fun w hw => (sg w hw).symm.trans (s w hw))
          · rcases z j hj with y | y
            · exact absurd y nj
            · exact absurd s y
        intro i hi j hj ni nj s
        by_cases a : i = f
        · by_cases b : j = f
          · rw [a, b]
          · rw [a] at ni s ⊢
            exact one j (by omega) ni nj s
        · by_cases b : j = f
          · rw [b] at nj s ⊢
            exact (one i (by omega) nj ni (fun w hw => (s w hw).symm)).symm
          · rw [j2 i a] at ni ⊢
            rw [j2 j b] at nj ⊢
            exact hg i (by omega) j (by omega) ni nj s
      obtain ⟨us, he, k1, k2, k3⟩ := ih (f + 1) us1 he1 (by omega) j1 hg'
      refine ⟨us, he, k1, k2, fun post h => ?_⟩
      refine br_f (nI_ge (b := 16) hf16 (by omega)) ⟨vp_in_nI hf16 (by omega), ?_⟩
      rw [nI_clamp (show f < 2 ^ 31 by omega)]
      exact br_f (by rw [e]; exact nI_pos (by omega)) ⟨f + 2, j4 post _ (k3 post h)⟩
end
theorem i_vc_merge {k : Nat} {u : SX} {v : SY} (I : i_Rel k u v) (hk : k + 5 ≤ 2560) : wpX_merge (fun r u' => wpY_merge (fun r' => r' = r ∧ i_Rel (k + 5) u' v) v) u := by
  refine sg_el (P := fun u v => wpX_merge (fun r u' => wpY_merge (fun r' => r' = r ∧ i_Rel (k + 5) u' v) v) u) ?_ I
  intro f_paging f_guard f_root f_logged f_room f_oldest f_dirWord f_tableFrame f_tableWord f_target f_reached f_faultAddress f_faultCode f_accesses f_faults f_pc f_savedPc f_cause f_output f_outputs f_traps f_user f_savedUser f_stopped f_trapped f_any f_keptPaging f_keptGuard f_keptRoot y_root y_keptRoot y_faultCode y_first y_second y_goal y_code y_behindTrap a_page a_users a_held a_away a_roomRoot a_leadsTo a_rights a_table a_register a_ops a_first a_second a_numbers a_kept W G hI
  obtain ⟨hS, hR⟩ := id hI
  obtain ⟨us, he, k1, k2, k3⟩ := xs_mg2 (f_paging := f_paging) (f_guard := f_guard) (f_root := f_root) (f_logged := f_logged) (f_room := f_room) (f_oldest := f_oldest) (f_dirWord := f_dirWord) (f_tableFrame := f_tableFrame) (f_tableWord := f_tableWord) (f_target := f_target) (f_reached := f_reached) (f_faultAddress := f_faultAddress) (f_faultCode := f_faultCode) (f_accesses := f_accesses) (f_faults := f_faults) (f_pc := f_pc) (f_savedPc := f_savedPc) (f_cause := f_cause) (f_output := f_output) (f_outputs := f_outputs) (f_traps := f_traps) (f_user := f_user) (f_savedUser := f_savedUser) (f_stopped := f_stopped) (f_trapped := f_trapped) (f_any := f_any) (f_keptPaging := f_keptPaging) (f_keptGuard := f_keptGuard) (f_keptRoot := f_keptRoot) (a_page := a_page) (a_away := a_away) (a_roomRoot := a_roomRoot) (a_leadsTo := a_leadsTo) (a_rights := a_rights) (a_table := a_table) (a_register := a_register) (a_ops := a_ops) (a_first := a_first) (a_second := a_second) (a_numbers := a_numbers) (a_kept := a_kept) 16 0 a_users a_held (by omega) hS.1 (fun i hi => by omega)
  unfold wpX_merge
  refine ⟨17, k3 _ (xs_mg127 k1 ?_)⟩
  refine ys_merge k1 k2 ?_
  exact ⟨rfl, sg_mk ⟨⟨k1, hS.2⟩, hR⟩⟩
end
section
/-! one instruction -/
def sg_SO (wx : (SX → Prop) → Prop) (wy : (SY → Prop) → Prop) : Prop := ∃ (u' : SX) (v' : SY), i_Rel 0 u' v' ∧ (∀ post, post u' → wx post) ∧ (∀ post, post v' → wy post)
section
variable {f_paging f_guard f_root f_logged f_room f_oldest f_dirWord f_tableFrame f_tableWord f_target f_reached f_faultAddress f_faultCode f_accesses f_faults f_pc f_savedPc f_cause f_output f_outputs f_traps f_user f_savedUser f_stopped f_trapped f_any f_keptPaging f_keptGuard f_keptRoot : Int32} {a_page a_users a_held a_away a_roomRoot a_leadsTo a_rights a_table a_register a_ops a_first a_second a_numbers a_kept : Nat → Int32} {y_root y_keptRoot y_faultCode y_first y_second y_goal y_code y_behindTrap : Int32} {W G : Nat → Int32}
theorem xs_trap {post : SX → Prop} {p0 p1 : Int32} (hu : f_user = 0 ∨ f_user = 1) (h : post (f_paging, f_guard, f_root, f_logged, f_room, f_oldest, f_dirWord, f_tableFrame, f_tableWord, f_target, f_reached, f_faultAddress, f_faultCode, f_accesses, f_faults, 8, p1, p0, f_output, f_outputs, f_traps + 1, 0, f_user, f_stopped, 1, f_any, f_keptPaging, f_keptGuard, f_keptRoot, a_page, a_users, a_held, a_away, a_roomRoot, a_leadsTo, a_rights, a_table, a_register, a_ops, a_first, a_second, a_numbers, a_kept)) : wpX_trap post (f_paging, f_guard, f_root, f_logged, f_room, f_oldest, f_dirWord, f_tableFrame, f_tableWord, f_target, f_reached, f_faultAddress, f_faultCode, f_accesses, f_faults, f_pc, f_savedPc, f_cause, f_output, f_outputs, f_traps, f_user, f_savedUser, f_stopped, f_trapped, f_any, f_keptPaging, f_keptGuard, f_keptRoot, a_page, a_users, a_held, a_away, a_roomRoot, a_leadsTo, a_rights, a_table, a_register, a_ops, a_first, a_second, a_numbers, a_kept) p0 p1 := by
  unfold wpX_trap
  exact ⟨sg_nar hu, sg_fit hu, nm_e h⟩
theorem ys_trap {post : SY → Prop} {p0 p1 : Int32} (hu : f_user = 0 ∨ f_user = 1) (h : post (y_root, y_keptRoot, f_logged, f_accesses, f_faults, f_faultAddress, y_faultCode, f_guard, f_keptGuard, f_any, y_first, y_second, y_goal, y_code, 8, p1, p0, f_output, f_outputs, f_traps + 1, 0, f_user, f_stopped, 1, W, a_kept, G, a_register)) : wpY_trap post (y_root, y_keptRoot, f_logged, f_accesses, f_faults, f_faultAddress, y_faultCode, f_guard, f_keptGuard, f_any, y_first, y_second, y_goal, y_code, f_pc, f_savedPc, f_cause, f_output, f_outputs, f_traps, f_user, f_savedUser, f_stopped, y_behindTrap, W, a_kept, G, a_register) p0 p1 := by
  unfold wpY_trap
  exact ⟨sg_nar hu, sg_fit hu, nm_e h⟩
theorem sg_so_trap {p0 p1 : Int32} (hS : sg_S a_page a_users a_held a_away a_roomRoot a_leadsTo a_rights a_table a_ops a_first a_second a_numbers f_guard W G) (hP : sg_P f_paging f_root f_room a_roomRoot y_root) (hF : sg_Fa f_faultAddress f_faultCode y_faultCode) (ho : ∃ o, o < 3 ∧ f_oldest = nI o) (hg : f_guard = 0 ∨ f_guard = 1) (hu : f_user = 0 ∨ f_user = 1) (hs : f_savedUser = 0 ∨ f_savedUser = 1) (hK : sg_K f_any f_keptPaging f_keptGuard f_keptRoot y_keptRoot) : sg_SO (fun post => wpX_trap post (f_paging, f_guard, f_root, f_logged, f_room, f_oldest, f_dirWord, f_tableFrame, f_tableWord, f_target, f_reached, f_faultAddress, f_faultCode, f_accesses, f_faults, f_pc, f_savedPc, f_cause, f_output, f_outputs, f_traps, f_user, f_savedUser, f_stopped, f_trapped, f_any, f_keptPaging, f_keptGuard, f_keptRoot, a_page, a_users, a_held, a_away, a_roomRoot, a_leadsTo, a_rights, a_table, a_register, a_ops, a_first, a_second, a_numbers, a_kept) p0 p1) (fun post => wpY_trap post (y_root, y_keptRoot, f_logged, f_accesses, f_faults, f_faultAddress, y_faultCode, f_guard, f_keptGuard, f_any, y_first, y_second, y_goal, y_code, f_pc, f_savedPc, f_cause, f_output, f_outputs, f_traps, f_user, f_savedUser, f_stopped, y_behindTrap, W, a_kept, G, a_register) p0 p1) :=
  ⟨_, _, sg_mk (f_paging := f_paging) (f_guard := f_guard) (f_root := f_root) (f_logged := f_logged) (f_room := f_room) (f_oldest := f_oldest) (f_dirWord := f_dirWord) (f_tableFrame := f_tableFrame) (f_tableWord := f_tableWord) (f_target := f_target) (f_reached := f_reached) (f_faultAddress := f_faultAddress) (f_faultCode := f_faultCode) (f_accesses := f_accesses) (f_faults := f_faults) (f_pc := 8) (f_savedPc := p1) (f_cause := p0) (f_output := f_output) (f_outputs := f_outputs) (f_traps := f_traps + 1) (f_user := 0) (f_savedUser := f_user) (f_stopped := f_stopped) (f_trapped := 1) (f_any := f_any) (f_keptPaging := f_keptPaging) (f_keptGuard := f_keptGuard) (f_keptRoot := f_keptRoot) (y_root := y_root) (y_keptRoot := y_keptRoot) (y_faultCode := y_faultCode) (y_first := y_first) (y_second := y_second) (y_goal := y_goal) (y_code := y_code) (y_behindTrap := 1) (a_page := a_page) (a_users := a_users) (a_held := a_held) (a_away := a_away) (a_roomRoot := a_roomRoot) (a_leadsTo := a_leadsTo) (a_rights := a_rights) (a_table := a_table) (a_register := a_register) (a_ops := a_ops) (a_first := a_first) (a_second := a_second) (a_numbers := a_numbers) (a_kept := a_kept) (W := W) (G := G) ⟨hS, hP, hF, ho, hg, Or.inl rfl, hu, fun _ => rfl, hK⟩, fun post h => xs_trap hu h, fun post h => ys_trap hu h⟩
theorem sg_so_p0 {r s n : Nat} (hr : r < 4) (hs4 : s < 4) (hS : sg_S a_page a_users a_held a_away a_roomRoot a_leadsTo a_rights a_table a_ops a_first a_second a_numbers f_guard W G) (hP : sg_P f_paging f_root f_room a_roomRoot y_root) (hF : sg_Fa f_faultAddress f_faultCode y_faultCode) (ho : ∃ o, o < 3 ∧ f_oldest = nI o) (hg : f_guard = 0 ∨ f_guard = 1) (hu : f_user = 0 ∨ f_user = 1) (hs : f_savedUser = 0 ∨ f_savedUser = 1) (hK : sg_K f_any f_keptPaging f_keptGuard f_keptRoot y_keptRoot) : sg_SO (fun post => wpX_plain post (f_paging, f_guard, f_root, f_logged, f_room, f_oldest, f_dirWord, f_tableFrame, f_tableWord, f_target, f_reached, f_faultAddress, f_faultCode, f_accesses, f_faults, f_pc, f_savedPc, f_cause, f_output, f_outputs, f_traps, f_user, f_savedUser, f_stopped, 0, f_any, f_keptPaging, f_keptGuard, f_keptRoot, a_page, a_users, a_held, a_away, a_roomRoot, a_leadsTo, a_rights, a_table, a_register, a_ops, a_first, a_second, a_numbers, a_kept) (nI 0) (nI r) (nI s) (nI n)) (fun post => wpY_plain post (y_root, y_keptRoot, f_logged, f_accesses, f_faults, f_faultAddress, y_faultCode, f_guard, f_keptGuard, f_any, y_first, y_second, y_goal, y_code, f_pc, f_savedPc, f_cause, f_output, f_outputs, f_traps, f_user, f_savedUser, f_stopped, 0, W, a_kept, G, a_register) (nI 0) (nI r) (nI s) (nI n)) := by
  have cr : (nI r).toNatClampNeg = r := nI_clamp (by omega)
  have cs : (nI s).toNatClampNeg = s := nI_clamp (by omega)
  refine ⟨(f_paging, f_guard, f_root, f_logged, f_room, f_oldest, f_dirWord, f_tableFrame, f_tableWord, f_target, f_reached, f_faultAddress, f_faultCode, f_accesses, f_faults, f_pc + 1, f_savedPc, f_cause, f_output, f_outputs, f_traps, f_user, f_savedUser, 1, 0, f_any, f_keptPaging, f_keptGuard, f_keptRoot, a_page, a_users, a_held, a_away, a_roomRoot, a_leadsTo, a_rights, a_table, a_register, a_ops, a_first, a_second, a_numbers, a_kept), (y_root, y_keptRoot, f_logged, f_accesses, f_faults, f_faultAddress, y_faultCode, f_guard, f_keptGuard, f_any, y_first, y_second, y_goal, y_code, f_pc + 1, f_savedPc, f_cause, f_output, f_outputs, f_traps, f_user, f_savedUser, 1, 0, W, a_kept, G, a_register), sg_mk ⟨hS, hP, hF, ho, hg, hu, hs, fun _ => rfl, hK⟩, fun post h => ?_, fun post h => ?_⟩
  · unfold wpX_plain
    skip
    skip
    exact nm_e (br_f (by decide) (br_f (by decide) (br_t rfl (h))))
  · unfold wpY_plain
    skip
    exact nm_e (br_f (by decide) (br_f (by decide) (br_t rfl (h))))
theorem sg_so_p1 {r s n : Nat} (hr : r < 4) (hs4 : s < 4) (hS : sg_S a_page a_users a_held a_away a_roomRoot a_leadsTo a_rights a_table a_ops a_first a_second a_numbers f_guard W G) (hP : sg_P f_paging f_root f_room a_roomRoot y_root) (hF : sg_Fa f_faultAddress f_faultCode y_faultCode) (ho : ∃ o, o < 3 ∧ f_oldest = nI o) (hg : f_guard = 0 ∨ f_guard = 1) (hu : f_user = 0 ∨ f_user = 1) (hs : f_savedUser = 0 ∨ f_savedUser = 1) (hK : sg_K f_any f_keptPaging f_keptGuard f_keptRoot y_keptRoot) : sg_SO (fun post => wpX_plain post (f_paging, f_guard, f_root, f_logged, f_room, f_oldest, f_dirWord, f_tableFrame, f_tableWord, f_target, f_reached, f_faultAddress, f_faultCode, f_accesses, f_faults, f_pc, f_savedPc, f_cause, f_output, f_outputs, f_traps, f_user, f_savedUser, f_stopped, 0, f_any, f_keptPaging, f_keptGuard, f_keptRoot, a_page, a_users, a_held, a_away, a_roomRoot, a_leadsTo, a_rights, a_table, a_register, a_ops, a_first, a_second, a_numbers, a_kept) (nI 1) (nI r) (nI s) (nI n)) (fun post => wpY_plain post (y_root, y_keptRoot, f_logged, f_accesses, f_faults, f_faultAddress, y_faultCode, f_guard, f_keptGuard, f_any, y_first, y_second, y_goal, y_code, f_pc, f_savedPc, f_cause, f_output, f_outputs, f_traps, f_user, f_savedUser, f_stopped, 0, W, a_kept, G, a_register) (nI 1) (nI r) (nI s) (nI n)) := by
  have cr : (nI r).toNatClampNeg = r := nI_clamp (by omega)
  have cs : (nI s).toNatClampNeg = s := nI_clamp (by omega)
  by_cases z : nI n ≤ 255
  · refine ⟨(f_paging, f_guard, f_root, f_logged, f_room, f_oldest, f_dirWord, f_tableFrame, f_tableWord, f_target, f_reached, f_faultAddress, f_faultCode, f_accesses, f_faults, f_pc + 1, f_savedPc, f_cause, f_output, f_outputs, f_traps, f_user, f_savedUser, f_stopped, 0, f_any, f_keptPaging, f_keptGuard, f_keptRoot, a_page, a_users, a_held, a_away, a_roomRoot, a_leadsTo, a_rights, a_table, upd a_register r (nI n), a_ops, a_first, a_second, a_numbers, a_kept), (y_root, y_keptRoot, f_logged, f_accesses, f_faults, f_faultAddress, y_faultCode, f_guard, f_keptGuard, f_any, y_first, y_second, y_goal, y_code, f_pc + 1, f_savedPc, f_cause, f_output, f_outputs, f_traps, f_user, f_savedUser, f_stopped, 0, W, a_kept, G, upd a_register r (nI n)), sg_mk ⟨hS, hP, hF, ho, hg, hu, hs, fun _ => rfl, hK⟩, fun post h => ?_, fun post h => ?_⟩
    · unfold wpX_plain
      skip
      simp only [cr]
      exact nm_e (br_f (by decide) (br_f (by decide) (br_f (by decide) (br_t rfl (br_t z ⟨vp_in_nI hr (by omega), nm_e h⟩)))))
    · unfold wpY_plain
      simp only [cr]
      exact nm_e (br_f (by decide) (br_f (by decide) (br_f (by decide) (br_t rfl (br_t z ⟨vp_in_nI hr (by omega), nm_e h⟩)))))
  · refine ⟨(f_paging, f_guard, f_root, f_logged, f_room, f_oldest, f_dirWord, f_tableFrame, f_tableWord, f_target, f_reached, f_faultAddress, f_faultCode, f_accesses, f_faults, f_pc + 1, f_savedPc, f_cause, f_output, f_outputs, f_traps, f_user, f_savedUser, f_stopped, 0, f_any, f_keptPaging, f_keptGuard, f_keptRoot, a_page, a_users, a_held, a_away, a_roomRoot, a_leadsTo, a_rights, a_table, upd a_register r (nI n - 512), a_ops, a_first, a_second, a_numbers, a_kept), (y_root, y_keptRoot, f_logged, f_accesses, f_faults, f_faultAddress, y_faultCode, f_guard, f_keptGuard, f_any, y_first, y_second, y_goal, y_code, f_pc + 1, f_savedPc, f_cause, f_output, f_outputs, f_traps, f_user, f_savedUser, f_stopped, 0, W, a_kept, G, upd a_register r (nI n - 512)), sg_mk ⟨hS, hP, hF, ho, hg, hu, hs, fun _ => rfl, hK⟩, fun post h => ?_, fun post h => ?_⟩
    · unfold wpX_plain
      skip
      simp only [cr]
      exact nm_e (br_f (by decide) (br_f (by decide) (br_f (by decide) (br_t rfl (br_f z ⟨vp_in_nI hr (by omega), nm_e h⟩)))))
    · unfold wpY_plain
      simp only [cr]
      exact nm_e (br_f (by decide) (br_f (by decide) (br_f (by decide) (br_t rfl (br_f z ⟨vp_in_nI hr (by omega), nm_e h⟩)))))
theorem sg_so_p2 {r s n : Nat} (hr : r < 4) (hs4 : s < 4) (hS : sg_S a_page a_users a_held a_away a_roomRoot a_leadsTo a_rights a_table a_ops a_first a_second a_numbers f_guard W G) (hP : sg_P f_paging f_root f_room a_roomRoot y_root) (hF : sg_Fa f_faultAddress f_faultCode y_faultCode) (ho : ∃ o, o < 3 ∧ f_oldest = nI o) (hg : f_guard = 0 ∨ f_guard = 1) (hu : f_user = 0 ∨ f_user = 1) (hs : f_savedUser = 0 ∨ f_savedUser = 1) (hK : sg_K f_any f_keptPaging f_keptGuard f_keptRoot y_keptRoot) : sg_SO (fun post => wpX_plain post (f_paging, f_guard, f_root, f_logged, f_room, f_oldest, f_dirWord, f_tableFrame, f_tableWord, f_target, f_reached, f_faultAddress, f_faultCode, f_accesses, f_faults, f_pc, f_savedPc, f_cause, f_output, f_outputs, f_traps, f_user, f_savedUser, f_stopped, 0, f_any, f_keptPaging, f_keptGuard, f_keptRoot, a_page, a_users, a_held, a_away, a_roomRoot, a_leadsTo, a_rights, a_table, a_register, a_ops, a_first, a_second, a_numbers, a_kept) (nI 2) (nI r) (nI s) (nI n)) (fun post => wpY_plain post (y_root, y_keptRoot, f_logged, f_accesses, f_faults, f_faultAddress, y_faultCode, f_guard, f_keptGuard, f_any, y_first, y_second, y_goal, y_code, f_pc, f_savedPc, f_cause, f_output, f_outputs, f_traps, f_user, f_savedUser, f_stopped, 0, W, a_kept, G, a_register) (nI 2) (nI r) (nI s) (nI n)) := by
  have cr : (nI r).toNatClampNeg = r := nI_clamp (by omega)
  have cs : (nI s).toNatClampNeg = s := nI_clamp (by omega)
  refine ⟨(f_paging, f_guard, f_root, f_logged, f_room, f_oldest, f_dirWord, f_tableFrame, f_tableWord, f_target, f_reached, f_faultAddress, f_faultCode, f_accesses, f_faults, f_pc + 1, f_savedPc, f_cause, f_output, f_outputs, f_traps, f_user, f_savedUser, f_stopped, 0, f_any, f_keptPaging, f_keptGuard, f_keptRoot, a_page, a_users, a_held, a_away, a_roomRoot, a_leadsTo, a_rights, a_table, upd a_register r (a_register s), a_ops, a_first, a_second, a_numbers, a_kept), (y_root, y_keptRoot, f_logged, f_accesses, f_faults, f_faultAddress, y_faultCode, f_guard, f_keptGuard, f_any, y_first, y_second, y_goal, y_code, f_pc + 1, f_savedPc, f_cause, f_output, f_outputs, f_traps, f_user, f_savedUser, f_stopped, 0, W, a_kept, G, upd a_register r (a_register s)), sg_mk ⟨hS, hP, hF, ho, hg, hu, hs, fun _ => rfl, hK⟩, fun post h => ?_, fun post h => ?_⟩
  · unfold wpX_plain
    skip
    simp only [cr, cs]
    exact nm_e (br_f (by decide) (br_f (by decide) (br_f (by decide) (br_f (by decide) (br_t rfl (⟨vp_in_nI hs4 (by omega), vp_in_nI hr (by omega), nm_e h⟩))))))
  · unfold wpY_plain
    simp only [cr, cs]
    exact nm_e (br_f (by decide) (br_f (by decide) (br_f (by decide) (br_f (by decide) (br_t rfl (⟨vp_in_nI hs4 (by omega), vp_in_nI hr (by omega), nm_e h⟩))))))
theorem sg_so_p3 {r s n : Nat} (hr : r < 4) (hs4 : s < 4) (hS : sg_S a_page a_users a_held a_away a_roomRoot a_leadsTo a_rights a_table a_ops a_first a_second a_numbers f_guard W G) (hP : sg_P f_paging f_root f_room a_roomRoot y_root) (hF : sg_Fa f_faultAddress f_faultCode y_faultCode) (ho : ∃ o, o < 3 ∧ f_oldest = nI o) (hg : f_guard = 0 ∨ f_guard = 1) (hu : f_user = 0 ∨ f_user = 1) (hs : f_savedUser = 0 ∨ f_savedUser = 1) (hK : sg_K f_any f_keptPaging f_keptGuard f_keptRoot y_keptRoot) : sg_SO (fun post => wpX_plain post (f_paging, f_guard, f_root, f_logged, f_room, f_oldest, f_dirWord, f_tableFrame, f_tableWord, f_target, f_reached, f_faultAddress, f_faultCode, f_accesses, f_faults, f_pc, f_savedPc, f_cause, f_output, f_outputs, f_traps, f_user, f_savedUser, f_stopped, 0, f_any, f_keptPaging, f_keptGuard, f_keptRoot, a_page, a_users, a_held, a_away, a_roomRoot, a_leadsTo, a_rights, a_table, a_register, a_ops, a_first, a_second, a_numbers, a_kept) (nI 3) (nI r) (nI s) (nI n)) (fun post => wpY_plain post (y_root, y_keptRoot, f_logged, f_accesses, f_faults, f_faultAddress, y_faultCode, f_guard, f_keptGuard, f_any, y_first, y_second, y_goal, y_code, f_pc, f_savedPc, f_cause, f_output, f_outputs, f_traps, f_user, f_savedUser, f_stopped, 0, W, a_kept, G, a_register) (nI 3) (nI r) (nI s) (nI n)) := by
  have cr : (nI r).toNatClampNeg = r := nI_clamp (by omega)
  have cs : (nI s).toNatClampNeg = s := nI_clamp (by omega)
  refine ⟨(f_paging, f_guard, f_root, f_logged, f_room, f_oldest, f_dirWord, f_tableFrame, f_tableWord, f_target, f_reached, f_faultAddress, f_faultCode, f_accesses, f_faults, f_pc + 1, f_savedPc, f_cause, f_output, f_outputs, f_traps, f_user, f_savedUser, f_stopped, 0, f_any, f_keptPaging, f_keptGuard, f_keptRoot, a_page, a_users, a_held, a_away, a_roomRoot, a_leadsTo, a_rights, a_table, upd a_register r (a_register r + a_register s), a_ops, a_first, a_second, a_numbers, a_kept), (y_root, y_keptRoot, f_logged, f_accesses, f_faults, f_faultAddress, y_faultCode, f_guard, f_keptGuard, f_any, y_first, y_second, y_goal, y_code, f_pc + 1, f_savedPc, f_cause, f_output, f_outputs, f_traps, f_user, f_savedUser, f_stopped, 0, W, a_kept, G, upd a_register r (a_register r + a_register s)), sg_mk ⟨hS, hP, hF, ho, hg, hu, hs, fun _ => rfl, hK⟩, fun post h => ?_, fun post h => ?_⟩
  · unfold wpX_plain
    skip
    simp only [cr, cs]
    exact nm_e (br_f (by decide) (br_f (by decide) (br_f (by decide) (br_f (by decide) (br_f (by decide) (br_t rfl (⟨vp_in_nI hr (by omega), vp_in_nI hs4 (by omega), vp_in_nI hr (by omega), nm_e h⟩)))))))
  · unfold wpY_plain
    simp only [cr, cs]
    exact nm_e (br_f (by decide) (br_f (by decide) (br_f (by decide) (br_f (by decide) (br_f (by decide) (br_t rfl (⟨vp_in_nI hr (by omega), vp_in_nI hs4 (by omega), vp_in_nI hr (by omega), nm_e h⟩)))))))
theorem sg_so_p4 {r s n : Nat} (hr : r < 4) (hs4 : s < 4) (hS : sg_S a_page a_users a_held a_away a_roomRoot a_leadsTo a_rights a_table a_ops a_first a_second a_numbers f_guard W G) (hP : sg_P f_paging f_root f_room a_roomRoot y_root) (hF : sg_Fa f_faultAddress f_faultCode y_faultCode) (ho : ∃ o, o < 3 ∧ f_oldest = nI o) (hg : f_guard = 0 ∨ f_guard = 1) (hu : f_user = 0 ∨ f_user = 1) (hs : f_savedUser = 0 ∨ f_savedUser = 1) (hK : sg_K f_any f_keptPaging f_keptGuard f_keptRoot y_keptRoot) : sg_SO (fun post => wpX_plain post (f_paging, f_guard, f_root, f_logged, f_room, f_oldest, f_dirWord, f_tableFrame, f_tableWord, f_target, f_reached, f_faultAddress, f_faultCode, f_accesses, f_faults, f_pc, f_savedPc, f_cause, f_output, f_outputs, f_traps, f_user, f_savedUser, f_stopped, 0, f_any, f_keptPaging, f_keptGuard, f_keptRoot, a_page, a_users, a_held, a_away, a_roomRoot, a_leadsTo, a_rights, a_table, a_register, a_ops, a_first, a_second, a_numbers, a_kept) (nI 4) (nI r) (nI s) (nI n)) (fun post => wpY_plain post (y_root, y_keptRoot, f_logged, f_accesses, f_faults, f_faultAddress, y_faultCode, f_guard, f_keptGuard, f_any, y_first, y_second, y_goal, y_code, f_pc, f_savedPc, f_cause, f_output, f_outputs, f_traps, f_user, f_savedUser, f_stopped, 0, W, a_kept, G, a_register) (nI 4) (nI r) (nI s) (nI n)) := by
  have cr : (nI r).toNatClampNeg = r := nI_clamp (by omega)
  have cs : (nI s).toNatClampNeg = s := nI_clamp (by omega)
  refine ⟨(f_paging, f_guard, f_root, f_logged, f_room, f_oldest, f_dirWord, f_tableFrame, f_tableWord, f_target, f_reached, f_faultAddress, f_faultCode, f_accesses, f_faults, f_pc + 1, f_savedPc, f_cause, f_output, f_outputs, f_traps, f_user, f_savedUser, f_stopped, 0, f_any, f_keptPaging, f_keptGuard, f_keptRoot, a_page, a_users, a_held, a_away, a_roomRoot, a_leadsTo, a_rights, a_table, upd a_register r (a_register r - a_register s), a_ops, a_first, a_second, a_numbers, a_kept), (y_root, y_keptRoot, f_logged, f_accesses, f_faults, f_faultAddress, y_faultCode, f_guard, f_keptGuard, f_any, y_first, y_second, y_goal, y_code, f_pc + 1, f_savedPc, f_cause, f_output, f_outputs, f_traps, f_user, f_savedUser, f_stopped, 0, W, a_kept, G, upd a_register r (a_register r - a_register s)), sg_mk ⟨hS, hP, hF, ho, hg, hu, hs, fun _ => rfl, hK⟩, fun post h => ?_, fun post h => ?_⟩
  · unfold wpX_plain
    skip
    simp only [cr, cs]
    exact nm_e (br_f (by decide) (br_f (by decide) (br_f (by decide) (br_f (by decide) (br_f (by decide) (br_f (by decide) (br_t rfl (⟨vp_in_nI hr (by omega), vp_in_nI hs4 (by omega), vp_in_nI hr (by omega), nm_e h⟩))))))))
  · unfold wpY_plain
    simp only [cr, cs]
    exact nm_e (br_f (by decide) (br_f (by decide) (br_f (by decide) (br_f (by decide) (br_f (by decide) (br_f (by decide) (br_t rfl (⟨vp_in_nI hr (by omega), vp_in_nI hs4 (by omega), vp_in_nI hr (by omega), nm_e h⟩))))))))
theorem sg_so_p7 {r s n : Nat} (hr : r < 4) (hs4 : s < 4) (hS : sg_S a_page a_users a_held a_away a_roomRoot a_leadsTo a_rights a_table a_ops a_first a_second a_numbers f_guard W G) (hP : sg_P f_paging f_root f_room a_roomRoot y_root) (hF : sg_Fa f_faultAddress f_faultCode y_faultCode) (ho : ∃ o, o < 3 ∧ f_oldest = nI o) (hg : f_guard = 0 ∨ f_guard = 1) (hu : f_user = 0 ∨ f_user = 1) (hs : f_savedUser = 0 ∨ f_savedUser = 1) (hK : sg_K f_any f_keptPaging f_keptGuard f_keptRoot y_keptRoot) : sg_SO (fun post => wpX_plain post (f_paging, f_guard, f_root, f_logged, f_room, f_oldest, f_dirWord, f_tableFrame, f_tableWord, f_target, f_reached, f_faultAddress, f_faultCode, f_accesses, f_faults, f_pc, f_savedPc, f_cause, f_output, f_outputs, f_traps, f_user, f_savedUser, f_stopped, 0, f_any, f_keptPaging, f_keptGuard, f_keptRoot, a_page, a_users, a_held, a_away, a_roomRoot, a_leadsTo, a_rights, a_table, a_register, a_ops, a_first, a_second, a_numbers, a_kept) (nI 7) (nI r) (nI s) (nI n)) (fun post => wpY_plain post (y_root, y_keptRoot, f_logged, f_accesses, f_faults, f_faultAddress, y_faultCode, f_guard, f_keptGuard, f_any, y_first, y_second, y_goal, y_code, f_pc, f_savedPc, f_cause, f_output, f_outputs, f_traps, f_user, f_savedUser, f_stopped, 0, W, a_kept, G, a_register) (nI 7) (nI r) (nI s) (nI n)) := by
  have cr : (nI r).toNatClampNeg = r := nI_clamp (by omega)
  have cs : (nI s).toNatClampNeg = s := nI_clamp (by omega)
  refine ⟨(f_paging, f_guard, f_root, f_logged, f_room, f_oldest, f_dirWord, f_tableFrame, f_tableWord, f_target, f_reached, f_faultAddress, f_faultCode, f_accesses, f_faults, nI n, f_savedPc, f_cause, f_output, f_outputs, f_traps, f_user, f_savedUser, f_stopped, 0, f_any, f_keptPaging, f_keptGuard, f_keptRoot, a_page, a_users, a_held, a_away, a_roomRoot, a_leadsTo, a_rights, a_table, a_register, a_ops, a_first, a_second, a_numbers, a_kept), (y_root, y_keptRoot, f_logged, f_accesses, f_faults, f_faultAddress, y_faultCode, f_guard, f_keptGuard, f_any, y_first, y_second, y_goal, y_code, nI n, f_savedPc, f_cause, f_output, f_outputs, f_traps, f_user, f_savedUser, f_stopped, 0, W, a_kept, G, a_register), sg_mk ⟨hS, hP, hF, ho, hg, hu, hs, fun _ => rfl, hK⟩, fun post h => ?_, fun post h => ?_⟩
  · unfold wpX_plain
    skip
    skip
    exact nm_e (br_f (by decide) (br_f (by decide) (br_f (by decide) (br_f (by decide) (br_f (by decide) (br_f (by decide) (br_f (by decide) (br_f (by decide) (br_f (by decide) (br_t rfl (h)))))))))))
  · unfold wpY_plain
    skip
    exact nm_e (br_f (by decide) (br_f (by decide) (br_f (by decide) (br_f (by decide) (br_f (by decide) (br_f (by decide) (br_f (by decide) (br_f (by decide) (br_f (by decide) (br_t rfl (h)))))))))))
theorem sg_so_p8 {r s n : Nat} (hr : r < 4) (hs4 : s < 4) (hS : sg_S a_page a_users a_held a_away a_roomRoot a_leadsTo a_rights a_table a_ops a_first a_second a_numbers f_guard W G) (hP : sg_P f_paging f_root f_room a_roomRoot y_root) (hF : sg_Fa f_faultAddress f_faultCode y_faultCode) (ho : ∃ o, o < 3 ∧ f_oldest = nI o) (hg : f_guard = 0 ∨ f_guard = 1) (hu : f_user = 0 ∨ f_user = 1) (hs : f_savedUser = 0 ∨ f_savedUser = 1) (hK : sg_K f_any f_keptPaging f_keptGuard f_keptRoot y_keptRoot) : sg_SO (fun post => wpX_plain post (f_paging, f_guard, f_root, f_logged, f_room, f_oldest, f_dirWord, f_tableFrame, f_tableWord, f_target, f_reached, f_faultAddress, f_faultCode, f_accesses, f_faults, f_pc, f_savedPc, f_cause, f_output, f_outputs, f_traps, f_user, f_savedUser, f_stopped, 0, f_any, f_keptPaging, f_keptGuard, f_keptRoot, a_page, a_users, a_held, a_away, a_roomRoot, a_leadsTo, a_rights, a_table, a_register, a_ops, a_first, a_second, a_numbers, a_kept) (nI 8) (nI r) (nI s) (nI n)) (fun post => wpY_plain post (y_root, y_keptRoot, f_logged, f_accesses, f_faults, f_faultAddress, y_faultCode, f_guard, f_keptGuard, f_any, y_first, y_second, y_goal, y_code, f_pc, f_savedPc, f_cause, f_output, f_outputs, f_traps, f_user, f_savedUser, f_stopped, 0, W, a_kept, G, a_register) (nI 8) (nI r) (nI s) (nI n)) := by
  have cr : (nI r).toNatClampNeg = r := nI_clamp (by omega)
  have cs : (nI s).toNatClampNeg = s := nI_clamp (by omega)
  by_cases z : a_register r = 0
  · refine ⟨(f_paging, f_guard, f_root, f_logged, f_room, f_oldest, f_dirWord, f_tableFrame, f_tableWord, f_target, f_reached, f_faultAddress, f_faultCode, f_accesses, f_faults, nI n, f_savedPc, f_cause, f_output, f_outputs, f_traps, f_user, f_savedUser, f_stopped, 0, f_any, f_keptPaging, f_keptGuard, f_keptRoot, a_page, a_users, a_held, a_away, a_roomRoot, a_leadsTo, a_rights, a_table, a_register, a_ops, a_first, a_second, a_numbers, a_kept), (y_root, y_keptRoot, f_logged, f_accesses, f_faults, f_faultAddress, y_faultCode, f_guard, f_keptGuard, f_any, y_first, y_second, y_goal, y_code, nI n, f_savedPc, f_cause, f_output, f_outputs, f_traps, f_user, f_savedUser, f_stopped, 0, W, a_kept, G, a_register), sg_mk ⟨hS, hP, hF, ho, hg, hu, hs, fun _ => rfl, hK⟩, fun post h => ?_, fun post h => ?_⟩
    · unfold wpX_plain
      skip
      simp only [cr]
      exact nm_e (br_f (by decide) (br_f (by decide) (br_f (by decide) (br_f (by decide) (br_f (by decide) (br_f (by decide) (br_f (by decide) (br_f (by decide) (br_f (by decide) (br_f (by decide) (br_t rfl (⟨vp_in_nI hr (by omega), br_t z h⟩))))))))))))
    · unfold wpY_plain
      simp only [cr]
      exact nm_e (br_f (by decide) (br_f (by decide) (br_f (by decide) (br_f (by decide) (br_f (by decide) (br_f (by decide) (br_f (by decide) (br_f (by decide) (br_f (by decide) (br_f (by decide) (br_t rfl (⟨vp_in_nI hr (by omega), br_t z h⟩))))))))))))
  · refine ⟨(f_paging, f_guard, f_root, f_logged, f_room, f_oldest, f_dirWord, f_tableFrame, f_tableWord, f_target, f_reached, f_faultAddress, f_faultCode, f_accesses, f_faults, f_pc + 1, f_savedPc, f_cause, f_output, f_outputs, f_traps, f_user, f_savedUser, f_stopped, 0, f_any, f_keptPaging, f_keptGuard, f_keptRoot, a_page, a_users, a_held, a_away, a_roomRoot, a_leadsTo, a_rights, a_table, a_register, a_ops, a_first, a_second, a_numbers, a_kept), (y_root, y_keptRoot, f_logged, f_accesses, f_faults, f_faultAddress, y_faultCode, f_guard, f_keptGuard, f_any, y_first, y_second, y_goal, y_code, f_pc + 1, f_savedPc, f_cause, f_output, f_outputs, f_traps, f_user, f_savedUser, f_stopped, 0, W, a_kept, G, a_register), sg_mk ⟨hS, hP, hF, ho, hg, hu, hs, fun _ => rfl, hK⟩, fun post h => ?_, fun post h => ?_⟩
    · unfold wpX_plain
      skip
      simp only [cr]
      exact nm_e (br_f (by decide) (br_f (by decide) (br_f (by decide) (br_f (by decide) (br_f (by decide) (br_f (by decide) (br_f (by decide) (br_f (by decide) (br_f (by decide) (br_f (by decide) (br_t rfl (⟨vp_in_nI hr (by omega), br_f z h⟩))))))))))))
    · unfold wpY_plain
      simp only [cr]
      exact nm_e (br_f (by decide) (br_f (by decide) (br_f (by decide) (br_f (by decide) (br_f (by decide) (br_f (by decide) (br_f (by decide) (br_f (by decide) (br_f (by decide) (br_f (by decide) (br_t rfl (⟨vp_in_nI hr (by omega), br_f z h⟩))))))))))))
theorem sg_so_p10 {r s n : Nat} (hr : r < 4) (hs4 : s < 4) (hS : sg_S a_page a_users a_held a_away a_roomRoot a_leadsTo a_rights a_table a_ops a_first a_second a_numbers f_guard W G) (hP : sg_P f_paging f_root f_room a_roomRoot y_root) (hF : sg_Fa f_faultAddress f_faultCode y_faultCode) (ho : ∃ o, o < 3 ∧ f_oldest = nI o) (hg : f_guard = 0 ∨ f_guard = 1) (hu : f_user = 0 ∨ f_user = 1) (hs : f_savedUser = 0 ∨ f_savedUser = 1) (hK : sg_K f_any f_keptPaging f_keptGuard f_keptRoot y_keptRoot) : sg_SO (fun post => wpX_plain post (f_paging, f_guard, f_root, f_logged, f_room, f_oldest, f_dirWord, f_tableFrame, f_tableWord, f_target, f_reached, f_faultAddress, f_faultCode, f_accesses, f_faults, f_pc, f_savedPc, f_cause, f_output, f_outputs, f_traps, f_user, f_savedUser, f_stopped, 0, f_any, f_keptPaging, f_keptGuard, f_keptRoot, a_page, a_users, a_held, a_away, a_roomRoot, a_leadsTo, a_rights, a_table, a_register, a_ops, a_first, a_second, a_numbers, a_kept) (nI 10) (nI r) (nI s) (nI n)) (fun post => wpY_plain post (y_root, y_keptRoot, f_logged, f_accesses, f_faults, f_faultAddress, y_faultCode, f_guard, f_keptGuard, f_any, y_first, y_second, y_goal, y_code, f_pc, f_savedPc, f_cause, f_output, f_outputs, f_traps, f_user, f_savedUser, f_stopped, 0, W, a_kept, G, a_register) (nI 10) (nI r) (nI s) (nI n)) := by
  have cr : (nI r).toNatClampNeg = r := nI_clamp (by omega)
  have cs : (nI s).toNatClampNeg = s := nI_clamp (by omega)
  refine ⟨(f_paging, f_guard, f_root, f_logged, f_room, f_oldest, f_dirWord, f_tableFrame, f_tableWord, f_target, f_reached, f_faultAddress, f_faultCode, f_accesses, f_faults, f_pc + 1, f_savedPc, f_cause, a_register r, f_outputs + 1, f_traps, f_user, f_savedUser, f_stopped, 0, f_any, f_keptPaging, f_keptGuard, f_keptRoot, a_page, a_users, a_held, a_away, a_roomRoot, a_leadsTo, a_rights, a_table, a_register, a_ops, a_first, a_second, a_numbers, a_kept), (y_root, y_keptRoot, f_logged, f_accesses, f_faults, f_faultAddress, y_faultCode, f_guard, f_keptGuard, f_any, y_first, y_second, y_goal, y_code, f_pc + 1, f_savedPc, f_cause, a_register r, f_outputs + 1, f_traps, f_user, f_savedUser, f_stopped, 0, W, a_kept, G, a_register), sg_mk ⟨hS, hP, hF, ho, hg, hu, hs, fun _ => rfl, hK⟩, fun post h => ?_, fun post h => ?_⟩
  · unfold wpX_plain
    unfold wX_plain_195
    simp only [cr]
    exact nm_e (br_f (by decide) (br_t (by decide) (⟨vp_in_nI hr (by omega), nm_e (nm_e h)⟩)))
  · unfold wpY_plain
    simp only [cr]
    exact nm_e (br_f (by decide) (br_f (by decide) (br_f (by decide) (br_f (by decide) (br_f (by decide) (br_f (by decide) (br_f (by decide) (br_f (by decide) (br_f (by decide) (br_f (by decide) (br_f (by decide) (br_f (by decide) (br_t rfl (⟨vp_in_nI hr (by omega), nm_e (nm_e h)⟩))))))))))))))
theorem sg_so_p9 {r s n : Nat} (hS : sg_S a_page a_users a_held a_away a_roomRoot a_leadsTo a_rights a_table a_ops a_first a_second a_numbers f_guard W G) (hP : sg_P f_paging f_root f_room a_roomRoot y_root) (hF : sg_Fa f_faultAddress f_faultCode y_faultCode) (ho : ∃ o, o < 3 ∧ f_oldest = nI o) (hg : f_guard = 0 ∨ f_guard = 1) (hu : f_user = 0 ∨ f_user = 1) (hs : f_savedUser = 0 ∨ f_savedUser = 1) (hK : sg_K f_any f_keptPaging f_keptGuard f_keptRoot y_keptRoot) : sg_SO (fun post => wpX_plain post (f_paging, f_guard, f_root, f_logged, f_room, f_oldest, f_dirWord, f_tableFrame, f_tableWord, f_target, f_reached, f_faultAddress, f_faultCode, f_accesses, f_faults, f_pc, f_savedPc, f_cause, f_output, f_outputs, f_traps, f_user, f_savedUser, f_stopped, 0, f_any, f_keptPaging, f_keptGuard, f_keptRoot, a_page, a_users, a_held, a_away, a_roomRoot, a_leadsTo, a_rights, a_table, a_register, a_ops, a_first, a_second, a_numbers, a_kept) (nI 9) (nI r) (nI s) (nI n)) (fun post => wpY_trap post (y_root, y_keptRoot, f_logged, f_accesses, f_faults, f_faultAddress, y_faultCode, f_guard, f_keptGuard, f_any, y_first, y_second, y_goal, y_code, f_pc, f_savedPc, f_cause, f_output, f_outputs, f_traps, f_user, f_savedUser, f_stopped, 0, W, a_kept, G, a_register) 2 (f_pc + 1)) := by
  refine ⟨_, _, sg_mk (f_paging := f_paging) (f_guard := f_guard) (f_root := f_root) (f_logged := f_logged) (f_room := f_room) (f_oldest := f_oldest) (f_dirWord := f_dirWord) (f_tableFrame := f_tableFrame) (f_tableWord := f_tableWord) (f_target := f_target) (f_reached := f_reached) (f_faultAddress := f_faultAddress) (f_faultCode := f_faultCode) (f_accesses := f_accesses) (f_faults := f_faults) (f_pc := 8) (f_savedPc := f_pc + 1) (f_cause := 2) (f_output := f_output) (f_outputs := f_outputs) (f_traps := f_traps + 1) (f_user := 0) (f_savedUser := f_user) (f_stopped := f_stopped) (f_trapped := 1) (f_any := f_any) (f_keptPaging := f_keptPaging) (f_keptGuard := f_keptGuard) (f_keptRoot := f_keptRoot) (y_root := y_root) (y_keptRoot := y_keptRoot) (y_faultCode := y_faultCode) (y_first := y_first) (y_second := y_second) (y_goal := y_goal) (y_code := y_code) (y_behindTrap := 1) (a_page := a_page) (a_users := a_users) (a_held := a_held) (a_away := a_away) (a_roomRoot := a_roomRoot) (a_leadsTo := a_leadsTo) (a_rights := a_rights) (a_table := a_table) (a_register := a_register) (a_ops := a_ops) (a_first := a_first) (a_second := a_second) (a_numbers := a_numbers) (a_kept := a_kept) (W := W) (G := G) ⟨hS, hP, hF, ho, hg, Or.inl rfl, hu, fun _ => rfl, hK⟩, fun post h => ?_, fun post h => ys_trap hu h⟩
  unfold wpX_plain
  exact nm_e (br_f (by decide) (br_f (by decide) (br_f (by decide) (br_f (by decide) (br_f (by decide) (br_f (by decide) (br_f (by decide) (br_f (by decide) (br_f (by decide) (br_f (by decide) (br_f (by decide) (br_t rfl (xs_trap hu h)))))))))))))
theorem sg_so_v11 {r s n : Nat} (hr : r < 4) (hS : sg_S a_page a_users a_held a_away a_roomRoot a_leadsTo a_rights a_table a_ops a_first a_second a_numbers f_guard W G) (hP : sg_P f_paging f_root f_room a_roomRoot y_root) (hF : sg_Fa f_faultAddress f_faultCode y_faultCode) (ho : ∃ o, o < 3 ∧ f_oldest = nI o) (hg : f_guard = 0 ∨ f_guard = 1) (hu : f_user = 0 ∨ f_user = 1) (hs : f_savedUser = 0 ∨ f_savedUser = 1) (hK : sg_K f_any f_keptPaging f_keptGuard f_keptRoot y_keptRoot) : sg_SO (fun post => wpX_privileged post (f_paging, f_guard, f_root, f_logged, f_room, f_oldest, f_dirWord, f_tableFrame, f_tableWord, f_target, f_reached, f_faultAddress, f_faultCode, f_accesses, f_faults, f_pc, f_savedPc, f_cause, f_output, f_outputs, f_traps, f_user, f_savedUser, f_stopped, 0, f_any, f_keptPaging, f_keptGuard, f_keptRoot, a_page, a_users, a_held, a_away, a_roomRoot, a_leadsTo, a_rights, a_table, a_register, a_ops, a_first, a_second, a_numbers, a_kept) (nI 11) (nI r) (nI n)) (fun post => wpY_plain post (y_root, y_keptRoot, f_logged, f_accesses, f_faults, f_faultAddress, y_faultCode, f_guard, f_keptGuard, f_any, y_first, y_second, y_goal, y_code, f_pc, f_savedPc, f_cause, f_output, f_outputs, f_traps, f_user, f_savedUser, f_stopped, 0, W, a_kept, G, a_register) (nI 11) (nI r) (nI s) (nI n)) := by
  have cr : (nI r).toNatClampNeg = r := nI_clamp (by omega)
  refine ⟨(f_paging, f_guard, f_root, f_logged, f_room, f_oldest, f_dirWord, f_tableFrame, f_tableWord, f_target, f_reached, f_faultAddress, f_faultCode, f_accesses, f_faults, f_savedPc, f_savedPc, f_cause, f_output, f_outputs, f_traps, f_savedUser, f_savedUser, f_stopped, 0, f_any, f_keptPaging, f_keptGuard, f_keptRoot, a_page, a_users, a_held, a_away, a_roomRoot, a_leadsTo, a_rights, a_table, a_register, a_ops, a_first, a_second, a_numbers, a_kept), (y_root, y_keptRoot, f_logged, f_accesses, f_faults, f_faultAddress, y_faultCode, f_guard, f_keptGuard, f_any, y_first, y_second, y_goal, y_code, f_savedPc, f_savedPc, f_cause, f_output, f_outputs, f_traps, f_savedUser, f_savedUser, f_stopped, 0, W, a_kept, G, a_register), sg_mk ⟨hS, hP, hF, ho, hg, hs, hs, fun _ => rfl, hK⟩, fun post h => ?_, fun post h => ?_⟩
  · unfold wpX_privileged
    exact nm_e (br_f (by decide) (br_f (by decide) (br_t rfl (⟨sg_nar hs, sg_fit hs, h⟩))))
  · unfold wpY_plain
    refine nm_e (br_f (by decide) (br_t (by decide) ?_))
    unfold wY_plain_201 wpY_special
    exact br_t rfl ⟨sg_nar hs, sg_fit hs, h⟩
theorem sg_so_v12 {r s n : Nat} (hr : r < 4) (hS : sg_S a_page a_users a_held a_away a_roomRoot a_leadsTo a_rights a_table a_ops a_first a_second a_numbers f_guard W G) (hP : sg_P f_paging f_root f_room a_roomRoot y_root) (hF : sg_Fa f_faultAddress f_faultCode y_faultCode) (ho : ∃ o, o < 3 ∧ f_oldest = nI o) (hg : f_guard = 0 ∨ f_guard = 1) (hu : f_user = 0 ∨ f_user = 1) (hs : f_savedUser = 0 ∨ f_savedUser = 1) (hK : sg_K f_any f_keptPaging f_keptGuard f_keptRoot y_keptRoot) : sg_SO (fun post => wpX_privileged post (f_paging, f_guard, f_root, f_logged, f_room, f_oldest, f_dirWord, f_tableFrame, f_tableWord, f_target, f_reached, f_faultAddress, f_faultCode, f_accesses, f_faults, f_pc, f_savedPc, f_cause, f_output, f_outputs, f_traps, f_user, f_savedUser, f_stopped, 0, f_any, f_keptPaging, f_keptGuard, f_keptRoot, a_page, a_users, a_held, a_away, a_roomRoot, a_leadsTo, a_rights, a_table, a_register, a_ops, a_first, a_second, a_numbers, a_kept) (nI 12) (nI r) (nI n)) (fun post => wpY_plain post (y_root, y_keptRoot, f_logged, f_accesses, f_faults, f_faultAddress, y_faultCode, f_guard, f_keptGuard, f_any, y_first, y_second, y_goal, y_code, f_pc, f_savedPc, f_cause, f_output, f_outputs, f_traps, f_user, f_savedUser, f_stopped, 0, W, a_kept, G, a_register) (nI 12) (nI r) (nI s) (nI n)) := by
  have cr : (nI r).toNatClampNeg = r := nI_clamp (by omega)
  refine ⟨(f_paging, f_guard, f_root, f_logged, f_room, f_oldest, f_dirWord, f_tableFrame, f_tableWord, f_target, f_reached, f_faultAddress, f_faultCode, f_accesses, f_faults, f_pc + 1, f_savedPc, f_cause, f_output, f_outputs, f_traps, f_user, f_savedUser, f_stopped, 0, f_any, f_keptPaging, f_keptGuard, f_keptRoot, a_page, a_users, a_held, a_away, a_roomRoot, a_leadsTo, a_rights, a_table, upd a_register r f_savedPc, a_ops, a_first, a_second, a_numbers, a_kept), (y_root, y_keptRoot, f_logged, f_accesses, f_faults, f_faultAddress, y_faultCode, f_guard, f_keptGuard, f_any, y_first, y_second, y_goal, y_code, f_pc + 1, f_savedPc, f_cause, f_output, f_outputs, f_traps, f_user, f_savedUser, f_stopped, 0, W, a_kept, G, upd a_register r f_savedPc), sg_mk ⟨hS, hP, hF, ho, hg, hu, hs, fun _ => rfl, hK⟩, fun post h => ?_, fun post h => ?_⟩
  · unfold wpX_privileged
    simp only [cr]
    exact nm_e (br_f (by decide) (br_f (by decide) (br_f (by decide) (br_t rfl (⟨vp_in_nI hr (by omega), nm_e h⟩)))))
  · unfold wpY_plain
    refine nm_e (br_f (by decide) (br_t (by decide) ?_))
    unfold wY_plain_201 wpY_special wY_special_35 wY_special_67 wY_special_64 wY_special_99 wY_special_102
    simp only [cr]
    exact br_f (by decide) (br_t rfl ⟨vp_in_nI hr (by omega), nm_e (br_f (by decide) (br_f (by decide) (br_f (by decide) h)))⟩)
theorem sg_so_v13 {r s n : Nat} (hr : r < 4) (hS : sg_S a_page a_users a_held a_away a_roomRoot a_leadsTo a_rights a_table a_ops a_first a_second a_numbers f_guard W G) (hP : sg_P f_paging f_root f_room a_roomRoot y_root) (hF : sg_Fa f_faultAddress f_faultCode y_faultCode) (ho : ∃ o, o < 3 ∧ f_oldest = nI o) (hg : f_guard = 0 ∨ f_guard = 1) (hu : f_user = 0 ∨ f_user = 1) (hs : f_savedUser = 0 ∨ f_savedUser = 1) (hK : sg_K f_any f_keptPaging f_keptGuard f_keptRoot y_keptRoot) : sg_SO (fun post => wpX_privileged post (f_paging, f_guard, f_root, f_logged, f_room, f_oldest, f_dirWord, f_tableFrame, f_tableWord, f_target, f_reached, f_faultAddress, f_faultCode, f_accesses, f_faults, f_pc, f_savedPc, f_cause, f_output, f_outputs, f_traps, f_user, f_savedUser, f_stopped, 0, f_any, f_keptPaging, f_keptGuard, f_keptRoot, a_page, a_users, a_held, a_away, a_roomRoot, a_leadsTo, a_rights, a_table, a_register, a_ops, a_first, a_second, a_numbers, a_kept) (nI 13) (nI r) (nI n)) (fun post => wpY_plain post (y_root, y_keptRoot, f_logged, f_accesses, f_faults, f_faultAddress, y_faultCode, f_guard, f_keptGuard, f_any, y_first, y_second, y_goal, y_code, f_pc, f_savedPc, f_cause, f_output, f_outputs, f_traps, f_user, f_savedUser, f_stopped, 0, W, a_kept, G, a_register) (nI 13) (nI r) (nI s) (nI n)) := by
  have cr : (nI r).toNatClampNeg = r := nI_clamp (by omega)
  by_cases z : nI n &&& 1 = 1
  · refine ⟨(f_paging, f_guard, f_root, f_logged, f_room, f_oldest, f_dirWord, f_tableFrame, f_tableWord, f_target, f_reached, f_faultAddress, f_faultCode, f_accesses, f_faults, f_pc + 1, a_register r, f_cause, f_output, f_outputs, f_traps, f_user, 1, f_stopped, 0, f_any, f_keptPaging, f_keptGuard, f_keptRoot, a_page, a_users, a_held, a_away, a_roomRoot, a_leadsTo, a_rights, a_table, a_register, a_ops, a_first, a_second, a_numbers, a_kept), (y_root, y_keptRoot, f_logged, f_accesses, f_faults, f_faultAddress, y_faultCode, f_guard, f_keptGuard, f_any, y_first, y_second, y_goal, y_code, f_pc + 1, a_register r, f_cause, f_output, f_outputs, f_traps, f_user, 1, f_stopped, 0, W, a_kept, G, a_register), sg_mk ⟨hS, hP, hF, ho, hg, hu, Or.inr rfl, fun _ => rfl, hK⟩, fun post h => ?_, fun post h => ?_⟩
    · unfold wpX_privileged
      simp only [cr]
      exact nm_e (br_f (by decide) (br_f (by decide) (br_f (by decide) (br_f (by decide) (br_t rfl (⟨vp_in_nI hr (by omega), nm_e (br_t z h)⟩))))))
    · unfold wpY_plain
      refine nm_e (br_f (by decide) (br_t (by decide) ?_))
      unfold wY_plain_201 wpY_special wY_special_35 wY_special_67 wY_special_64 wY_special_99 wY_special_102
      simp only [cr]
      exact br_f (by decide) (br_f (by decide) (br_t rfl ⟨vp_in_nI hr (by omega), nm_e (br_t z ⟨rfl, rfl, br_f (by decide) (br_f (by decide) h)⟩)⟩))
  · refine ⟨(f_paging, f_guard, f_root, f_logged, f_room, f_oldest, f_dirWord, f_tableFrame, f_tableWord, f_target, f_reached, f_faultAddress, f_faultCode, f_accesses, f_faults, f_pc + 1, a_register r, f_cause, f_output, f_outputs, f_traps, f_user, 0, f_stopped, 0, f_any, f_keptPaging, f_keptGuard, f_keptRoot, a_page, a_users, a_held, a_away, a_roomRoot, a_leadsTo, a_rights, a_table, a_register, a_ops, a_first, a_second, a_numbers, a_kept), (y_root, y_keptRoot, f_logged, f_accesses, f_faults, f_faultAddress, y_faultCode, f_guard, f_keptGuard, f_any, y_first, y_second, y_goal, y_code, f_pc + 1, a_register r, f_cause, f_output, f_outputs, f_traps, f_user, 0, f_stopped, 0, W, a_kept, G, a_register), sg_mk ⟨hS, hP, hF, ho, hg, hu, Or.inl rfl, fun _ => rfl, hK⟩, fun post h => ?_, fun post h => ?_⟩
    · unfold wpX_privileged
      simp only [cr]
      exact nm_e (br_f (by decide) (br_f (by decide) (br_f (by decide) (br_f (by decide) (br_t rfl (⟨vp_in_nI hr (by omega), nm_e (br_f z h)⟩))))))
    · unfold wpY_plain
      refine nm_e (br_f (by decide) (br_t (by decide) ?_))
      unfold wY_plain_201 wpY_special wY_special_35 wY_special_67 wY_special_64 wY_special_99 wY_special_102
      simp only [cr]
      exact br_f (by decide) (br_f (by decide) (br_t rfl ⟨vp_in_nI hr (by omega), nm_e (br_f z ⟨rfl, rfl, br_f (by decide) (br_f (by decide) h)⟩)⟩))
theorem sg_so_v15 {r s n : Nat} (hr : r < 4) (hS : sg_S a_page a_users a_held a_away a_roomRoot a_leadsTo a_rights a_table a_ops a_first a_second a_numbers f_guard W G) (hP : sg_P f_paging f_root f_room a_roomRoot y_root) (hF : sg_Fa f_faultAddress f_faultCode y_faultCode) (ho : ∃ o, o < 3 ∧ f_oldest = nI o) (hg : f_guard = 0 ∨ f_guard = 1) (hu : f_user = 0 ∨ f_user = 1) (hs : f_savedUser = 0 ∨ f_savedUser = 1) (hK : sg_K f_any f_keptPaging f_keptGuard f_keptRoot y_keptRoot) : sg_SO (fun post => wpX_privileged post (f_paging, f_guard, f_root, f_logged, f_room, f_oldest, f_dirWord, f_tableFrame, f_tableWord, f_target, f_reached, f_faultAddress, f_faultCode, f_accesses, f_faults, f_pc, f_savedPc, f_cause, f_output, f_outputs, f_traps, f_user, f_savedUser, f_stopped, 0, f_any, f_keptPaging, f_keptGuard, f_keptRoot, a_page, a_users, a_held, a_away, a_roomRoot, a_leadsTo, a_rights, a_table, a_register, a_ops, a_first, a_second, a_numbers, a_kept) (nI 15) (nI r) (nI n)) (fun post => wpY_plain post (y_root, y_keptRoot, f_logged, f_accesses, f_faults, f_faultAddress, y_faultCode, f_guard, f_keptGuard, f_any, y_first, y_second, y_goal, y_code, f_pc, f_savedPc, f_cause, f_output, f_outputs, f_traps, f_user, f_savedUser, f_stopped, 0, W, a_kept, G, a_register) (nI 15) (nI r) (nI s) (nI n)) := by
  have cr : (nI r).toNatClampNeg = r := nI_clamp (by omega)
  refine ⟨(f_paging, f_guard, f_root, f_logged, f_room, f_oldest, f_dirWord, f_tableFrame, f_tableWord, f_target, f_reached, f_faultAddress, f_faultCode, f_accesses, f_faults, f_pc + 1, f_savedPc, f_cause, f_output, f_outputs, f_traps, f_user, f_savedUser, f_stopped, 0, f_any, f_keptPaging, f_keptGuard, f_keptRoot, a_page, a_users, a_held, a_away, a_roomRoot, a_leadsTo, a_rights, a_table, upd a_register r f_cause, a_ops, a_first, a_second, a_numbers, a_kept), (y_root, y_keptRoot, f_logged, f_accesses, f_faults, f_faultAddress, y_faultCode, f_guard, f_keptGuard, f_any, y_first, y_second, y_goal, y_code, f_pc + 1, f_savedPc, f_cause, f_output, f_outputs, f_traps, f_user, f_savedUser, f_stopped, 0, W, a_kept, G, upd a_register r f_cause), sg_mk ⟨hS, hP, hF, ho, hg, hu, hs, fun _ => rfl, hK⟩, fun post h => ?_, fun post h => ?_⟩
  · unfold wpX_privileged
    simp only [cr]
    exact nm_e (br_f (by decide) (br_t (by decide) (⟨vp_in_nI hr (by omega), nm_e h⟩)))
  · unfold wpY_plain
    refine nm_e (br_f (by decide) (br_t (by decide) ?_))
    unfold wY_plain_201 wpY_special wY_special_35 wY_special_67 wY_special_64 wY_special_99 wY_special_102
    simp only [cr]
    exact br_f (by decide) (br_f (by decide) (br_f (by decide) (br_f (by decide) (br_t rfl ⟨vp_in_nI hr (by omega), nm_e h⟩))))
theorem sg_so_v14 {r s n : Nat} (hr : r < 4) (hS : sg_S a_page a_users a_held a_away a_roomRoot a_leadsTo a_rights a_table a_ops a_first a_second a_numbers f_guard W G) (hP : sg_P f_paging f_root f_room a_roomRoot y_root) (hF : sg_Fa f_faultAddress f_faultCode y_faultCode) (ho : ∃ o, o < 3 ∧ f_oldest = nI o) (hg : f_guard = 0 ∨ f_guard = 1) (hu : f_user = 0 ∨ f_user = 1) (hs : f_savedUser = 0 ∨ f_savedUser = 1) (hK : sg_K f_any f_keptPaging f_keptGuard f_keptRoot y_keptRoot) : sg_SO (fun post => wpX_privileged post (f_paging, f_guard, f_root, f_logged, f_room, f_oldest, f_dirWord, f_tableFrame, f_tableWord, f_target, f_reached, f_faultAddress, f_faultCode, f_accesses, f_faults, f_pc, f_savedPc, f_cause, f_output, f_outputs, f_traps, f_user, f_savedUser, f_stopped, 0, f_any, f_keptPaging, f_keptGuard, f_keptRoot, a_page, a_users, a_held, a_away, a_roomRoot, a_leadsTo, a_rights, a_table, a_register, a_ops, a_first, a_second, a_numbers, a_kept) (nI 14) (nI r) (nI n)) (fun post => wpY_plain post (y_root, y_keptRoot, f_logged, f_accesses, f_faults, f_faultAddress, y_faultCode, f_guard, f_keptGuard, f_any, y_first, y_second, y_goal, y_code, f_pc, f_savedPc, f_cause, f_output, f_outputs, f_traps, f_user, f_savedUser, f_stopped, 0, W, a_kept, G, a_register) (nI 14) (nI r) (nI s) (nI n)) := by
  have cr : (nI r).toNatClampNeg = r := nI_clamp (by omega)
  have out : (a_register r < 0 ∨ nI 16 ≤ a_register r) → sg_SO (fun post => wpX_privileged post (f_paging, f_guard, f_root, f_logged, f_room, f_oldest, f_dirWord, f_tableFrame, f_tableWord, f_target, f_reached, f_faultAddress, f_faultCode, f_accesses, f_faults, f_pc, f_savedPc, f_cause, f_output, f_outputs, f_traps, f_user, f_savedUser, f_stopped, 0, f_any, f_keptPaging, f_keptGuard, f_keptRoot, a_page, a_users, a_held, a_away, a_roomRoot, a_leadsTo, a_rights, a_table, a_register, a_ops, a_first, a_second, a_numbers, a_kept) (nI 14) (nI r) (nI n)) (fun post => wpY_plain post (y_root, y_keptRoot, f_logged, f_accesses, f_faults, f_faultAddress, y_faultCode, f_guard, f_keptGuard, f_any, y_first, y_second, y_goal, y_code, f_pc, f_savedPc, f_cause, f_output, f_outputs, f_traps, f_user, f_savedUser, f_stopped, 0, W, a_kept, G, a_register) (nI 14) (nI r) (nI s) (nI n)) := by
    intro q
    obtain ⟨pa, ro, rm, ol, rr, rg, tb, t1, t2, t3, t4⟩ := xs_turn (f_paging := f_paging) (f_guard := f_guard) (f_root := f_root) (f_logged := f_logged) (f_room := f_room) (f_oldest := f_oldest) (f_dirWord := f_dirWord) (f_tableFrame := f_tableFrame) (f_tableWord := f_tableWord) (f_target := f_target) (f_reached := f_reached) (f_faultAddress := f_faultAddress) (f_faultCode := f_faultCode) (f_accesses := f_accesses) (f_faults := f_faults) (f_pc := f_pc + 1) (f_savedPc := f_savedPc) (f_cause := f_cause) (f_output := f_output) (f_outputs := f_outputs) (f_traps := f_traps) (f_user := f_user) (f_savedUser := f_savedUser) (f_stopped := f_stopped) (f_trapped := 0) (f_any := f_any) (f_keptPaging := f_keptPaging) (f_keptGuard := f_keptGuard) (f_keptRoot := f_keptRoot) (a_page := a_page) (a_users := a_users) (a_held := a_held) (a_away := a_away) (a_roomRoot := a_roomRoot) (a_leadsTo := a_leadsTo) (a_rights := a_rights) (a_table := a_table) (a_register := a_register) (a_ops := a_ops) (a_first := a_first) (a_second := a_second) (a_numbers := a_numbers) (a_kept := a_kept) (p0 := -1) (Or.inl rfl) ho hS.2.1
    refine ⟨(pa, f_guard, ro, f_logged, rm, ol, f_dirWord, f_tableFrame, f_tableWord, f_target, f_reached, f_faultAddress, f_faultCode, f_accesses, f_faults, f_pc + 1, f_savedPc, f_cause, f_output, f_outputs, f_traps, f_user, f_savedUser, f_stopped, 0, f_any, f_keptPaging, f_keptGuard, f_keptRoot, a_page, a_users, a_held, a_away, rr, a_leadsTo, rg, tb, a_register, a_ops, a_first, a_second, a_numbers, a_kept), ((-1), y_keptRoot, f_logged, f_accesses, f_faults, f_faultAddress, y_faultCode, f_guard, f_keptGuard, f_any, y_first, y_second, y_goal, y_code, f_pc + 1, f_savedPc, f_cause, f_output, f_outputs, f_traps, f_user, f_savedUser, f_stopped, 0, W, a_kept, G, a_register), sg_mk ⟨⟨hS.1, t3, hS.2.2⟩, t1, hF, t2, hg, hu, hs, fun _ => rfl, hK⟩, fun post h => ?_, fun post h => ?_⟩
    · unfold wpX_privileged
      simp only [cr]
      exact nm_e (br_f (by decide) (br_f (by decide) (br_f (by decide) (br_f (by decide) (br_f (by decide) (br_t rfl (⟨vp_in_nI hr (by omega), xs_in0 (N := 16) q (br_t rfl (t4 _ h))⟩)))))))
    · unfold wpY_plain
      refine nm_e (br_f (by decide) (br_t (by decide) ?_))
      unfold wY_plain_201 wpY_special wY_special_35 wY_special_67 wY_special_99 wY_special_102
      simp only [cr]
      exact br_f (by decide) (br_f (by decide) (br_f (by decide) (br_t rfl ⟨vp_in_nI hr (by omega), ys_in0 (N := 15) (by omega) q (br_t rfl (br_f (by decide) h))⟩)))
  rcases pk_ix (a_register r) (n := 16) (by omega) with q | q | ⟨j, hj, ej⟩
  · exact out (Or.inl q)
  · exact out (Or.inr q)
  · obtain ⟨pa, ro, rm, ol, rr, rg, tb, t1, t2, t3, t4⟩ := xs_turn (f_paging := f_paging) (f_guard := f_guard) (f_root := f_root) (f_logged := f_logged) (f_room := f_room) (f_oldest := f_oldest) (f_dirWord := f_dirWord) (f_tableFrame := f_tableFrame) (f_tableWord := f_tableWord) (f_target := f_target) (f_reached := f_reached) (f_faultAddress := f_faultAddress) (f_faultCode := f_faultCode) (f_accesses := f_accesses) (f_faults := f_faults) (f_pc := f_pc + 1) (f_savedPc := f_savedPc) (f_cause := f_cause) (f_output := f_output) (f_outputs := f_outputs) (f_traps := f_traps) (f_user := f_user) (f_savedUser := f_savedUser) (f_stopped := f_stopped) (f_trapped := 0) (f_any := f_any) (f_keptPaging := f_keptPaging) (f_keptGuard := f_keptGuard) (f_keptRoot := f_keptRoot) (a_page := a_page) (a_users := a_users) (a_held := a_held) (a_away := a_away) (a_roomRoot := a_roomRoot) (a_leadsTo := a_leadsTo) (a_rights := a_rights) (a_table := a_table) (a_register := a_register) (a_ops := a_ops) (a_first := a_first) (a_second := a_second) (a_numbers := a_numbers) (a_kept := a_kept) (p0 := nI j) (Or.inr ⟨j, hj, rfl⟩) ho hS.2.1
    refine ⟨(pa, f_guard, ro, f_logged, rm, ol, f_dirWord, f_tableFrame, f_tableWord, f_target, f_reached, f_faultAddress, f_faultCode, f_accesses, f_faults, f_pc + 1, f_savedPc, f_cause, f_output, f_outputs, f_traps, f_user, f_savedUser, f_stopped, 0, f_any, f_keptPaging, f_keptGuard, f_keptRoot, a_page, a_users, a_held, a_away, rr, a_leadsTo, rg, tb, a_register, a_ops, a_first, a_second, a_numbers, a_kept), (nI j, y_keptRoot, f_logged, f_accesses, f_faults, f_faultAddress, y_faultCode, f_guard, f_keptGuard, f_any, y_first, y_second, y_goal, y_code, f_pc + 1, f_savedPc, f_cause, f_output, f_outputs, f_traps, f_user, f_savedUser, f_stopped, 0, W, a_kept, G, a_register), sg_mk ⟨⟨hS.1, t3, hS.2.2⟩, t1, hF, t2, hg, hu, hs, fun _ => rfl, hK⟩, fun post h => ?_, fun post h => ?_⟩
    · unfold wpX_privileged
      simp only [cr, ej]
      exact nm_e (br_f (by decide) (br_f (by decide) (br_f (by decide) (br_f (by decide) (br_f (by decide) (br_t rfl (⟨vp_in_nI hr (by omega), xs_in1 (N := 16) hj (by omega) (br_f (by decide) ⟨vp_in_nI hr (by omega), t4 _ h⟩)⟩)))))))
    · unfold wpY_plain
      refine nm_e (br_f (by decide) (br_t (by decide) ?_))
      unfold wY_plain_201 wpY_special wY_special_35 wY_special_67 wY_special_99 wY_special_102
      simp only [cr, ej]
      exact br_f (by decide) (br_f (by decide) (br_f (by decide) (br_t rfl ⟨vp_in_nI hr (by omega), ys_in1 (N := 15) hj (by omega) (br_f (by decide) ⟨vp_in_nI hr (by omega), br_f (by decide) h⟩)⟩)))
end
end
section
/-! loads and stores of the processor -/
section
variable {f_paging f_guard f_root f_logged f_room f_oldest f_dirWord f_tableFrame f_tableWord f_target f_reached f_faultAddress f_faultCode f_accesses f_faults f_pc f_savedPc f_cause f_output f_outputs f_traps f_user f_savedUser f_stopped f_trapped f_any f_keptPaging f_keptGuard f_keptRoot : Int32} {a_page a_users a_held a_away a_roomRoot a_leadsTo a_rights a_table a_register a_ops a_first a_second a_numbers a_kept : Nat → Int32} {y_root y_keptRoot y_faultCode y_first y_second y_goal y_code y_behindTrap : Int32} {W G : Nat → Int32}
theorem sg_so_m5 {r s : Nat} (hr : r < 4) (hs4 : s < 4) (hS : sg_S a_page a_users a_held a_away a_roomRoot a_leadsTo a_rights a_table a_ops a_first a_second a_numbers f_guard W G) (hP : sg_P f_paging f_root f_room a_roomRoot y_root) (hF : sg_Fa f_faultAddress f_faultCode y_faultCode) (ho : ∃ o, o < 3 ∧ f_oldest = nI o) (hg : f_guard = 0 ∨ f_guard = 1) (hu : f_user = 0 ∨ f_user = 1) (hs : f_savedUser = 0 ∨ f_savedUser = 1) (hK : sg_K f_any f_keptPaging f_keptGuard f_keptRoot y_keptRoot) : sg_SO (fun post => wpX_move post (f_paging, f_guard, f_root, f_logged, f_room, f_oldest, f_dirWord, f_tableFrame, f_tableWord, f_target, f_reached, f_faultAddress, f_faultCode, f_accesses, f_faults, f_pc, f_savedPc, f_cause, f_output, f_outputs, f_traps, f_user, f_savedUser, f_stopped, 0, f_any, f_keptPaging, f_keptGuard, f_keptRoot, a_page, a_users, a_held, a_away, a_roomRoot, a_leadsTo, a_rights, a_table, a_register, a_ops, a_first, a_second, a_numbers, a_kept) (nI 5) (nI r) (nI s)) (fun post => wY_step_173 post (nI 5) (nI r) (nI s) y_root y_keptRoot f_logged f_accesses f_faults f_faultAddress y_faultCode f_guard f_keptGuard f_any y_first y_second y_goal y_code f_pc f_savedPc f_cause f_output f_outputs f_traps f_user f_savedUser f_stopped 0 W a_kept G a_register) := by
  have cr : (nI r).toNatClampNeg = r := nI_clamp (by omega)
  have cs : (nI s).toNatClampNeg = s := nI_clamp (by omega)
  have out : (a_register s < 0 ∨ nI 512 ≤ a_register s) → sg_SO (fun post => wpX_move post (f_paging, f_guard, f_root, f_logged, f_room, f_oldest, f_dirWord, f_tableFrame, f_tableWord, f_target, f_reached, f_faultAddress, f_faultCode, f_accesses, f_faults, f_pc, f_savedPc, f_cause, f_output, f_outputs, f_traps, f_user, f_savedUser, f_stopped, 0, f_any, f_keptPaging, f_keptGuard, f_keptRoot, a_page, a_users, a_held, a_away, a_roomRoot, a_leadsTo, a_rights, a_table, a_register, a_ops, a_first, a_second, a_numbers, a_kept) (nI 5) (nI r) (nI s)) (fun post => wY_step_173 post (nI 5) (nI r) (nI s) y_root y_keptRoot f_logged f_accesses f_faults f_faultAddress y_faultCode f_guard f_keptGuard f_any y_first y_second y_goal y_code f_pc f_savedPc f_cause f_output f_outputs f_traps f_user f_savedUser f_stopped 0 W a_kept G a_register) := by
    intro q
    refine ⟨(f_paging, f_guard, f_root, f_logged, f_room, f_oldest, f_dirWord, f_tableFrame, f_tableWord, f_target, f_reached, f_faultAddress, f_faultCode, f_accesses, f_faults, 8, f_pc, 4, f_output, f_outputs, f_traps + 1, 0, f_user, f_stopped, 1, f_any, f_keptPaging, f_keptGuard, f_keptRoot, a_page, a_users, a_held, a_away, a_roomRoot, a_leadsTo, a_rights, a_table, a_register, a_ops, a_first, a_second, a_numbers, a_kept), (y_root, y_keptRoot, f_logged, f_accesses, f_faults, f_faultAddress, y_faultCode, f_guard, f_keptGuard, f_any, y_first, y_second, y_goal, y_code, 8, f_pc, 4, f_output, f_outputs, f_traps + 1, 0, f_user, f_stopped, 1, W, a_kept, G, a_register), sg_mk ⟨hS, hP, hF, ho, hg, Or.inl rfl, hu, fun _ => rfl, hK⟩, fun post h => ?_, fun post h => ?_⟩
    · unfold wpX_move
      simp only [cs]
      refine ⟨vp_in_nI hs4 (by omega), nm_e (br_f (by decide) ?_)⟩
      unfold wX_move_22 wpX_get
      exact xs_in0 (N := 512) q (br_t rfl (br_f (by decide) (xs_trap hu h)))
    · unfold wY_step_173
      simp only [cs]
      refine ⟨vp_in_nI hs4 (by omega), ?_⟩
      unfold wpY_memory
      refine ys_ad0 q (br_t rfl ?_)
      unfold wY_memory_31
      exact br_f (by decide) (ys_ad0 q (br_t rfl (ys_trap hu h)))
  rcases pk_ix (a_register s) (n := 512) (by omega) with q | q | ⟨a, ha, ea⟩
  · exact out (Or.inl q)
  · exact out (Or.inr q)
  · obtain ⟨f_logged', f_dirWord', f_tableFrame', f_tableWord', f_target', f_reached', f_faultAddress', f_faultCode', f_accesses', f_faults', y_first', y_second', y_goal', y_code', y_faultCode', a_page', a_users', a_held', a_away', a_leadsTo', a_rights', a_table', a_ops', W', G', hS', hF', hc⟩ := sg_reach (f_paging := f_paging) (f_guard := f_guard) (f_root := f_root) (f_logged := f_logged) (f_room := f_room) (f_oldest := f_oldest) (f_dirWord := f_dirWord) (f_tableFrame := f_tableFrame) (f_tableWord := f_tableWord) (f_target := f_target) (f_reached := f_reached) (f_faultAddress := f_faultAddress) (f_faultCode := f_faultCode) (f_accesses := f_accesses) (f_faults := f_faults) (f_pc := f_pc) (f_savedPc := f_savedPc) (f_cause := f_cause) (f_output := f_output) (f_outputs := f_outputs) (f_traps := f_traps) (f_user := f_user) (f_savedUser := f_savedUser) (f_stopped := f_stopped) (f_trapped := 0) (f_any := f_any) (f_keptPaging := f_keptPaging) (f_keptGuard := f_keptGuard) (f_keptRoot := f_keptRoot) (y_root := y_root) (y_keptRoot := y_keptRoot) (y_faultCode := y_faultCode) (y_first := y_first) (y_second := y_second) (y_goal := y_goal) (y_code := y_code) (y_behindTrap := 0) (a_page := a_page) (a_users := a_users) (a_held := a_held) (a_away := a_away) (a_roomRoot := a_roomRoot) (a_leadsTo := a_leadsTo) (a_rights := a_rights) (a_table := a_table) (a_register := a_register) (a_ops := a_ops) (a_first := a_first) (a_second := a_second) (a_numbers := a_numbers) (a_kept := a_kept) (W := W) (G := G) (wr := 0) (us := f_user) ha hS hF hP
    rcases hc with ⟨kx, ky⟩ | ⟨g, hg16, eg, kx, ky⟩
    · refine ⟨(f_paging, f_guard, f_root, f_logged', f_room, f_oldest, f_dirWord', f_tableFrame', f_tableWord', f_target', f_reached', f_faultAddress', f_faultCode', f_accesses', f_faults', 8, f_pc, 1, f_output, f_outputs, f_traps + 1, 0, f_user, f_stopped, 1, f_any, f_keptPaging, f_keptGuard, f_keptRoot, a_page', a_users', a_held', a_away', a_roomRoot, a_leadsTo', a_rights', a_table', a_register, a_ops', a_first, a_second, a_numbers, a_kept), (y_root, y_keptRoot, f_logged', f_accesses', f_faults', f_faultAddress', y_faultCode', f_guard, f_keptGuard, f_any, y_first', y_second', y_goal', y_code', 8, f_pc, 1, f_output, f_outputs, f_traps + 1, 0, f_user, f_stopped, 1, W', a_kept, G', a_register), sg_mk ⟨hS', hP, hF', ho, hg, Or.inl rfl, hu, fun _ => rfl, hK⟩, fun post h => ?_, fun post h => ?_⟩
      · unfold wpX_move
        simp only [cs, ea]
        refine ⟨vp_in_nI hs4 (by omega), nm_e (br_f (by decide) ?_)⟩
        unfold wX_move_22 wpX_get
        refine xs_in1 (N := 512) ha (by omega) (br_f (by decide) (kx _ ?_))
        exact br_t rfl (br_f (by decide) (xs_trap hu h))
      · unfold wY_step_173
        simp only [cs, ea]
        refine ⟨vp_in_nI hs4 (by omega), ?_⟩
        unfold wpY_memory
        refine ys_ad1 ha (br_f (by decide) (br_f (by decide) ?_))
        unfold wY_memory_20
        refine ky _ ?_
        exact br_f (by decide) (ys_ad1 ha (br_f (by decide) (ys_trap hu h)))
    · subst eg
      refine ⟨(f_paging, f_guard, f_root, f_logged', f_room, f_oldest, f_dirWord', f_tableFrame', f_tableWord', f_target', nI g, f_faultAddress', f_faultCode', f_accesses', f_faults', f_pc + 1, f_savedPc, f_cause, f_output, f_outputs, f_traps, f_user, f_savedUser, f_stopped, 0, f_any, f_keptPaging, f_keptGuard, f_keptRoot, a_page', a_users', a_held', a_away', a_roomRoot, a_leadsTo', a_rights', a_table', upd a_register r (W' (8 * g + a % 8)), a_ops', a_first, a_second, a_numbers, a_kept), (y_root, y_keptRoot, f_logged', f_accesses', f_faults', f_faultAddress', y_faultCode', f_guard, f_keptGuard, f_any, y_first', y_second', y_goal', y_code', f_pc + 1, f_savedPc, f_cause, f_output, f_outputs, f_traps, f_user, f_savedUser, f_stopped, 0, W', a_kept, G', upd a_register r (W' (8 * g + a % 8))), sg_mk ⟨hS', hP, hF', ho, hg, hu, hs, fun _ => rfl, hK⟩, fun post h => ?_, fun post h => ?_⟩
      · unfold wpX_move
        simp only [cs, ea]
        refine ⟨vp_in_nI hs4 (by omega), nm_e (br_f (by decide) ?_)⟩
        unfold wX_move_22 wpX_get
        refine xs_in1 (N := 512) ha (by omega) (br_f (by decide) (kx _ ?_))
        refine br_f (by decide) (br_t rfl (br_t rfl ?_))
        simp only [cr, sg_an7 ha]
        refine xs_word hS'.1 hg16 (by omega) ?_
        exact ⟨vp_in_nI hr (by omega), nm_e (nm_e h)⟩
      · unfold wY_step_173
        simp only [cs, ea]
        refine ⟨vp_in_nI hs4 (by omega), ?_⟩
        unfold wpY_memory
        refine ys_ad1 ha (br_f (by decide) (br_f (by decide) ?_))
        unfold wY_memory_20
        refine ky _ ?_
        refine br_t (nI_pos' (by omega)) (br_f (by decide) ⟨vp_in_nI (by omega) (by omega), vp_in_nI hr (by omega), ?_⟩)
        simp only [cr]
        rw [nI_clamp (show 8 * g + a % 8 < 2 ^ 31 by omega)]
        exact nm_e (nm_e h)
theorem sg_so_m6 {r s : Nat} (hr : r < 4) (hs4 : s < 4) (hS : sg_S a_page a_users a_held a_away a_roomRoot a_leadsTo a_rights a_table a_ops a_first a_second a_numbers f_guard W G) (hP : sg_P f_paging f_root f_room a_roomRoot y_root) (hF : sg_Fa f_faultAddress f_faultCode y_faultCode) (ho : ∃ o, o < 3 ∧ f_oldest = nI o) (hg : f_guard = 0 ∨ f_guard = 1) (hu : f_user = 0 ∨ f_user = 1) (hs : f_savedUser = 0 ∨ f_savedUser = 1) (hK : sg_K f_any f_keptPaging f_keptGuard f_keptRoot y_keptRoot) : sg_SO (fun post => wpX_move post (f_paging, f_guard, f_root, f_logged, f_room, f_oldest, f_dirWord, f_tableFrame, f_tableWord, f_target, f_reached, f_faultAddress, f_faultCode, f_accesses, f_faults, f_pc, f_savedPc, f_cause, f_output, f_outputs, f_traps, f_user, f_savedUser, f_stopped, 0, f_any, f_keptPaging, f_keptGuard, f_keptRoot, a_page, a_users, a_held, a_away, a_roomRoot, a_leadsTo, a_rights, a_table, a_register, a_ops, a_first, a_second, a_numbers, a_kept) (nI 6) (nI r) (nI s)) (fun post => wY_step_173 post (nI 6) (nI r) (nI s) y_root y_keptRoot f_logged f_accesses f_faults f_faultAddress y_faultCode f_guard f_keptGuard f_any y_first y_second y_goal y_code f_pc f_savedPc f_cause f_output f_outputs f_traps f_user f_savedUser f_stopped 0 W a_kept G a_register) := by
  have cr : (nI r).toNatClampNeg = r := nI_clamp (by omega)
  have cs : (nI s).toNatClampNeg = s := nI_clamp (by omega)
  have out : (a_register s < 0 ∨ nI 512 ≤ a_register s) → sg_SO (fun post => wpX_move post (f_paging, f_guard, f_root, f_logged, f_room, f_oldest, f_dirWord, f_tableFrame, f_tableWord, f_target, f_reached, f_faultAddress, f_faultCode, f_accesses, f_faults, f_pc, f_savedPc, f_cause, f_output, f_outputs, f_traps, f_user, f_savedUser, f_stopped, 0, f_any, f_keptPaging, f_keptGuard, f_keptRoot, a_page, a_users, a_held, a_away, a_roomRoot, a_leadsTo, a_rights, a_table, a_register, a_ops, a_first, a_second, a_numbers, a_kept) (nI 6) (nI r) (nI s)) (fun post => wY_step_173 post (nI 6) (nI r) (nI s) y_root y_keptRoot f_logged f_accesses f_faults f_faultAddress y_faultCode f_guard f_keptGuard f_any y_first y_second y_goal y_code f_pc f_savedPc f_cause f_output f_outputs f_traps f_user f_savedUser f_stopped 0 W a_kept G a_register) := by
    intro q
    refine ⟨(f_paging, f_guard, f_root, f_logged, f_room, f_oldest, f_dirWord, f_tableFrame, f_tableWord, f_target, f_reached, f_faultAddress, f_faultCode, f_accesses, f_faults, 8, f_pc, 4, f_output, f_outputs, f_traps + 1, 0, f_user, f_stopped, 1, f_any, f_keptPaging, f_keptGuard, f_keptRoot, a_page, a_users, a_held, a_away, a_roomRoot, a_leadsTo, a_rights, a_table, a_register, a_ops, a_first, a_second, a_numbers, a_kept), (y_root, y_keptRoot, f_logged, f_accesses, f_faults, f_faultAddress, y_faultCode, f_guard, f_keptGuard, f_any, y_first, y_second, y_goal, y_code, 8, f_pc, 4, f_output, f_outputs, f_traps + 1, 0, f_user, f_stopped, 1, W, a_kept, G, a_register), sg_mk ⟨hS, hP, hF, ho, hg, Or.inl rfl, hu, fun _ => rfl, hK⟩, fun post h => ?_, fun post h => ?_⟩
    · unfold wpX_move
      simp only [cs]
      refine ⟨vp_in_nI hs4 (by omega), nm_e (br_t rfl ?_)⟩
      unfold wX_move_22 wpX_get
      exact xs_in0 (N := 512) q (br_t rfl (br_f (by decide) (xs_trap hu h)))
    · unfold wY_step_173
      simp only [cs]
      refine ⟨vp_in_nI hs4 (by omega), ?_⟩
      unfold wpY_memory
      refine ys_ad0 q (br_t rfl ?_)
      unfold wY_memory_31
      exact br_f (by decide) (ys_ad0 q (br_t rfl (ys_trap hu h)))
  rcases pk_ix (a_register s) (n := 512) (by omega) with q | q | ⟨a, ha, ea⟩
  · exact out (Or.inl q)
  · exact out (Or.inr q)
  · obtain ⟨f_logged', f_dirWord', f_tableFrame', f_tableWord', f_target', f_reached', f_faultAddress', f_faultCode', f_accesses', f_faults', y_first', y_second', y_goal', y_code', y_faultCode', a_page', a_users', a_held', a_away', a_leadsTo', a_rights', a_table', a_ops', W', G', hS', hF', hc⟩ := sg_reach (f_paging := f_paging) (f_guard := f_guard) (f_root := f_root) (f_logged := f_logged) (f_room := f_room) (f_oldest := f_oldest) (f_dirWord := f_dirWord) (f_tableFrame := f_tableFrame) (f_tableWord := f_tableWord) (f_target := f_target) (f_reached := f_reached) (f_faultAddress := f_faultAddress) (f_faultCode := f_faultCode) (f_accesses := f_accesses) (f_faults := f_faults) (f_pc := f_pc) (f_savedPc := f_savedPc) (f_cause := f_cause) (f_output := f_output) (f_outputs := f_outputs) (f_traps := f_traps) (f_user := f_user) (f_savedUser := f_savedUser) (f_stopped := f_stopped) (f_trapped := 0) (f_any := f_any) (f_keptPaging := f_keptPaging) (f_keptGuard := f_keptGuard) (f_keptRoot := f_keptRoot) (y_root := y_root) (y_keptRoot := y_keptRoot) (y_faultCode := y_faultCode) (y_first := y_first) (y_second := y_second) (y_goal := y_goal) (y_code := y_code) (y_behindTrap := 0) (a_page := a_page) (a_users := a_users) (a_held := a_held) (a_away := a_away) (a_roomRoot := a_roomRoot) (a_leadsTo := a_leadsTo) (a_rights := a_rights) (a_table := a_table) (a_register := a_register) (a_ops := a_ops) (a_first := a_first) (a_second := a_second) (a_numbers := a_numbers) (a_kept := a_kept) (W := W) (G := G) (wr := 1) (us := f_user) ha hS hF hP
    rcases hc with ⟨kx, ky⟩ | ⟨g, hg16, eg, kx, ky⟩
    · refine ⟨(f_paging, f_guard, f_root, f_logged', f_room, f_oldest, f_dirWord', f_tableFrame', f_tableWord', f_target', f_reached', f_faultAddress', f_faultCode', f_accesses', f_faults', 8, f_pc, 1, f_output, f_outputs, f_traps + 1, 0, f_user, f_stopped, 1, f_any, f_keptPaging, f_keptGuard, f_keptRoot, a_page', a_users', a_held', a_away', a_roomRoot, a_leadsTo', a_rights', a_table', a_register, a_ops', a_first, a_second, a_numbers, a_kept), (y_root, y_keptRoot, f_logged', f_accesses', f_faults', f_faultAddress', y_faultCode', f_guard, f_keptGuard, f_any, y_first', y_second', y_goal', y_code', 8, f_pc, 1, f_output, f_outputs, f_traps + 1, 0, f_user, f_stopped, 1, W', a_kept, G', a_register), sg_mk ⟨hS', hP, hF', ho, hg, Or.inl rfl, hu, fun _ => rfl, hK⟩, fun post h => ?_, fun post h => ?_⟩
      · unfold wpX_move
        simp only [cs, ea]
        refine ⟨vp_in_nI hs4 (by omega), nm_e (br_t rfl ?_)⟩
        unfold wX_move_22 wpX_get
        refine xs_in1 (N := 512) ha (by omega) (br_f (by decide) (kx _ ?_))
        exact br_t rfl (br_f (by decide) (xs_trap hu h))
      · unfold wY_step_173
        simp only [cs, ea]
        refine ⟨vp_in_nI hs4 (by omega), ?_⟩
        unfold wpY_memory
        refine ys_ad1 ha (br_f (by decide) (br_t rfl ?_))
        unfold wY_memory_20
        refine ky _ ?_
        exact br_f (by decide) (ys_ad1 ha (br_f (by decide) (ys_trap hu h)))
    · subst eg
      obtain ⟨pg, ue, he, aw, rg, tb, op, n1, n2⟩ := xs_note (f_paging := f_paging) (f_guard := f_guard) (f_root := f_root) (f_logged := f_logged') (f_room := f_room) (f_oldest := f_oldest) (f_dirWord := f_dirWord') (f_tableFrame := f_tableFrame') (f_tableWord := f_tableWord') (f_target := f_target') (f_reached := nI g) (f_faultAddress := f_faultAddress') (f_faultCode := f_faultCode') (f_accesses := f_accesses') (f_faults := f_faults') (f_pc := f_pc) (f_savedPc := f_savedPc) (f_cause := f_cause) (f_output := f_output) (f_outputs := f_outputs) (f_traps := f_traps) (f_user := f_user) (f_savedUser := f_savedUser) (f_stopped := f_stopped) (f_trapped := 0) (f_any := f_any) (f_keptPaging := f_keptPaging) (f_keptGuard := f_keptGuard) (f_keptRoot := f_keptRoot) (a_page := a_page') (a_users := a_users') (a_held := a_held') (a_away := a_away') (a_roomRoot := a_roomRoot) (a_leadsTo := a_leadsTo') (a_rights := a_rights') (a_table := a_table') (a_register := a_register) (a_ops := a_ops') (a_first := a_first) (a_second := a_second) (a_numbers := a_numbers) (a_kept := a_kept) (f := g) (w := a % 8) (v := a_register r) hS' hg16 (by omega)
      refine ⟨(f_paging, f_guard, f_root, f_logged' ||| ((1 : Int32) <<< (nI g &&& 31)), f_room, f_oldest, f_dirWord', f_tableFrame', f_tableWord', f_target', nI g, f_faultAddress', f_faultCode', f_accesses', f_faults', f_pc + 1, f_savedPc, f_cause, f_output, f_outputs, f_traps, f_user, f_savedUser, f_stopped, 0, f_any, f_keptPaging, f_keptGuard, f_keptRoot, pg, ue, he, aw, a_roomRoot, a_leadsTo', rg, tb, a_register, op, a_first, a_second, a_numbers, a_kept), (y_root, y_keptRoot, f_logged' ||| ((1 : Int32) <<< (nI g &&& 31)), f_accesses', f_faults', f_faultAddress', y_faultCode', f_guard, f_keptGuard, f_any, y_first', y_second', y_goal', y_code', f_pc + 1, f_savedPc, f_cause, f_output, f_outputs, f_traps, f_user, f_savedUser, f_stopped, 0, upd W' (8 * g + a % 8) (a_register r), a_kept, G', a_register), sg_mk ⟨n1, hP, hF', ho, hg, hu, hs, fun _ => rfl, hK⟩, fun post h => ?_, fun post h => ?_⟩
      · unfold wpX_move
        simp only [cs, ea]
        refine ⟨vp_in_nI hs4 (by omega), nm_e (br_t rfl ?_)⟩
        unfold wX_move_22 wpX_get
        refine xs_in1 (N := 512) ha (by omega) (br_f (by decide) (kx _ ?_))
        refine br_f (by decide) (br_t rfl (br_f (by decide) ?_))
        simp only [cr, sg_an7 ha]
        refine ⟨vp_in_nI hr (by omega), n2 _ ?_⟩
        exact nm_e h
      · unfold wY_step_173
        simp only [cs, ea]
        refine ⟨vp_in_nI hs4 (by omega), ?_⟩
        unfold wpY_memory
        refine ys_ad1 ha (br_f (by decide) (br_t rfl ?_))
        unfold wY_memory_20
        refine ky _ ?_
        refine br_t (nI_pos' (by omega)) (br_t rfl ⟨vp_in_nI hr (by omega), ?_⟩)
        simp only [cr]
        refine ys_write (by omega) ?_
        rw [show (8 * g + a % 8) / 8 = g by omega]
        exact nm_e h
end
end
section
/-! a step -/
theorem sg_sh : ∀ n, n < 512 → vp_nar .short (nI n).toInt16.toInt32 = nI n := by
  have h : ∀ n, n < 512 → (nI n).toInt16.toInt32 = nI n := by decide +kernel
  intro n hn
  rw [pk_vs, h n hn]
section
variable {f_paging f_guard f_root f_logged f_room f_oldest f_dirWord f_tableFrame f_tableWord f_target f_reached f_faultAddress f_faultCode f_accesses f_faults f_pc f_savedPc f_cause f_output f_outputs f_traps f_user f_savedUser f_stopped f_trapped f_any f_keptPaging f_keptGuard f_keptRoot : Int32} {a_page a_users a_held a_away a_roomRoot a_leadsTo a_rights a_table a_register a_ops a_first a_second a_numbers a_kept : Nat → Int32} {y_root y_keptRoot y_faultCode y_first y_second y_goal y_code y_behindTrap : Int32} {W G : Nat → Int32}
theorem xs_take {post : SX → Prop} {a : Nat} (hM : sg_M a_page a_users a_held a_away W G) (ha : a < 128) (h : post (f_paging, f_guard, f_root, f_logged, f_room, f_oldest, f_dirWord, f_tableFrame, f_tableWord, f_target, f_reached, f_faultAddress, f_faultCode, f_accesses, f_faults, f_pc, f_savedPc, f_cause, f_output, f_outputs, f_traps, f_user, f_savedUser, f_stopped, f_trapped, f_any, f_keptPaging, f_keptGuard, f_keptRoot, a_page, a_users, a_held, a_away, a_roomRoot, a_leadsTo, a_rights, a_table, a_register, upd a_ops a ((W a &&& 15) + 1), upd a_first a ((W a >>> ((4 : Int32) &&& 31)) &&& 3), upd a_second a ((W a >>> ((6 : Int32) &&& 31)) &&& 3), upd a_numbers a ((W a >>> ((8 : Int32) &&& 31)) &&& 511), a_kept)) : wpX_takeApart post (f_paging, f_guard, f_root, f_logged, f_room, f_oldest, f_dirWord, f_tableFrame, f_tableWord, f_target, f_reached, f_faultAddress, f_faultCode, f_accesses, f_faults, f_pc, f_savedPc, f_cause, f_output, f_outputs, f_traps, f_user, f_savedUser, f_stopped, f_trapped, f_any, f_keptPaging, f_keptGuard, f_keptRoot, a_page, a_users, a_held, a_away, a_roomRoot, a_leadsTo, a_rights, a_table, a_register, a_ops, a_first, a_second, a_numbers, a_kept) (nI a) := by
  obtain ⟨op, hop, eop⟩ := pk_andE (W a) (m := 15) 4 (by decide)
  obtain ⟨r, hr, er⟩ := pk_andE (W a >>> ((4 : Int32) &&& 31)) (m := 3) 2 (by decide)
  obtain ⟨s, hs, es⟩ := pk_andE (W a >>> ((6 : Int32) &&& 31)) (m := 3) 2 (by decide)
  obtain ⟨n, hn, en⟩ := pk_andE (W a >>> ((8 : Int32) &&& 31)) (m := 511) 9 (by decide)
  have hop' : op < 16 := hop
  have hr' : r < 4 := hr
  have hs' : s < 4 := hs
  have hn' : n < 512 := hn
  rw [eop, er, es, en, nI_1] at h
  unfold wpX_takeApart
  rw [sg_sh3 (show a < 512 by omega), sg_an7 (show a < 512 by omega)]
  refine xs_word hM (by omega) (by omega) ?_
  rw [show 8 * (a / 8) + a % 8 = a by omega, nI_clamp (show a < 2 ^ 31 by omega), eop, er, es, en, nI_1, sg_by _ (by omega), sg_by _ (by omega), sg_by _ (by omega), sg_sh n hn']
  have v : vp_in (nI a) 128 := vp_in_nI ha (by omega)
  exact ⟨v, nm_e ⟨v, nm_e ⟨v, nm_e ⟨v, nm_e h⟩⟩⟩⟩
theorem xs_s76 {post : SX → Prop} {a op : Nat} (ha : a < 128) (hop : op < 16) (eo : a_ops a = nI (op + 1)) (hbar : ¬ f_user = 0 → (op = 0 ∨ 10 < op) → wX_step_110 post (nI a) (nI op) 1 f_paging f_guard f_root f_logged f_room f_oldest f_dirWord f_tableFrame f_tableWord f_target f_reached f_faultAddress f_faultCode f_accesses f_faults f_pc f_savedPc f_cause f_output f_outputs f_traps f_user f_savedUser f_stopped f_trapped f_any f_keptPaging f_keptGuard f_keptRoot a_page a_users a_held a_away a_roomRoot a_leadsTo a_rights a_table a_register a_ops a_first a_second a_numbers a_kept) (hok : (f_user = 0 ∨ (op ≠ 0 ∧ op ≤ 10)) → wX_step_110 post (nI a) (nI op) 0 f_paging f_guard f_root f_logged f_room f_oldest f_dirWord f_tableFrame f_tableWord f_target f_reached f_faultAddress f_faultCode f_accesses f_faults f_pc f_savedPc f_cause f_output f_outputs f_traps f_user f_savedUser f_stopped f_trapped f_any f_keptPaging f_keptGuard f_keptRoot a_page a_users a_held a_away a_roomRoot a_leadsTo a_rights a_table a_register a_ops a_first a_second a_numbers a_kept) : wX_step_76 post (nI a) f_paging f_guard f_root f_logged f_room f_oldest f_dirWord f_tableFrame f_tableWord f_target f_reached f_faultAddress f_faultCode f_accesses f_faults f_pc f_savedPc f_cause f_output f_outputs f_traps f_user f_savedUser f_stopped f_trapped f_any f_keptPaging f_keptGuard f_keptRoot a_page a_users a_held a_away a_roomRoot a_leadsTo a_rights a_table a_register a_ops a_first a_second a_numbers a_kept := by
  unfold wX_step_76
  rw [nI_clamp (show a < 2 ^ 31 by omega), eo]
  refine ⟨vp_in_nI ha (by omega), nm_r (nI_pred op) ?_⟩
  by_cases z : f_user = 0
  · exact br_t z (hok (Or.inl z))
  · refine br_f z ?_
    by_cases z0 : op = 0
    · exact br_t (by rw [z0]; rfl) (hbar z (Or.inl z0))
    · refine br_f (nI_ne0 (by omega) (by omega)) ?_
      by_cases z1 : op ≤ 10
      · exact br_t (nI_le (b := 10) z1 (by omega)) (hok (Or.inr ⟨z0, z1⟩))
      · exact br_f (nI_ge (a := 10) (by omega) (by omega)) (hbar z (Or.inr (by omega)))
theorem ys_s27 {post : SY → Prop} {a op r s n : Nat} (ha : a < 128) (hop : op < 16) (eop : W a &&& 15 = nI op) (er : (W a >>> ((4 : Int32) &&& 31)) &&& 3 = nI r) (es : (W a >>> ((6 : Int32) &&& 31)) &&& 3 = nI s) (en : (W a >>> ((8 : Int32) &&& 31)) &&& 511 = nI n)
    (hbar : ¬ f_user = 0 → (op = 0 ∨ 10 < op) → wY_step_130 post y_root y_keptRoot f_logged f_accesses f_faults f_faultAddress y_faultCode f_guard f_keptGuard f_any y_first y_second y_goal y_code f_pc f_savedPc f_cause f_output f_outputs f_traps f_user f_savedUser f_stopped 0 W a_kept G a_register) (hok : (f_user = 0 ∨ (op ≠ 0 ∧ op ≤ 10)) → wY_step_142 post (nI op) (nI r) (nI s) (nI n) y_root y_keptRoot f_logged f_accesses f_faults f_faultAddress y_faultCode f_guard f_keptGuard f_any y_first y_second y_goal y_code f_pc f_savedPc f_cause f_output f_outputs f_traps f_user f_savedUser f_stopped 0 W a_kept G a_register) : wY_step_27 post (nI a) y_root y_keptRoot f_logged f_accesses f_faults f_faultAddress y_faultCode f_guard f_keptGuard f_any y_first y_second y_goal y_code f_pc f_savedPc f_cause f_output f_outputs f_traps f_user f_savedUser f_stopped y_behindTrap W a_kept G a_register := by
  unfold wY_step_27
  rw [nI_clamp (show a < 2 ^ 31 by omega)]
  refine br_t (nI_pos' (by omega)) ⟨vp_in_nI ha (by omega), nm_e (nm_r eop (nm_r er (nm_r es (nm_r en ?_))))⟩
  by_cases z : f_user = 0
  · exact br_t z (hok (Or.inl z))
  · refine br_f z ?_
    by_cases z0 : op = 0
    · exact br_t (by rw [z0]; rfl) (hbar z (Or.inl z0))
    · refine br_f (nI_ne0 (by omega) (by omega)) ?_
      by_cases z1 : op ≤ 10
      · exact br_t (nI_le (b := 10) z1 (by omega)) (hok (Or.inr ⟨z0, z1⟩))
      · exact br_f (nI_ge (a := 10) (by omega) (by omega)) (hbar z (Or.inr (by omega)))
theorem xs_k_trap {post : SX → Prop} {x3 x4 : Int32} (h : ∀ post' : SX → Prop, (∀ u, post u → post' u) → wpX_trap post' (f_paging, f_guard, f_root, f_logged, f_room, f_oldest, f_dirWord, f_tableFrame, f_tableWord, f_target, f_reached, f_faultAddress, f_faultCode, f_accesses, f_faults, f_pc, f_savedPc, f_cause, f_output, f_outputs, f_traps, f_user, f_savedUser, f_stopped, f_trapped, f_any, f_keptPaging, f_keptGuard, f_keptRoot, a_page, a_users, a_held, a_away, a_roomRoot, a_leadsTo, a_rights, a_table, a_register, a_ops, a_first, a_second, a_numbers, a_kept) 3 f_pc) : wX_step_110 post x3 x4 1 f_paging f_guard f_root f_logged f_room f_oldest f_dirWord f_tableFrame f_tableWord f_target f_reached f_faultAddress f_faultCode f_accesses f_faults f_pc f_savedPc f_cause f_output f_outputs f_traps f_user f_savedUser f_stopped f_trapped f_any f_keptPaging f_keptGuard f_keptRoot a_page a_users a_held a_away a_roomRoot a_leadsTo a_rights a_table a_register a_ops a_first a_second a_numbers a_kept := by
  unfold wX_step_110
  refine br_f (by decide) (h _ (fun u hu => ?_))
  obtain ⟨f_paging, f_guard, f_root, f_logged, f_room, f_oldest, f_dirWord, f_tableFrame, f_tableWord, f_target, f_reached, f_faultAddress, f_faultCode, f_accesses, f_faults, f_pc, f_savedPc, f_cause, f_output, f_outputs, f_traps, f_user, f_savedUser, f_stopped, f_trapped, f_any, f_keptPaging, f_keptGuard, f_keptRoot, a_page, a_users, a_held, a_away, a_roomRoot, a_leadsTo, a_rights, a_table, a_register, a_ops, a_first, a_second, a_numbers, a_kept⟩ := u
  exact hu
theorem xs_k_move {post : SX → Prop} {a op r s : Nat} (ha : a < 128) (h56 : op = 5 ∨ op = 6) (ef : a_first a = nI r) (es : a_second a = nI s) (h : ∀ post' : SX → Prop, (∀ u, post u → post' u) → wpX_move post' (f_paging, f_guard, f_root, f_logged, f_room, f_oldest, f_dirWord, f_tableFrame, f_tableWord, f_target, f_reached, f_faultAddress, f_faultCode, f_accesses, f_faults, f_pc, f_savedPc, f_cause, f_output, f_outputs, f_traps, f_user, f_savedUser, f_stopped, f_trapped, f_any, f_keptPaging, f_keptGuard, f_keptRoot, a_page, a_users, a_held, a_away, a_roomRoot, a_leadsTo, a_rights, a_table, a_register, a_ops, a_first, a_second, a_numbers, a_kept) (nI op) (nI r) (nI s)) : wX_step_110 post (nI a) (nI op) 0 f_paging f_guard f_root f_logged f_room f_oldest f_dirWord f_tableFrame f_tableWord f_target f_reached f_faultAddress f_faultCode f_accesses f_faults f_pc f_savedPc f_cause f_output f_outputs f_traps f_user f_savedUser f_stopped f_trapped f_any f_keptPaging f_keptGuard f_keptRoot a_page a_users a_held a_away a_roomRoot a_leadsTo a_rights a_table a_register a_ops a_first a_second a_numbers a_kept := by
  have K : wX_step_142 post (nI a) (nI op) f_paging f_guard f_root f_logged f_room f_oldest f_dirWord f_tableFrame f_tableWord f_target f_reached f_faultAddress f_faultCode f_accesses f_faults f_pc f_savedPc f_cause f_output f_outputs f_traps f_user f_savedUser f_stopped f_trapped f_any f_keptPaging f_keptGuard f_keptRoot a_page a_users a_held a_away a_roomRoot a_leadsTo a_rights a_table a_register a_ops a_first a_second a_numbers a_kept := by
    unfold wX_step_142
    rw [nI_clamp (show a < 2 ^ 31 by omega), ef, es]
    refine ⟨vp_in_nI ha (by omega), vp_in_nI ha (by omega), h _ (fun u hu => ?_)⟩
    obtain ⟨f_paging, f_guard, f_root, f_logged, f_room, f_oldest, f_dirWord, f_tableFrame, f_tableWord, f_target, f_reached, f_faultAddress, f_faultCode, f_accesses, f_faults, f_pc, f_savedPc, f_cause, f_output, f_outputs, f_traps, f_user, f_savedUser, f_stopped, f_trapped, f_any, f_keptPaging, f_keptGuard, f_keptRoot, a_page, a_users, a_held, a_away, a_roomRoot, a_leadsTo, a_rights, a_table, a_register, a_ops, a_first, a_second, a_numbers, a_kept⟩ := u
    exact hu
  unfold wX_step_110
  rcases h56 with rfl | rfl
  · exact br_t rfl (br_t rfl K)
  · exact br_t rfl (br_f (by decide) (br_t rfl K))
theorem xs_k_plain {post : SX → Prop} {a op r s n : Nat} (ha : a < 128) (hop : op ≤ 10) (h5 : op ≠ 5) (h6 : op ≠ 6) (ef : a_first a = nI r) (es : a_second a = nI s) (en : a_numbers a = nI n) (h : ∀ post' : SX → Prop, (∀ u, post u → post' u) → wpX_plain post' (f_paging, f_guard, f_root, f_logged, f_room, f_oldest, f_dirWord, f_tableFrame, f_tableWord, f_target, f_reached, f_faultAddress, f_faultCode, f_accesses, f_faults, f_pc, f_savedPc, f_cause, f_output, f_outputs, f_traps, f_user, f_savedUser, f_stopped, f_trapped, f_any, f_keptPaging, f_keptGuard, f_keptRoot, a_page, a_users, a_held, a_away, a_roomRoot, a_leadsTo, a_rights, a_table, a_register, a_ops, a_first, a_second, a_numbers, a_kept) (nI op) (nI r) (nI s) (nI n)) : wX_step_110 post (nI a) (nI op) 0 f_paging f_guard f_root f_logged f_room f_oldest f_dirWord f_tableFrame f_tableWord f_target f_reached f_faultAddress f_faultCode f_accesses f_faults f_pc f_savedPc f_cause f_output f_outputs f_traps f_user f_savedUser f_stopped f_trapped f_any f_keptPaging f_keptGuard f_keptRoot a_page a_users a_held a_away a_roomRoot a_leadsTo a_rights a_table a_register a_ops a_first a_second a_numbers a_kept := by
  unfold wX_step_110
  rw [nI_clamp (show a < 2 ^ 31 by omega), ef, es, en]
  refine br_t rfl (br_f (fun z => h5 (sg_inj (b := 5) (by omega) (by omega) z)) (br_f (fun z => h6 (sg_inj (b := 6) (by omega) (by omega) z)) (br_t (nI_le (b := 10) hop (by omega)) ?_)))
  refine ⟨vp_in_nI ha (by omega), vp_in_nI ha (by omega), vp_in_nI ha (by omega), h _ (fun u hu => ?_)⟩
  obtain ⟨f_paging, f_guard, f_root, f_logged, f_room, f_oldest, f_dirWord, f_tableFrame, f_tableWord, f_target, f_reached, f_faultAddress, f_faultCode, f_accesses, f_faults, f_pc, f_savedPc, f_cause, f_output, f_outputs, f_traps, f_user, f_savedUser, f_stopped, f_trapped, f_any, f_keptPaging, f_keptGuard, f_keptRoot, a_page, a_users, a_held, a_away, a_roomRoot, a_leadsTo, a_rights, a_table, a_register, a_ops, a_first, a_second, a_numbers, a_kept⟩ := u
  exact hu
theorem xs_k_priv {post : SX → Prop} {a op r n : Nat} (ha : a < 128) (hop : 10 < op) (hop2 : op < 16) (ef : a_first a = nI r) (en : a_numbers a = nI n) (h : ∀ post' : SX → Prop, (∀ u, post u → post' u) → wpX_privileged post' (f_paging, f_guard, f_root, f_logged, f_room, f_oldest, f_dirWord, f_tableFrame, f_tableWord, f_target, f_reached, f_faultAddress, f_faultCode, f_accesses, f_faults, f_pc, f_savedPc, f_cause, f_output, f_outputs, f_traps, f_user, f_savedUser, f_stopped, f_trapped, f_any, f_keptPaging, f_keptGuard, f_keptRoot, a_page, a_users, a_held, a_away, a_roomRoot, a_leadsTo, a_rights, a_table, a_register, a_ops, a_first, a_second, a_numbers, a_kept) (nI op) (nI r) (nI n)) : wX_step_110 post (nI a) (nI op) 0 f_paging f_guard f_root f_logged f_room f_oldest f_dirWord f_tableFrame f_tableWord f_target f_reached f_faultAddress f_faultCode f_accesses f_faults f_pc f_savedPc f_cause f_output f_outputs f_traps f_user f_savedUser f_stopped f_trapped f_any f_keptPaging f_keptGuard f_keptRoot a_page a_users a_held a_away a_roomRoot a_leadsTo a_rights a_table a_register a_ops a_first a_second a_numbers a_kept := by
  unfold wX_step_110
  rw [nI_clamp (show a < 2 ^ 31 by omega), ef, en]
  refine br_t rfl (br_f (fun z => absurd (sg_inj (b := 5) (by omega) (by omega) z) (by omega)) (br_f (fun z => absurd (sg_inj (b := 6) (by omega) (by omega) z) (by omega)) (br_f (nI_ge (a := 10) hop (by omega)) ?_)))
  refine ⟨vp_in_nI ha (by omega), vp_in_nI ha (by omega), h _ (fun u hu => ?_)⟩
  obtain ⟨f_paging, f_guard, f_root, f_logged, f_room, f_oldest, f_dirWord, f_tableFrame, f_tableWord, f_target, f_reached, f_faultAddress, f_faultCode, f_accesses, f_faults, f_pc, f_savedPc, f_cause, f_output, f_outputs, f_traps, f_user, f_savedUser, f_stopped, f_trapped, f_any, f_keptPaging, f_keptGuard, f_keptRoot, a_page, a_users, a_held, a_away, a_roomRoot, a_leadsTo, a_rights, a_table, a_register, a_ops, a_first, a_second, a_numbers, a_kept⟩ := u
  exact hu
theorem ys_k_trap {post : SY → Prop} (h : ∀ post' : SY → Prop, (∀ u, post u → post' u) → wpY_trap post' (y_root, y_keptRoot, f_logged, f_accesses, f_faults, f_faultAddress, y_faultCode, f_guard, f_keptGuard, f_any, y_first, y_second, y_goal, y_code, f_pc, f_savedPc, f_cause, f_output, f_outputs, f_traps, f_user, f_savedUser, f_stopped, y_behindTrap, W, a_kept, G, a_register) 3 f_pc) : wY_step_130 post y_root y_keptRoot f_logged f_accesses f_faults f_faultAddress y_faultCode f_guard f_keptGuard f_any y_first y_second y_goal y_code f_pc f_savedPc f_cause f_output f_outputs f_traps f_user f_savedUser f_stopped y_behindTrap W a_kept G a_register := by
  unfold wY_step_130
  refine h _ (fun u hu => ?_)
  obtain ⟨y_root', y_keptRoot', f_logged', f_accesses', f_faults', f_faultAddress', y_faultCode', f_guard', f_keptGuard', f_any', y_first', y_second', y_goal', y_code', f_pc', f_savedPc', f_cause', f_output', f_outputs', f_traps', f_user', f_savedUser', f_stopped', y_behindTrap', W', a_kept', G', a_register'⟩ := u
  exact hu
theorem ys_k_9 {post : SY → Prop} {x4 x5 x6 : Int32} (h : ∀ post' : SY → Prop, (∀ u, post u → post' u) → wpY_trap post' (y_root, y_keptRoot, f_logged, f_accesses, f_faults, f_faultAddress, y_faultCode, f_guard, f_keptGuard, f_any, y_first, y_second, y_goal, y_code, f_pc, f_savedPc, f_cause, f_output, f_outputs, f_traps, f_user, f_savedUser, f_stopped, y_behindTrap, W, a_kept, G, a_register) 2 (f_pc + 1)) : wY_step_142 post (nI 9) x4 x5 x6 y_root y_keptRoot f_logged f_accesses f_faults f_faultAddress y_faultCode f_guard f_keptGuard f_any y_first y_second y_goal y_code f_pc f_savedPc f_cause f_output f_outputs f_traps f_user f_savedUser f_stopped y_behindTrap W a_kept G a_register := by
  unfold wY_step_142
  refine br_t rfl (h _ (fun u hu => ?_))
  obtain ⟨y_root', y_keptRoot', f_logged', f_accesses', f_faults', f_faultAddress', y_faultCode', f_guard', f_keptGuard', f_any', y_first', y_second', y_goal', y_code', f_pc', f_savedPc', f_cause', f_output', f_outputs', f_traps', f_user', f_savedUser', f_stopped', y_behindTrap', W', a_kept', G', a_register'⟩ := u
  exact hu
theorem ys_k_mem {post : SY → Prop} {op : Nat} {x4 x5 x6 : Int32} (h56 : op = 5 ∨ op = 6) (h : wY_step_173 post (nI op) x4 x5 y_root y_keptRoot f_logged f_accesses f_faults f_faultAddress y_faultCode f_guard f_keptGuard f_any y_first y_second y_goal y_code f_pc f_savedPc f_cause f_output f_outputs f_traps f_user f_savedUser f_stopped y_behindTrap W a_kept G a_register) : wY_step_142 post (nI op) x4 x5 x6 y_root y_keptRoot f_logged f_accesses f_faults f_faultAddress y_faultCode f_guard f_keptGuard f_any y_first y_second y_goal y_code f_pc f_savedPc f_cause f_output f_outputs f_traps f_user f_savedUser f_stopped y_behindTrap W a_kept G a_register := by
  unfold wY_step_142
  rcases h56 with rfl | rfl
  · exact br_f (by decide) (br_t rfl h)
  · exact br_f (by decide) (br_f (by decide) (br_t rfl h))
theorem ys_k_plain {post : SY → Prop} {op : Nat} {x4 x5 x6 : Int32} (hop : op < 16) (h5 : op ≠ 5) (h6 : op ≠ 6) (h9 : op ≠ 9) (h : ∀ post' : SY → Prop, (∀ u, post u → post' u) → wpY_plain post' (y_root, y_keptRoot, f_logged, f_accesses, f_faults, f_faultAddress, y_faultCode, f_guard, f_keptGuard, f_any, y_first, y_second, y_goal, y_code, f_pc, f_savedPc, f_cause, f_output, f_outputs, f_traps, f_user, f_savedUser, f_stopped, y_behindTrap, W, a_kept, G, a_register) (nI op) x4 x5 x6) : wY_step_142 post (nI op) x4 x5 x6 y_root y_keptRoot f_logged f_accesses f_faults f_faultAddress y_faultCode f_guard f_keptGuard f_any y_first y_second y_goal y_code f_pc f_savedPc f_cause f_output f_outputs f_traps f_user f_savedUser f_stopped y_behindTrap W a_kept G a_register := by
  unfold wY_step_142
  refine br_f (fun z => h9 (sg_inj (b := 9) (by omega) (by omega) z)) (br_f (fun z => h5 (sg_inj (b := 5) (by omega) (by omega) z)) (br_f (fun z => h6 (sg_inj (b := 6) (by omega) (by omega) z)) (h _ (fun u hu => ?_))))
  obtain ⟨y_root', y_keptRoot', f_logged', f_accesses', f_faults', f_faultAddress', y_faultCode', f_guard', f_keptGuard', f_any', y_first', y_second', y_goal', y_code', f_pc', f_savedPc', f_cause', f_output', f_outputs', f_traps', f_user', f_savedUser', f_stopped', y_behindTrap', W', a_kept', G', a_register'⟩ := u
  exact hu
theorem sg_ops {a op r s n : Nat} (ha : a < 128) (hop : op < 16) (hr : r < 4) (hs4 : s < 4) (ef : a_first a = nI r) (es : a_second a = nI s) (en : a_numbers a = nI n) (hS : sg_S a_page a_users a_held a_away a_roomRoot a_leadsTo a_rights a_table a_ops a_first a_second a_numbers f_guard W G) (hP : sg_P f_paging f_root f_room a_roomRoot y_root) (hF : sg_Fa f_faultAddress f_faultCode y_faultCode) (ho : ∃ o, o < 3 ∧ f_oldest = nI o) (hg : f_guard = 0 ∨ f_guard = 1) (hu : f_user = 0 ∨ f_user = 1) (hs : f_savedUser = 0 ∨ f_savedUser = 1) (hK : sg_K f_any f_keptPaging f_keptGuard f_keptRoot y_keptRoot) : sg_SO (fun post => wX_step_110 post (nI a) (nI op) 0 f_paging f_guard f_root f_logged f_room f_oldest f_dirWord f_tableFrame f_tableWord f_target f_reached f_faultAddress f_faultCode f_accesses f_faults f_pc f_savedPc f_cause f_output f_outputs f_traps f_user f_savedUser f_stopped 0 f_any f_keptPaging f_keptGuard f_keptRoot a_page a_users a_held a_away a_roomRoot a_leadsTo a_rights a_table a_register a_ops a_first a_second a_numbers a_kept) (fun post => wY_step_142 post (nI op) (nI r) (nI s) (nI n) y_root y_keptRoot f_logged f_accesses f_faults f_faultAddress y_faultCode f_guard f_keptGuard f_any y_first y_second y_goal y_code f_pc f_savedPc f_cause f_output f_outputs f_traps f_user f_savedUser f_stopped 0 W a_kept G a_register) := by
  rcases (show op = 0 ∨ op = 1 ∨ op = 2 ∨ op = 3 ∨ op = 4 ∨ op = 5 ∨ op = 6 ∨ op = 7 ∨ op = 8 ∨ op = 9 ∨ op = 10 ∨ op = 11 ∨ op = 12 ∨ op = 13 ∨ op = 14 ∨ op = 15 by omega) with rfl | rfl | rfl | rfl | rfl | rfl | rfl | rfl | rfl | rfl | rfl | rfl | rfl | rfl | rfl | rfl
  · obtain ⟨u', v', q, hx, hy⟩ := sg_so_p0 (f_paging := f_paging) (f_guard := f_guard) (f_root := f_root) (f_logged := f_logged) (f_room := f_room) (f_oldest := f_oldest) (f_dirWord := f_dirWord) (f_tableFrame := f_tableFrame) (f_tableWord := f_tableWord) (f_target := f_target) (f_reached := f_reached) (f_faultAddress := f_faultAddress) (f_faultCode := f_faultCode) (f_accesses := f_accesses) (f_faults := f_faults) (f_pc := f_pc) (f_savedPc := f_savedPc) (f_cause := f_cause) (f_output := f_output) (f_outputs := f_outputs) (f_traps := f_traps) (f_user := f_user) (f_savedUser := f_savedUser) (f_stopped := f_stopped) (f_any := f_any) (f_keptPaging := f_keptPaging) (f_keptGuard := f_keptGuard) (f_keptRoot := f_keptRoot) (y_root := y_root) (y_keptRoot := y_keptRoot) (y_faultCode := y_faultCode) (y_first := y_first) (y_second := y_second) (y_goal := y_goal) (y_code := y_code) (a_page := a_page) (a_users := a_users) (a_held := a_held) (a_away := a_away) (a_roomRoot := a_roomRoot) (a_leadsTo := a_leadsTo) (a_rights := a_rights) (a_table := a_table) (a_register := a_register) (a_ops := a_ops) (a_first := a_first) (a_second := a_second) (a_numbers := a_numbers) (a_kept := a_kept) (W := W) (G := G) (n := n) hr hs4 hS hP hF ho hg hu hs hK
    exact ⟨u', v', q, fun post h => xs_k_plain ha (by omega) (by omega) (by omega) ef es en (fun post' k => hx post' (k u' h)), fun post h => ys_k_plain (by omega) (by omega) (by omega) (by omega) (fun post' k => hy post' (k v' h))⟩
  · obtain ⟨u', v', q, hx, hy⟩ := sg_so_p1 (f_paging := f_paging) (f_guard := f_guard) (f_root := f_root) (f_logged := f_logged) (f_room := f_room) (f_oldest := f_oldest) (f_dirWord := f_dirWord) (f_tableFrame := f_tableFrame) (f_tableWord := f_tableWord) (f_target := f_target) (f_reached := f_reached) (f_faultAddress := f_faultAddress) (f_faultCode := f_faultCode) (f_accesses := f_accesses) (f_faults := f_faults) (f_pc := f_pc) (f_savedPc := f_savedPc) (f_cause := f_cause) (f_output := f_output) (f_outputs := f_outputs) (f_traps := f_traps) (f_user := f_user) (f_savedUser := f_savedUser) (f_stopped := f_stopped) (f_any := f_any) (f_keptPaging := f_keptPaging) (f_keptGuard := f_keptGuard) (f_keptRoot := f_keptRoot) (y_root := y_root) (y_keptRoot := y_keptRoot) (y_faultCode := y_faultCode) (y_first := y_first) (y_second := y_second) (y_goal := y_goal) (y_code := y_code) (a_page := a_page) (a_users := a_users) (a_held := a_held) (a_away := a_away) (a_roomRoot := a_roomRoot) (a_leadsTo := a_leadsTo) (a_rights := a_rights) (a_table := a_table) (a_register := a_register) (a_ops := a_ops) (a_first := a_first) (a_second := a_second) (a_numbers := a_numbers) (a_kept := a_kept) (W := W) (G := G) (n := n) hr hs4 hS hP hF ho hg hu hs hK
    exact ⟨u', v', q, fun post h => xs_k_plain ha (by omega) (by omega) (by omega) ef es en (fun post' k => hx post' (k u' h)), fun post h => ys_k_plain (by omega) (by omega) (by omega) (by omega) (fun post' k => hy post' (k v' h))⟩
  · obtain ⟨u', v', q, hx, hy⟩ := sg_so_p2 (f_paging := f_paging) (f_guard := f_guard) (f_root := f_root) (f_logged := f_logged) (f_room := f_room) (f_oldest := f_oldest) (f_dirWord := f_dirWord) (f_tableFrame := f_tableFrame) (f_tableWord := f_tableWord) (f_target := f_target) (f_reached := f_reached) (f_faultAddress := f_faultAddress) (f_faultCode := f_faultCode) (f_accesses := f_accesses) (f_faults := f_faults) (f_pc := f_pc) (f_savedPc := f_savedPc) (f_cause := f_cause) (f_output := f_output) (f_outputs := f_outputs) (f_traps := f_traps) (f_user := f_user) (f_savedUser := f_savedUser) (f_stopped := f_stopped) (f_any := f_any) (f_keptPaging := f_keptPaging) (f_keptGuard := f_keptGuard) (f_keptRoot := f_keptRoot) (y_root := y_root) (y_keptRoot := y_keptRoot) (y_faultCode := y_faultCode) (y_first := y_first) (y_second := y_second) (y_goal := y_goal) (y_code := y_code) (a_page := a_page) (a_users := a_users) (a_held := a_held) (a_away := a_away) (a_roomRoot := a_roomRoot) (a_leadsTo := a_leadsTo) (a_rights := a_rights) (a_table := a_table) (a_register := a_register) (a_ops := a_ops) (a_first := a_first) (a_second := a_second) (a_numbers := a_numbers) (a_kept := a_kept) (W := W) (G := G) (n := n) hr hs4 hS hP hF ho hg hu hs hK
    exact ⟨u', v', q, fun post h => xs_k_plain ha (by omega) (by omega) (by omega) ef es en (fun post' k => hx post' (k u' h)), fun post h => ys_k_plain (by omega) (by omega) (by omega) (by omega) (fun post' k => hy post' (k v' h))⟩
  · obtain ⟨u', v', q, hx, hy⟩ := sg_so_p3 (f_paging := f_paging) (f_guard := f_guard) (f_root := f_root) (f_logged := f_logged) (f_room := f_room) (f_oldest := f_oldest) (f_dirWord := f_dirWord) (f_tableFrame := f_tableFrame) (f_tableWord := f_tableWord) (f_target := f_target) (f_reached := f_reached) (f_faultAddress := f_faultAddress) (f_faultCode := f_faultCode) (f_accesses := f_accesses) (f_faults := f_faults) (f_pc := f_pc) (f_savedPc := f_savedPc) (f_cause := f_cause) (f_output := f_output) (f_outputs := f_outputs) (f_traps := f_traps) (f_user := f_user) (f_savedUser := f_savedUser) (f_stopped := f_stopped) (f_any := f_any) (f_keptPaging := f_keptPaging) (f_keptGuard := f_keptGuard) (f_keptRoot := f_keptRoot) (y_root := y_root) (y_keptRoot := y_keptRoot) (y_faultCode := y_faultCode) (y_first := y_first) (y_second := y_second) (y_goal := y_goal) (y_code := y_code) (a_page := a_page) (a_users := a_users) (a_held := a_held) (a_away := a_away) (a_roomRoot := a_roomRoot) (a_leadsTo := a_leadsTo) (a_rights := a_rights) (a_table := a_table) (a_register := a_register) (a_ops := a_ops) (a_first := a_first) (a_second := a_second) (a_numbers := a_numbers) (a_kept := a_kept) (W := W) (G := G) (n := n) hr hs4 hS hP hF ho hg hu hs hK
    exact ⟨u', v', q, fun post h => xs_k_plain ha (by omega) (by omega) (by omega) ef es en (fun post' k => hx post' (k u' h)), fun post h => ys_k_plain (by omega) (by omega) (by omega) (by omega) (fun post' k => hy post' (k v' h))⟩
  · obtain ⟨u', v', q, hx, hy⟩ := sg_so_p4 (f_paging := f_paging) (f_guard := f_guard) (f_root := f_root) (f_logged := f_logged) (f_room := f_room) (f_oldest := f_oldest) (f_dirWord := f_dirWord) (f_tableFrame := f_tableFrame) (f_tableWord := f_tableWord) (f_target := f_target) (f_reached := f_reached) (f_faultAddress := f_faultAddress) (f_faultCode := f_faultCode) (f_accesses := f_accesses) (f_faults := f_faults) (f_pc := f_pc) (f_savedPc := f_savedPc) (f_cause := f_cause) (f_output := f_output) (f_outputs := f_outputs) (f_traps := f_traps) (f_user := f_user) (f_savedUser := f_savedUser) (f_stopped := f_stopped) (f_any := f_any) (f_keptPaging := f_keptPaging) (f_keptGuard := f_keptGuard) (f_keptRoot := f_keptRoot) (y_root := y_root) (y_keptRoot := y_keptRoot) (y_faultCode := y_faultCode) (y_first := y_first) (y_second := y_second) (y_goal := y_goal) (y_code := y_code) (a_page := a_page) (a_users := a_users) (a_held := a_held) (a_away := a_away) (a_roomRoot := a_roomRoot) (a_leadsTo := a_leadsTo) (a_rights := a_rights) (a_table := a_table) (a_register := a_register) (a_ops := a_ops) (a_first := a_first) (a_second := a_second) (a_numbers := a_numbers) (a_kept := a_kept) (W := W) (G := G) (n := n) hr hs4 hS hP hF ho hg hu hs hK
    exact ⟨u', v', q, fun post h => xs_k_plain ha (by omega) (by omega) (by omega) ef es en (fun post' k => hx post' (k u' h)), fun post h => ys_k_plain (by omega) (by omega) (by omega) (by omega) (fun post' k => hy post' (k v' h))⟩
  · obtain ⟨u', v', q, hx, hy⟩ := sg_so_m5 (f_paging := f_paging) (f_guard := f_guard) (f_root := f_root) (f_logged := f_logged) (f_room := f_room) (f_oldest := f_oldest) (f_dirWord := f_dirWord) (f_tableFrame := f_tableFrame) (f_tableWord := f_tableWord) (f_target := f_target) (f_reached := f_reached) (f_faultAddress := f_faultAddress) (f_faultCode := f_faultCode) (f_accesses := f_accesses) (f_faults := f_faults) (f_pc := f_pc) (f_savedPc := f_savedPc) (f_cause := f_cause) (f_output := f_output) (f_outputs := f_outputs) (f_traps := f_traps) (f_user := f_user) (f_savedUser := f_savedUser) (f_stopped := f_stopped) (f_any := f_any) (f_keptPaging := f_keptPaging) (f_keptGuard := f_keptGuard) (f_keptRoot := f_keptRoot) (y_root := y_root) (y_keptRoot := y_keptRoot) (y_faultCode := y_faultCode) (y_first := y_first) (y_second := y_second) (y_goal := y_goal) (y_code := y_code) (a_page := a_page) (a_users := a_users) (a_held := a_held) (a_away := a_away) (a_roomRoot := a_roomRoot) (a_leadsTo := a_leadsTo) (a_rights := a_rights) (a_table := a_table) (a_register := a_register) (a_ops := a_ops) (a_first := a_first) (a_second := a_second) (a_numbers := a_numbers) (a_kept := a_kept) (W := W) (G := G) hr hs4 hS hP hF ho hg hu hs hK
    exact ⟨u', v', q, fun post h => xs_k_move ha (by omega) ef es (fun post' k => hx post' (k u' h)), fun post h => ys_k_mem (by omega) (hy post h)⟩
  · obtain ⟨u', v', q, hx, hy⟩ := sg_so_m6 (f_paging := f_paging) (f_guard := f_guard) (f_root := f_root) (f_logged := f_logged) (f_room := f_room) (f_oldest := f_oldest) (f_dirWord := f_dirWord) (f_tableFrame := f_tableFrame) (f_tableWord := f_tableWord) (f_target := f_target) (f_reached := f_reached) (f_faultAddress := f_faultAddress) (f_faultCode := f_faultCode) (f_accesses := f_accesses) (f_faults := f_faults) (f_pc := f_pc) (f_savedPc := f_savedPc) (f_cause := f_cause) (f_output := f_output) (f_outputs := f_outputs) (f_traps := f_traps) (f_user := f_user) (f_savedUser := f_savedUser) (f_stopped := f_stopped) (f_any := f_any) (f_keptPaging := f_keptPaging) (f_keptGuard := f_keptGuard) (f_keptRoot := f_keptRoot) (y_root := y_root) (y_keptRoot := y_keptRoot) (y_faultCode := y_faultCode) (y_first := y_first) (y_second := y_second) (y_goal := y_goal) (y_code := y_code) (a_page := a_page) (a_users := a_users) (a_held := a_held) (a_away := a_away) (a_roomRoot := a_roomRoot) (a_leadsTo := a_leadsTo) (a_rights := a_rights) (a_table := a_table) (a_register := a_register) (a_ops := a_ops) (a_first := a_first) (a_second := a_second) (a_numbers := a_numbers) (a_kept := a_kept) (W := W) (G := G) hr hs4 hS hP hF ho hg hu hs hK
    exact ⟨u', v', q, fun post h => xs_k_move ha (by omega) ef es (fun post' k => hx post' (k u' h)), fun post h => ys_k_mem (by omega) (hy post h)⟩
  · obtain ⟨u', v', q, hx, hy⟩ := sg_so_p7 (f_paging := f_paging) (f_guard := f_guard) (f_root := f_root) (f_logged := f_logged) (f_room := f_room) (f_oldest := f_oldest) (f_dirWord := f_dirWord) (f_tableFrame := f_tableFrame) (f_tableWord := f_tableWord) (f_target := f_target) (f_reached := f_reached) (f_faultAddress := f_faultAddress) (f_faultCode := f_faultCode) (f_accesses := f_accesses) (f_faults := f_faults) (f_pc := f_pc) (f_savedPc := f_savedPc) (f_cause := f_cause) (f_output := f_output) (f_outputs := f_outputs) (f_traps := f_traps) (f_user := f_user) (f_savedUser := f_savedUser) (f_stopped := f_stopped) (f_any := f_any) (f_keptPaging := f_keptPaging) (f_keptGuard := f_keptGuard) (f_keptRoot := f_keptRoot) (y_root := y_root) (y_keptRoot := y_keptRoot) (y_faultCode := y_faultCode) (y_first := y_first) (y_second := y_second) (y_goal := y_goal) (y_code := y_code) (a_page := a_page) (a_users := a_users) (a_held := a_held) (a_away := a_away) (a_roomRoot := a_roomRoot) (a_leadsTo := a_leadsTo) (a_rights := a_rights) (a_table := a_table) (a_register := a_register) (a_ops := a_ops) (a_first := a_first) (a_second := a_second) (a_numbers := a_numbers) (a_kept := a_kept) (W := W) (G := G) (n := n) hr hs4 hS hP hF ho hg hu hs hK
    exact ⟨u', v', q, fun post h => xs_k_plain ha (by omega) (by omega) (by omega) ef es en (fun post' k => hx post' (k u' h)), fun post h => ys_k_plain (by omega) (by omega) (by omega) (by omega) (fun post' k => hy post' (k v' h))⟩
  · obtain ⟨u', v', q, hx, hy⟩ := sg_so_p8 (f_paging := f_paging) (f_guard := f_guard) (f_root := f_root) (f_logged := f_logged) (f_room := f_room) (f_oldest := f_oldest) (f_dirWord := f_dirWord) (f_tableFrame := f_tableFrame) (f_tableWord := f_tableWord) (f_target := f_target) (f_reached := f_reached) (f_faultAddress := f_faultAddress) (f_faultCode := f_faultCode) (f_accesses := f_accesses) (f_faults := f_faults) (f_pc := f_pc) (f_savedPc := f_savedPc) (f_cause := f_cause) (f_output := f_output) (f_outputs := f_outputs) (f_traps := f_traps) (f_user := f_user) (f_savedUser := f_savedUser) (f_stopped := f_stopped) (f_any := f_any) (f_keptPaging := f_keptPaging) (f_keptGuard := f_keptGuard) (f_keptRoot := f_keptRoot) (y_root := y_root) (y_keptRoot := y_keptRoot) (y_faultCode := y_faultCode) (y_first := y_first) (y_second := y_second) (y_goal := y_goal) (y_code := y_code) (a_page := a_page) (a_users := a_users) (a_held := a_held) (a_away := a_away) (a_roomRoot := a_roomRoot) (a_leadsTo := a_leadsTo) (a_rights := a_rights) (a_table := a_table) (a_register := a_register) (a_ops := a_ops) (a_first := a_first) (a_second := a_second) (a_numbers := a_numbers) (a_kept := a_kept) (W := W) (G := G) (n := n) hr hs4 hS hP hF ho hg hu hs hK
    exact ⟨u', v', q, fun post h => xs_k_plain ha (by omega) (by omega) (by omega) ef es en (fun post' k => hx post' (k u' h)), fun post h => ys_k_plain (by omega) (by omega) (by omega) (by omega) (fun post' k => hy post' (k v' h))⟩
  · obtain ⟨u', v', q, hx, hy⟩ := sg_so_p9 (f_paging := f_paging) (f_guard := f_guard) (f_root := f_root) (f_logged := f_logged) (f_room := f_room) (f_oldest := f_oldest) (f_dirWord := f_dirWord) (f_tableFrame := f_tableFrame) (f_tableWord := f_tableWord) (f_target := f_target) (f_reached := f_reached) (f_faultAddress := f_faultAddress) (f_faultCode := f_faultCode) (f_accesses := f_accesses) (f_faults := f_faults) (f_pc := f_pc) (f_savedPc := f_savedPc) (f_cause := f_cause) (f_output := f_output) (f_outputs := f_outputs) (f_traps := f_traps) (f_user := f_user) (f_savedUser := f_savedUser) (f_stopped := f_stopped) (f_any := f_any) (f_keptPaging := f_keptPaging) (f_keptGuard := f_keptGuard) (f_keptRoot := f_keptRoot) (y_root := y_root) (y_keptRoot := y_keptRoot) (y_faultCode := y_faultCode) (y_first := y_first) (y_second := y_second) (y_goal := y_goal) (y_code := y_code) (a_page := a_page) (a_users := a_users) (a_held := a_held) (a_away := a_away) (a_roomRoot := a_roomRoot) (a_leadsTo := a_leadsTo) (a_rights := a_rights) (a_table := a_table) (a_register := a_register) (a_ops := a_ops) (a_first := a_first) (a_second := a_second) (a_numbers := a_numbers) (a_kept := a_kept) (W := W) (G := G) (r := r) (s := s) (n := n) hS hP hF ho hg hu hs hK
    exact ⟨u', v', q, fun post h => xs_k_plain ha (by omega) (by omega) (by omega) ef es en (fun post' k => hx post' (k u' h)), fun post h => ys_k_9 (fun post' k => hy post' (k v' h))⟩
  · obtain ⟨u', v', q, hx, hy⟩ := sg_so_p10 (f_paging := f_paging) (f_guard := f_guard) (f_root := f_root) (f_logged := f_logged) (f_room := f_room) (f_oldest := f_oldest) (f_dirWord := f_dirWord) (f_tableFrame := f_tableFrame) (f_tableWord := f_tableWord) (f_target := f_target) (f_reached := f_reached) (f_faultAddress := f_faultAddress) (f_faultCode := f_faultCode) (f_accesses := f_accesses) (f_faults := f_faults) (f_pc := f_pc) (f_savedPc := f_savedPc) (f_cause := f_cause) (f_output := f_output) (f_outputs := f_outputs) (f_traps := f_traps) (f_user := f_user) (f_savedUser := f_savedUser) (f_stopped := f_stopped) (f_any := f_any) (f_keptPaging := f_keptPaging) (f_keptGuard := f_keptGuard) (f_keptRoot := f_keptRoot) (y_root := y_root) (y_keptRoot := y_keptRoot) (y_faultCode := y_faultCode) (y_first := y_first) (y_second := y_second) (y_goal := y_goal) (y_code := y_code) (a_page := a_page) (a_users := a_users) (a_held := a_held) (a_away := a_away) (a_roomRoot := a_roomRoot) (a_leadsTo := a_leadsTo) (a_rights := a_rights) (a_table := a_table) (a_register := a_register) (a_ops := a_ops) (a_first := a_first) (a_second := a_second) (a_numbers := a_numbers) (a_kept := a_kept) (W := W) (G := G) (n := n) hr hs4 hS hP hF ho hg hu hs hK
    exact ⟨u', v', q, fun post h => xs_k_plain ha (by omega) (by omega) (by omega) ef es en (fun post' k => hx post' (k u' h)), fun post h => ys_k_plain (by omega) (by omega) (by omega) (by omega) (fun post' k => hy post' (k v' h))⟩
  · obtain ⟨u', v', q, hx, hy⟩ := sg_so_v11 (f_paging := f_paging) (f_guard := f_guard) (f_root := f_root) (f_logged := f_logged) (f_room := f_room) (f_oldest := f_oldest) (f_dirWord := f_dirWord) (f_tableFrame := f_tableFrame) (f_tableWord := f_tableWord) (f_target := f_target) (f_reached := f_reached) (f_faultAddress := f_faultAddress) (f_faultCode := f_faultCode) (f_accesses := f_accesses) (f_faults := f_faults) (f_pc := f_pc) (f_savedPc := f_savedPc) (f_cause := f_cause) (f_output := f_output) (f_outputs := f_outputs) (f_traps := f_traps) (f_user := f_user) (f_savedUser := f_savedUser) (f_stopped := f_stopped) (f_any := f_any) (f_keptPaging := f_keptPaging) (f_keptGuard := f_keptGuard) (f_keptRoot := f_keptRoot) (y_root := y_root) (y_keptRoot := y_keptRoot) (y_faultCode := y_faultCode) (y_first := y_first) (y_second := y_second) (y_goal := y_goal) (y_code := y_code) (a_page := a_page) (a_users := a_users) (a_held := a_held) (a_away := a_away) (a_roomRoot := a_roomRoot) (a_leadsTo := a_leadsTo) (a_rights := a_rights) (a_table := a_table) (a_register := a_register) (a_ops := a_ops) (a_first := a_first) (a_second := a_second) (a_numbers := a_numbers) (a_kept := a_kept) (W := W) (G := G) (s := s) (n := n) hr hS hP hF ho hg hu hs hK
    exact ⟨u', v', q, fun post h => xs_k_priv ha (by omega) (by omega) ef en (fun post' k => hx post' (k u' h)), fun post h => ys_k_plain (by omega) (by omega) (by omega) (by omega) (fun post' k => hy post' (k v' h))⟩
  · obtain ⟨u', v', q, hx, hy⟩ := sg_so_v12 (f_paging := f_paging) (f_guard := f_guard) (f_root := f_root) (f_logged := f_logged) (f_room := f_room) (f_oldest := f_oldest) (f_dirWord := f_dirWord) (f_tableFrame := f_tableFrame) (f_tableWord := f_tableWord) (f_target := f_target) (f_reached := f_reached) (f_faultAddress := f_faultAddress) (f_faultCode := f_faultCode) (f_accesses := f_accesses) (f_faults := f_faults) (f_pc := f_pc) (f_savedPc := f_savedPc) (f_cause := f_cause) (f_output := f_output) (f_outputs := f_outputs) (f_traps := f_traps) (f_user := f_user) (f_savedUser := f_savedUser) (f_stopped := f_stopped) (f_any := f_any) (f_keptPaging := f_keptPaging) (f_keptGuard := f_keptGuard) (f_keptRoot := f_keptRoot) (y_root := y_root) (y_keptRoot := y_keptRoot) (y_faultCode := y_faultCode) (y_first := y_first) (y_second := y_second) (y_goal := y_goal) (y_code := y_code) (a_page := a_page) (a_users := a_users) (a_held := a_held) (a_away := a_away) (a_roomRoot := a_roomRoot) (a_leadsTo := a_leadsTo) (a_rights := a_rights) (a_table := a_table) (a_register := a_register) (a_ops := a_ops) (a_first := a_first) (a_second := a_second) (a_numbers := a_numbers) (a_kept := a_kept) (W := W) (G := G) (s := s) (n := n) hr hS hP hF ho hg hu hs hK
    exact ⟨u', v', q, fun post h => xs_k_priv ha (by omega) (by omega) ef en (fun post' k => hx post' (k u' h)), fun post h => ys_k_plain (by omega) (by omega) (by omega) (by omega) (fun post' k => hy post' (k v' h))⟩
  · obtain ⟨u', v', q, hx, hy⟩ := sg_so_v13 (f_paging := f_paging) (f_guard := f_guard) (f_root := f_root) (f_logged := f_logged) (f_room := f_room) (f_oldest := f_oldest) (f_dirWord := f_dirWord) (f_tableFrame := f_tableFrame) (f_tableWord := f_tableWord) (f_target := f_target) (f_reached := f_reached) (f_faultAddress := f_faultAddress) (f_faultCode := f_faultCode) (f_accesses := f_accesses) (f_faults := f_faults) (f_pc := f_pc) (f_savedPc := f_savedPc) (f_cause := f_cause) (f_output := f_output) (f_outputs := f_outputs) (f_traps := f_traps) (f_user := f_user) (f_savedUser := f_savedUser) (f_stopped := f_stopped) (f_any := f_any) (f_keptPaging := f_keptPaging) (f_keptGuard := f_keptGuard) (f_keptRoot := f_keptRoot) (y_root := y_root) (y_keptRoot := y_keptRoot) (y_faultCode := y_faultCode) (y_first := y_first) (y_second := y_second) (y_goal := y_goal) (y_code := y_code) (a_page := a_page) (a_users := a_users) (a_held := a_held) (a_away := a_away) (a_roomRoot := a_roomRoot) (a_leadsTo := a_leadsTo) (a_rights := a_rights) (a_table := a_table) (a_register := a_register) (a_ops := a_ops) (a_first := a_first) (a_second := a_second) (a_numbers := a_numbers) (a_kept := a_kept) (W := W) (G := G) (s := s) (n := n) hr hS hP hF ho hg hu hs hK
    exact ⟨u', v', q, fun post h => xs_k_priv ha (by omega) (by omega) ef en (fun post' k => hx post' (k u' h)), fun post h => ys_k_plain (by omega) (by omega) (by omega) (by omega) (fun post' k => hy post' (k v' h))⟩
  · obtain ⟨u', v', q, hx, hy⟩ := sg_so_v14 (f_paging := f_paging) (f_guard := f_guard) (f_root := f_root) (f_logged := f_logged) (f_room := f_room) (f_oldest := f_oldest) (f_dirWord := f_dirWord) (f_tableFrame := f_tableFrame) (f_tableWord := f_tableWord) (f_target := f_target) (f_reached := f_reached) (f_faultAddress := f_faultAddress) (f_faultCode := f_faultCode) (f_accesses := f_accesses) (f_faults := f_faults) (f_pc := f_pc) (f_savedPc := f_savedPc) (f_cause := f_cause) (f_output := f_output) (f_outputs := f_outputs) (f_traps := f_traps) (f_user := f_user) (f_savedUser := f_savedUser) (f_stopped := f_stopped) (f_any := f_any) (f_keptPaging := f_keptPaging) (f_keptGuard := f_keptGuard) (f_keptRoot := f_keptRoot) (y_root := y_root) (y_keptRoot := y_keptRoot) (y_faultCode := y_faultCode) (y_first := y_first) (y_second := y_second) (y_goal := y_goal) (y_code := y_code) (a_page := a_page) (a_users := a_users) (a_held := a_held) (a_away := a_away) (a_roomRoot := a_roomRoot) (a_leadsTo := a_leadsTo) (a_rights := a_rights) (a_table := a_table) (a_register := a_register) (a_ops := a_ops) (a_first := a_first) (a_second := a_second) (a_numbers := a_numbers) (a_kept := a_kept) (W := W) (G := G) (s := s) (n := n) hr hS hP hF ho hg hu hs hK
    exact ⟨u', v', q, fun post h => xs_k_priv ha (by omega) (by omega) ef en (fun post' k => hx post' (k u' h)), fun post h => ys_k_plain (by omega) (by omega) (by omega) (by omega) (fun post' k => hy post' (k v' h))⟩
  · obtain ⟨u', v', q, hx, hy⟩ := sg_so_v15 (f_paging := f_paging) (f_guard := f_guard) (f_root := f_root) (f_logged := f_logged) (f_room := f_room) (f_oldest := f_oldest) (f_dirWord := f_dirWord) (f_tableFrame := f_tableFrame) (f_tableWord := f_tableWord) (f_target := f_target) (f_reached := f_reached) (f_faultAddress := f_faultAddress) (f_faultCode := f_faultCode) (f_accesses := f_accesses) (f_faults := f_faults) (f_pc := f_pc) (f_savedPc := f_savedPc) (f_cause := f_cause) (f_output := f_output) (f_outputs := f_outputs) (f_traps := f_traps) (f_user := f_user) (f_savedUser := f_savedUser) (f_stopped := f_stopped) (f_any := f_any) (f_keptPaging := f_keptPaging) (f_keptGuard := f_keptGuard) (f_keptRoot := f_keptRoot) (y_root := y_root) (y_keptRoot := y_keptRoot) (y_faultCode := y_faultCode) (y_first := y_first) (y_second := y_second) (y_goal := y_goal) (y_code := y_code) (a_page := a_page) (a_users := a_users) (a_held := a_held) (a_away := a_away) (a_roomRoot := a_roomRoot) (a_leadsTo := a_leadsTo) (a_rights := a_rights) (a_table := a_table) (a_register := a_register) (a_ops := a_ops) (a_first := a_first) (a_second := a_second) (a_numbers := a_numbers) (a_kept := a_kept) (W := W) (G := G) (s := s) (n := n) hr hS hP hF ho hg hu hs hK
    exact ⟨u', v', q, fun post h => xs_k_priv ha (by omega) (by omega) ef en (fun post' k => hx post' (k u' h)), fun post h => ys_k_plain (by omega) (by omega) (by omega) (by omega) (fun post' k => hy post' (k v' h))⟩
theorem sg_exec {a : Nat} (ha : a < 128) (hS : sg_S a_page a_users a_held a_away a_roomRoot a_leadsTo a_rights a_table a_ops a_first a_second a_numbers f_guard W G) (hP : sg_P f_paging f_root f_room a_roomRoot y_root) (hF : sg_Fa f_faultAddress f_faultCode y_faultCode) (ho : ∃ o, o < 3 ∧ f_oldest = nI o) (hg : f_guard = 0 ∨ f_guard = 1) (hu : f_user = 0 ∨ f_user = 1) (hs : f_savedUser = 0 ∨ f_savedUser = 1) (hK : sg_K f_any f_keptPaging f_keptGuard f_keptRoot y_keptRoot) (hn : ¬ a_ops a = 0) : sg_SO (fun post => wX_step_76 post (nI a) f_paging f_guard f_root f_logged f_room f_oldest f_dirWord f_tableFrame f_tableWord f_target f_reached f_faultAddress f_faultCode f_accesses f_faults f_pc f_savedPc f_cause f_output f_outputs f_traps f_user f_savedUser f_stopped 0 f_any f_keptPaging f_keptGuard f_keptRoot a_page a_users a_held a_away a_roomRoot a_leadsTo a_rights a_table a_register a_ops a_first a_second a_numbers a_kept) (fun post => wY_step_27 post (nI a) y_root y_keptRoot f_logged f_accesses f_faults f_faultAddress y_faultCode f_guard f_keptGuard f_any y_first y_second y_goal y_code f_pc f_savedPc f_cause f_output f_outputs f_traps f_user f_savedUser f_stopped y_behindTrap W a_kept G a_register) := by
  obtain ⟨e1, e2, e3, e4⟩ := (hS.2.2 a ha).resolve_left hn
  obtain ⟨op, hop, eop⟩ := pk_andE (W a) (m := 15) 4 (by decide)
  obtain ⟨r, hr, er⟩ := pk_andE (W a >>> ((4 : Int32) &&& 31)) (m := 3) 2 (by decide)
  obtain ⟨s, hs4, es⟩ := pk_andE (W a >>> ((6 : Int32) &&& 31)) (m := 3) 2 (by decide)
  obtain ⟨n, _, en⟩ := pk_andE (W a >>> ((8 : Int32) &&& 31)) (m := 511) 9 (by decide)
  have hop' : op < 16 := hop
  rw [eop, nI_1] at e1
  by_cases bar : ¬ f_user = 0 ∧ (op = 0 ∨ 10 < op)
  · obtain ⟨u', v', q, hx, hy⟩ := sg_so_trap (f_paging := f_paging) (f_guard := f_guard) (f_root := f_root) (f_logged := f_logged) (f_room := f_room) (f_oldest := f_oldest) (f_dirWord := f_dirWord) (f_tableFrame := f_tableFrame) (f_tableWord := f_tableWord) (f_target := f_target) (f_reached := f_reached) (f_faultAddress := f_faultAddress) (f_faultCode := f_faultCode) (f_accesses := f_accesses) (f_faults := f_faults) (f_pc := f_pc) (f_savedPc := f_savedPc) (f_cause := f_cause) (f_output := f_output) (f_outputs := f_outputs) (f_traps := f_traps) (f_user := f_user) (f_savedUser := f_savedUser) (f_stopped := f_stopped) (f_trapped := 0) (f_any := f_any) (f_keptPaging := f_keptPaging) (f_keptGuard := f_keptGuard) (f_keptRoot := f_keptRoot) (y_root := y_root) (y_keptRoot := y_keptRoot) (y_faultCode := y_faultCode) (y_first := y_first) (y_second := y_second) (y_goal := y_goal) (y_code := y_code) (y_behindTrap := 0) (a_page := a_page) (a_users := a_users) (a_held := a_held) (a_away := a_away) (a_roomRoot := a_roomRoot) (a_leadsTo := a_leadsTo) (a_rights := a_rights) (a_table := a_table) (a_register := a_register) (a_ops := a_ops) (a_first := a_first) (a_second := a_second) (a_numbers := a_numbers) (a_kept := a_kept) (W := W) (G := G) (p0 := 3) (p1 := f_pc) hS hP hF ho hg hu hs hK
    refine ⟨u', v', q, fun post h => xs_s76 ha hop' e1 (fun _ _ => xs_k_trap (fun post' k => hx post' (k u' h))) (fun z => ?_), fun post h => ys_s27 ha hop' eop er es en (fun _ _ => ys_k_trap (fun post' k => hy post' (k v' h))) (fun z => ?_)⟩
    · rcases z with z | z
      · exact absurd z bar.1
      · exact absurd bar.2 (by omega)
    · rcases z with z | z
      · exact absurd z bar.1
      · exact absurd bar.2 (by omega)
  · obtain ⟨u', v', q, hx, hy⟩ := sg_ops (f_paging := f_paging) (f_guard := f_guard) (f_root := f_root) (f_logged := f_logged) (f_room := f_room) (f_oldest := f_oldest) (f_dirWord := f_dirWord) (f_tableFrame := f_tableFrame) (f_tableWord := f_tableWord) (f_target := f_target) (f_reached := f_reached) (f_faultAddress := f_faultAddress) (f_faultCode := f_faultCode) (f_accesses := f_accesses) (f_faults := f_faults) (f_pc := f_pc) (f_savedPc := f_savedPc) (f_cause := f_cause) (f_output := f_output) (f_outputs := f_outputs) (f_traps := f_traps) (f_user := f_user) (f_savedUser := f_savedUser) (f_stopped := f_stopped) (f_any := f_any) (f_keptPaging := f_keptPaging) (f_keptGuard := f_keptGuard) (f_keptRoot := f_keptRoot) (y_root := y_root) (y_keptRoot := y_keptRoot) (y_faultCode := y_faultCode) (y_first := y_first) (y_second := y_second) (y_goal := y_goal) (y_code := y_code) (a_page := a_page) (a_users := a_users) (a_held := a_held) (a_away := a_away) (a_roomRoot := a_roomRoot) (a_leadsTo := a_leadsTo) (a_rights := a_rights) (a_table := a_table) (a_register := a_register) (a_ops := a_ops) (a_first := a_first) (a_second := a_second) (a_numbers := a_numbers) (a_kept := a_kept) (W := W) (G := G) (n := n) ha hop' hr hs4 (e2.trans er) (e3.trans es) (e4.trans en) hS hP hF ho hg hu hs hK
    exact ⟨u', v', q, fun post h => xs_s76 ha hop' e1 (fun z y => absurd ⟨z, y⟩ bar) (fun _ => hx post h), fun post h => ys_s27 ha hop' eop er es en (fun z y => absurd ⟨z, y⟩ bar) (fun _ => hy post h)⟩
theorem sg_step (hI : sg_I f_paging f_guard f_root f_room f_oldest f_faultAddress f_faultCode f_user f_savedUser f_stopped f_trapped f_any f_keptPaging f_keptGuard f_keptRoot y_root y_keptRoot y_faultCode y_behindTrap a_page a_users a_held a_away a_roomRoot a_leadsTo a_rights a_table a_ops a_first a_second a_numbers W G) (hst : f_stopped = 0) : sg_SO (fun post => wpX_step post (f_paging, f_guard, f_root, f_logged, f_room, f_oldest, f_dirWord, f_tableFrame, f_tableWord, f_target, f_reached, f_faultAddress, f_faultCode, f_accesses, f_faults, f_pc, f_savedPc, f_cause, f_output, f_outputs, f_traps, f_user, f_savedUser, f_stopped, f_trapped, f_any, f_keptPaging, f_keptGuard, f_keptRoot, a_page, a_users, a_held, a_away, a_roomRoot, a_leadsTo, a_rights, a_table, a_register, a_ops, a_first, a_second, a_numbers, a_kept)) (fun post => wpY_step post (y_root, y_keptRoot, f_logged, f_accesses, f_faults, f_faultAddress, y_faultCode, f_guard, f_keptGuard, f_any, y_first, y_second, y_goal, y_code, f_pc, f_savedPc, f_cause, f_output, f_outputs, f_traps, f_user, f_savedUser, f_stopped, y_behindTrap, W, a_kept, G, a_register)) := by
  obtain ⟨hS, hP, hF, ho, hg, hu, hs, ht, hK⟩ := hI
  have et := ht hst
  subst et
  have out : (f_pc < 0 ∨ nI 512 ≤ f_pc) → sg_SO (fun post => wpX_step post (f_paging, f_guard, f_root, f_logged, f_room, f_oldest, f_dirWord, f_tableFrame, f_tableWord, f_target, f_reached, f_faultAddress, f_faultCode, f_accesses, f_faults, f_pc, f_savedPc, f_cause, f_output, f_outputs, f_traps, f_user, f_savedUser, f_stopped, y_behindTrap, f_any, f_keptPaging, f_keptGuard, f_keptRoot, a_page, a_users, a_held, a_away, a_roomRoot, a_leadsTo, a_rights, a_table, a_register, a_ops, a_first, a_second, a_numbers, a_kept)) (fun post => wpY_step post (y_root, y_keptRoot, f_logged, f_accesses, f_faults, f_faultAddress, y_faultCode, f_guard, f_keptGuard, f_any, y_first, y_second, y_goal, y_code, f_pc, f_savedPc, f_cause, f_output, f_outputs, f_traps, f_user, f_savedUser, f_stopped, y_behindTrap, W, a_kept, G, a_register)) := by
    intro q
    by_cases z : y_behindTrap = 0
    · refine ⟨(f_paging, f_guard, f_root, f_logged, f_room, f_oldest, f_dirWord, f_tableFrame, f_tableWord, f_target, f_reached, f_faultAddress, f_faultCode, f_accesses, f_faults, 8, f_pc, 4, f_output, f_outputs, f_traps + 1, 0, f_user, f_stopped, 1, f_any, f_keptPaging, f_keptGuard, f_keptRoot, a_page, a_users, a_held, a_away, a_roomRoot, a_leadsTo, a_rights, a_table, a_register, a_ops, a_first, a_second, a_numbers, a_kept), (y_root, y_keptRoot, f_logged, f_accesses, f_faults, f_faultAddress, y_faultCode, f_guard, f_keptGuard, f_any, y_first, y_second, y_goal, y_code, 8, f_pc, 4, f_output, f_outputs, f_traps + 1, 0, f_user, f_stopped, 1, W, a_kept, G, a_register), sg_mk ⟨hS, hP, hF, ho, hg, Or.inl rfl, hu, fun _ => rfl, hK⟩, fun post h => ?_, fun post h => ?_⟩
      · unfold wpX_step wpX_get
        exact xs_in0 (N := 512) q (br_t rfl (br_f (by decide) (br_t z (xs_trap hu h))))
      · unfold wpY_step
        refine ys_ad0 q (br_t rfl ?_)
        unfold wY_step_27
        exact br_f (by decide) (br_t z (ys_ad0 q (br_t rfl (ys_trap hu h))))
    · refine ⟨(f_paging, f_guard, f_root, f_logged, f_room, f_oldest, f_dirWord, f_tableFrame, f_tableWord, f_target, f_reached, f_faultAddress, f_faultCode, f_accesses, f_faults, f_pc, f_savedPc, f_cause, f_output, f_outputs, f_traps, f_user, f_savedUser, 1, 0, f_any, f_keptPaging, f_keptGuard, f_keptRoot, a_page, a_users, a_held, a_away, a_roomRoot, a_leadsTo, a_rights, a_table, a_register, a_ops, a_first, a_second, a_numbers, a_kept), (y_root, y_keptRoot, f_logged, f_accesses, f_faults, f_faultAddress, y_faultCode, f_guard, f_keptGuard, f_any, y_first, y_second, y_goal, y_code, f_pc, f_savedPc, f_cause, f_output, f_outputs, f_traps, f_user, f_savedUser, 1, y_behindTrap, W, a_kept, G, a_register), sg_mk ⟨hS, hP, hF, ho, hg, hu, hs, fun y => absurd y (by decide), hK⟩, fun post h => ?_, fun post h => ?_⟩
      · unfold wpX_step wpX_get
        exact xs_in0 (N := 512) q (br_t rfl (br_f (by decide) (br_f z h)))
      · unfold wpY_step
        refine ys_ad0 q (br_t rfl ?_)
        unfold wY_step_27
        exact br_f (by decide) (br_f z h)
  rcases pk_ix f_pc (n := 512) (by omega) with q | q | ⟨a, ha, rfl⟩
  · exact out (Or.inl q)
  · exact out (Or.inr q)
  · clear out
    obtain ⟨f_logged', f_dirWord', f_tableFrame', f_tableWord', f_target', f_reached', f_faultAddress', f_faultCode', f_accesses', f_faults', y_first', y_second', y_goal', y_code', y_faultCode', a_page', a_users', a_held', a_away', a_leadsTo', a_rights', a_table', a_ops', W', G', hS', hF', hc⟩ := sg_reach (f_paging := f_paging) (f_guard := f_guard) (f_root := f_root) (f_logged := f_logged) (f_room := f_room) (f_oldest := f_oldest) (f_dirWord := f_dirWord) (f_tableFrame := f_tableFrame) (f_tableWord := f_tableWord) (f_target := f_target) (f_reached := f_reached) (f_faultAddress := f_faultAddress) (f_faultCode := f_faultCode) (f_accesses := f_accesses) (f_faults := f_faults) (f_pc := nI a) (f_savedPc := f_savedPc) (f_cause := f_cause) (f_output := f_output) (f_outputs := f_outputs) (f_traps := f_traps) (f_user := f_user) (f_savedUser := f_savedUser) (f_stopped := f_stopped) (f_trapped := 0) (f_any := f_any) (f_keptPaging := f_keptPaging) (f_keptGuard := f_keptGuard) (f_keptRoot := f_keptRoot) (y_root := y_root) (y_keptRoot := y_keptRoot) (y_faultCode := y_faultCode) (y_first := y_first) (y_second := y_second) (y_goal := y_goal) (y_code := y_code) (y_behindTrap := y_behindTrap) (a_page := a_page) (a_users := a_users) (a_held := a_held) (a_away := a_away) (a_roomRoot := a_roomRoot) (a_leadsTo := a_leadsTo) (a_rights := a_rights) (a_table := a_table) (a_register := a_register) (a_ops := a_ops) (a_first := a_first) (a_second := a_second) (a_numbers := a_numbers) (a_kept := a_kept) (W := W) (G := G) (wr := 0) (us := f_user) ha hS hF hP
    rcases hc with ⟨kx, ky⟩ | ⟨g, hg16, eg, kx, ky⟩
    · by_cases z : y_behindTrap = 0
      · refine ⟨(f_paging, f_guard, f_root, f_logged', f_room, f_oldest, f_dirWord', f_tableFrame', f_tableWord', f_target', f_reached', f_faultAddress', f_faultCode', f_accesses', f_faults', 8, nI a, 1, f_output, f_outputs, f_traps + 1, 0, f_user, f_stopped, 1, f_any, f_keptPaging, f_keptGuard, f_keptRoot, a_page', a_users', a_held', a_away', a_roomRoot, a_leadsTo', a_rights', a_table', a_register, a_ops', a_first, a_second, a_numbers, a_kept), (y_root, y_keptRoot, f_logged', f_accesses', f_faults', f_faultAddress', y_faultCode', f_guard, f_keptGuard, f_any, y_first', y_second', y_goal', y_code', 8, nI a, 1, f_output, f_outputs, f_traps + 1, 0, f_user, f_stopped, 1, W', a_kept, G', a_register), sg_mk ⟨hS', hP, hF', ho, hg, Or.inl rfl, hu, fun _ => rfl, hK⟩, fun post h => ?_, fun post h => ?_⟩
        · unfold wpX_step wpX_get
          refine xs_in1 (N := 512) ha (by omega) (br_f (by decide) (kx _ ?_))
          exact br_t rfl (br_f (by decide) (br_t z (xs_trap hu h)))
        · unfold wpY_step
          refine ys_ad1 ha (br_f (by decide) (ky _ ?_))
          refine br_f (by decide) (br_t z (ys_ad1 ha (br_f (by decide) ?_)))
          exact ys_trap hu h
      · refine ⟨(f_paging, f_guard, f_root, f_logged', f_room, f_oldest, f_dirWord', f_tableFrame', f_tableWord', f_target', f_reached', f_faultAddress', f_faultCode', f_accesses', f_faults', nI a, f_savedPc, f_cause, f_output, f_outputs, f_traps, f_user, f_savedUser, 1, 0, f_any, f_keptPaging, f_keptGuard, f_keptRoot, a_page', a_users', a_held', a_away', a_roomRoot, a_leadsTo', a_rights', a_table', a_register, a_ops', a_first, a_second, a_numbers, a_kept), (y_root, y_keptRoot, f_logged', f_accesses', f_faults', f_faultAddress', y_faultCode', f_guard, f_keptGuard, f_any, y_first', y_second', y_goal', y_code', nI a, f_savedPc, f_cause, f_output, f_outputs, f_traps, f_user, f_savedUser, 1, y_behindTrap, W', a_kept, G', a_register), sg_mk ⟨hS', hP, hF', ho, hg, hu, hs, fun y => absurd y (by decide), hK⟩, fun post h => ?_, fun post h => ?_⟩
        · unfold wpX_step wpX_get
          refine xs_in1 (N := 512) ha (by omega) (br_f (by decide) (kx _ ?_))
          exact br_t rfl (br_f (by decide) (br_f z h))
        · unfold wpY_step
          refine ys_ad1 ha (br_f (by decide) (ky _ ?_))
          exact br_f (by decide) (br_f z h)
    · subst eg
      have hat : 8 * g + a % 8 < 128 := by omega
      by_cases zo : a_ops' (8 * g + a % 8) = 0
      · have hS2 : sg_S a_page' a_users' a_held' a_away' a_roomRoot a_leadsTo' a_rights' a_table' (upd a_ops' (8 * g + a % 8) ((W' (8 * g + a % 8) &&& 15) + 1)) (upd a_first (8 * g + a % 8) ((W' (8 * g + a % 8) >>> ((4 : Int32) &&& 31)) &&& 3)) (upd a_second (8 * g + a % 8) ((W' (8 * g + a % 8) >>> ((6 : Int32) &&& 31)) &&& 3)) (upd a_numbers (8 * g + a % 8) ((W' (8 * g + a % 8) >>> ((8 : Int32) &&& 31)) &&& 511)) f_guard W' G' := ⟨hS'.1, hS'.2.1, sg_O_take hS'.2.2⟩
        have hne : ¬ upd a_ops' (8 * g + a % 8) ((W' (8 * g + a % 8) &&& 15) + 1) (8 * g + a % 8) = 0 := by
          rw [pk_us]
          obtain ⟨op, hop, eop⟩ := pk_andE (W' (8 * g + a % 8)) (m := 15) 4 (by decide)
          have hop' : op < 16 := hop
          rw [eop, nI_1]
          exact nI_ne0 (by omega) (by omega)
        obtain ⟨u', v', q, hx, hy⟩ := sg_exec (f_paging := f_paging) (f_guard := f_guard) (f_root := f_root) (f_logged := f_logged') (f_room := f_room) (f_oldest := f_oldest) (f_dirWord := f_dirWord') (f_tableFrame := f_tableFrame') (f_tableWord := f_tableWord') (f_target := f_target') (f_reached := nI g) (f_faultAddress := f_faultAddress') (f_faultCode := f_faultCode') (f_accesses := f_accesses') (f_faults := f_faults') (f_pc := nI a) (f_savedPc := f_savedPc) (f_cause := f_cause) (f_output := f_output) (f_outputs := f_outputs) (f_traps := f_traps) (f_user := f_user) (f_savedUser := f_savedUser) (f_stopped := f_stopped) (f_any := f_any) (f_keptPaging := f_keptPaging) (f_keptGuard := f_keptGuard) (f_keptRoot := f_keptRoot) (y_root := y_root) (y_keptRoot := y_keptRoot) (y_faultCode := y_faultCode') (y_first := y_first') (y_second := y_second') (y_goal := y_goal') (y_code := y_code') (y_behindTrap := y_behindTrap) (a_page := a_page') (a_users := a_users') (a_held := a_held') (a_away := a_away') (a_roomRoot := a_roomRoot) (a_leadsTo := a_leadsTo') (a_rights := a_rights') (a_table := a_table') (a_register := a_register) (a_ops := upd a_ops' (8 * g + a % 8) ((W' (8 * g + a % 8) &&& 15) + 1)) (a_first := upd a_first (8 * g + a % 8) ((W' (8 * g + a % 8) >>> ((4 : Int32) &&& 31)) &&& 3)) (a_second := upd a_second (8 * g + a % 8) ((W' (8 * g + a % 8) >>> ((6 : Int32) &&& 31)) &&& 3)) (a_numbers := upd a_numbers (8 * g + a % 8) ((W' (8 * g + a % 8) >>> ((8 : Int32) &&& 31)) &&& 511)) (a_kept := a_kept) (W := W') (G := G') hat hS2 hP hF' ho hg hu hs hK hne
        refine ⟨u', v', q, fun post h => ?_, fun post h => ?_⟩
        · unfold wpX_step wpX_get
          refine xs_in1 (N := 512) ha (by omega) (br_f (by decide) (kx _ ?_))
          refine br_f (by decide) (br_t rfl (nm_r (e' := nI (8 * g + a % 8)) (by rw [sg_an7 ha, sg_ix8]) ⟨vp_in_nI hat (by omega), ?_⟩))
          rw [nI_clamp (show 8 * g + a % 8 < 2 ^ 31 by omega)]
          refine br_t zo (xs_take hS'.1 hat ?_)
          exact hx post h
        · unfold wpY_step
          refine ys_ad1 ha (br_f (by decide) (ky _ ?_))
          exact hy post h
      · obtain ⟨u', v', q, hx, hy⟩ := sg_exec (f_paging := f_paging) (f_guard := f_guard) (f_root := f_root) (f_logged := f_logged') (f_room := f_room) (f_oldest := f_oldest) (f_dirWord := f_dirWord') (f_tableFrame := f_tableFrame') (f_tableWord := f_tableWord') (f_target := f_target') (f_reached := nI g) (f_faultAddress := f_faultAddress') (f_faultCode := f_faultCode') (f_accesses := f_accesses') (f_faults := f_faults') (f_pc := nI a) (f_savedPc := f_savedPc) (f_cause := f_cause) (f_output := f_output) (f_outputs := f_outputs) (f_traps := f_traps) (f_user := f_user) (f_savedUser := f_savedUser) (f_stopped := f_stopped) (f_any := f_any) (f_keptPaging := f_keptPaging) (f_keptGuard := f_keptGuard) (f_keptRoot := f_keptRoot) (y_root := y_root) (y_keptRoot := y_keptRoot) (y_faultCode := y_faultCode') (y_first := y_first') (y_second := y_second') (y_goal := y_goal') (y_code := y_code') (y_behindTrap := y_behindTrap) (a_page := a_page') (a_users := a_users') (a_held := a_held') (a_away := a_away') (a_roomRoot := a_roomRoot) (a_leadsTo := a_leadsTo') (a_rights := a_rights') (a_table := a_table') (a_register := a_register) (a_ops := a_ops') (a_first := a_first) (a_second := a_second) (a_numbers := a_numbers) (a_kept := a_kept) (W := W') (G := G') hat hS' hP hF' ho hg hu hs hK zo
        refine ⟨u', v', q, fun post h => ?_, fun post h => ?_⟩
        · unfold wpX_step wpX_get
          refine xs_in1 (N := 512) ha (by omega) (br_f (by decide) (kx _ ?_))
          refine br_f (by decide) (br_t rfl (nm_r (e' := nI (8 * g + a % 8)) (by rw [sg_an7 ha, sg_ix8]) ⟨vp_in_nI hat (by omega), ?_⟩))
          rw [nI_clamp (show 8 * g + a % 8 < 2 ^ 31 by omega)]
          exact br_f zo (hx post h)
        · unfold wpY_step
          refine ys_ad1 ha (br_f (by decide) (ky _ ?_))
          exact hy post h
end
def sg_rX (post : Int32 → SX → Prop) (x1 : Int32) (n : Nat) (x2 : Int32) (u : SX) : Prop := match u with
  | (f_paging, f_guard, f_root, f_logged, f_room, f_oldest, f_dirWord, f_tableFrame, f_tableWord, f_target, f_reached, f_faultAddress, f_faultCode, f_accesses, f_faults, f_pc, f_savedPc, f_cause, f_output, f_outputs, f_traps, f_user, f_savedUser, f_stopped, f_trapped, f_any, f_keptPaging, f_keptGuard, f_keptRoot, a_page, a_users, a_held, a_away, a_roomRoot, a_leadsTo, a_rights, a_table, a_register, a_ops, a_first, a_second, a_numbers, a_kept) => wX_run_16 post x1 n x2 f_paging f_guard f_root f_logged f_room f_oldest f_dirWord f_tableFrame f_tableWord f_target f_reached f_faultAddress f_faultCode f_accesses f_faults f_pc f_savedPc f_cause f_output f_outputs f_traps f_user f_savedUser f_stopped f_trapped f_any f_keptPaging f_keptGuard f_keptRoot a_page a_users a_held a_away a_roomRoot a_leadsTo a_rights a_table a_register a_ops a_first a_second a_numbers a_kept
def sg_rY (post : Int32 → SY → Prop) (x1 : Int32) (n : Nat) (x2 : Int32) (u : SY) : Prop := match u with
  | (y_root, y_keptRoot, f_logged, f_accesses, f_faults, f_faultAddress, y_faultCode, f_guard, f_keptGuard, f_any, y_first, y_second, y_goal, y_code, f_pc, f_savedPc, f_cause, f_output, f_outputs, f_traps, f_user, f_savedUser, f_stopped, y_behindTrap, W, a_kept, G, a_register) => wY_run_15 post x1 n x2 y_root y_keptRoot f_logged f_accesses f_faults f_faultAddress y_faultCode f_guard f_keptGuard f_any y_first y_second y_goal y_code f_pc f_savedPc f_cause f_output f_outputs f_traps f_user f_savedUser f_stopped y_behindTrap W a_kept G a_register
theorem sg_run {n : Nat} (hn : n ≤ 300) : ∀ (m i : Nat) (u : SX) (v : SY), i + m = n → i_Rel 0 u v → ∃ (r : Int32) (u' : SX) (v' : SY), i_Rel 0 u' v' ∧ (∀ post : Int32 → SX → Prop, post r u' → sg_rX post (nI n) (m + 1) (nI i) u) ∧ (∀ post : Int32 → SY → Prop, post r v' → sg_rY post (nI n) (m + 1) (nI i) v) := by
  intro m
  induction m with
  | zero =>
    intro i u v hi I
    refine sg_el (P := fun u v => ∃ (r : Int32) (u' : SX) (v' : SY), i_Rel 0 u' v' ∧ (∀ post : Int32 → SX → Prop, post r u' → sg_rX post (nI n) (0 + 1) (nI i) u) ∧ (∀ post : Int32 → SY → Prop, post r v' → sg_rY post (nI n) (0 + 1) (nI i) v)) ?_ I
    intro f_paging f_guard f_root f_logged f_room f_oldest f_dirWord f_tableFrame f_tableWord f_target f_reached f_faultAddress f_faultCode f_accesses f_faults f_pc f_savedPc f_cause f_output f_outputs f_traps f_user f_savedUser f_stopped f_trapped f_any f_keptPaging f_keptGuard f_keptRoot y_root y_keptRoot y_faultCode y_first y_second y_goal y_code y_behindTrap a_page a_users a_held a_away a_roomRoot a_leadsTo a_rights a_table a_register a_ops a_first a_second a_numbers a_kept W G hI
    have c : nI n ≤ nI i := nI_le (by omega) (by omega)
    exact ⟨nI i, (f_paging, f_guard, f_root, f_logged, f_room, f_oldest, f_dirWord, f_tableFrame, f_tableWord, f_target, f_reached, f_faultAddress, f_faultCode, f_accesses, f_faults, f_pc, f_savedPc, f_cause, f_output, f_outputs, f_traps, f_user, f_savedUser, f_stopped, f_trapped, f_any, f_keptPaging, f_keptGuard, f_keptRoot, a_page, a_users, a_held, a_away, a_roomRoot, a_leadsTo, a_rights, a_table, a_register, a_ops, a_first, a_second, a_numbers, a_kept), (y_root, y_keptRoot, f_logged, f_accesses, f_faults, f_faultAddress, y_faultCode, f_guard, f_keptGuard, f_any, y_first, y_second, y_goal, y_code, f_pc, f_savedPc, f_cause, f_output, f_outputs, f_traps, f_user, f_savedUser, f_stopped, y_behindTrap, W, a_kept, G, a_register), sg_mk hI, fun post h => br_t c h, fun post h => br_t c h⟩
  | succ m ih =>
    intro i u v hi I
    refine sg_el (P := fun u v => ∃ (r : Int32) (u' : SX) (v' : SY), i_Rel 0 u' v' ∧ (∀ post : Int32 → SX → Prop, post r u' → sg_rX post (nI n) (m + 1 + 1) (nI i) u) ∧ (∀ post : Int32 → SY → Prop, post r v' → sg_rY post (nI n) (m + 1 + 1) (nI i) v)) ?_ I
    intro f_paging f_guard f_root f_logged f_room f_oldest f_dirWord f_tableFrame f_tableWord f_target f_reached f_faultAddress f_faultCode f_accesses f_faults f_pc f_savedPc f_cause f_output f_outputs f_traps f_user f_savedUser f_stopped f_trapped f_any f_keptPaging f_keptGuard f_keptRoot y_root y_keptRoot y_faultCode y_first y_second y_goal y_code y_behindTrap a_page a_users a_held a_away a_roomRoot a_leadsTo a_rights a_table a_register a_ops a_first a_second a_numbers a_kept W G hI
    have c : ¬ nI n ≤ nI i := nI_ge (by omega) (by omega)
    by_cases st : f_stopped = 0
    · obtain ⟨u1, v1, q, hx, hy⟩ := sg_step (f_paging := f_paging) (f_guard := f_guard) (f_root := f_root) (f_logged := f_logged) (f_room := f_room) (f_oldest := f_oldest) (f_dirWord := f_dirWord) (f_tableFrame := f_tableFrame) (f_tableWord := f_tableWord) (f_target := f_target) (f_reached := f_reached) (f_faultAddress := f_faultAddress) (f_faultCode := f_faultCode) (f_accesses := f_accesses) (f_faults := f_faults) (f_pc := f_pc) (f_savedPc := f_savedPc) (f_cause := f_cause) (f_output := f_output) (f_outputs := f_outputs) (f_traps := f_traps) (f_user := f_user) (f_savedUser := f_savedUser) (f_stopped := f_stopped) (f_trapped := f_trapped) (f_any := f_any) (f_keptPaging := f_keptPaging) (f_keptGuard := f_keptGuard) (f_keptRoot := f_keptRoot) (y_root := y_root) (y_keptRoot := y_keptRoot) (y_faultCode := y_faultCode) (y_first := y_first) (y_second := y_second) (y_goal := y_goal) (y_code := y_code) (y_behindTrap := y_behindTrap) (a_page := a_page) (a_users := a_users) (a_held := a_held) (a_away := a_away) (a_roomRoot := a_roomRoot) (a_leadsTo := a_leadsTo) (a_rights := a_rights) (a_table := a_table) (a_register := a_register) (a_ops := a_ops) (a_first := a_first) (a_second := a_second) (a_numbers := a_numbers) (a_kept := a_kept) (W := W) (G := G) hI st
      obtain ⟨r, u', v', q', kx, ky⟩ := ih (i + 1) u1 v1 (by omega) q
      refine ⟨r, u', v', q', fun post h => ?_, fun post h => ?_⟩
      · have K := kx post h
        refine br_f c (br_t st (nm_r (nI_1 i) (hx _ ?_)))
        clear hx kx q
        obtain ⟨f_paging', f_guard', f_root', f_logged', f_room', f_oldest', f_dirWord', f_tableFrame', f_tableWord', f_target', f_reached', f_faultAddress', f_faultCode', f_accesses', f_faults', f_pc', f_savedPc', f_cause', f_output', f_outputs', f_traps', f_user', f_savedUser', f_stopped', f_trapped', f_any', f_keptPaging', f_keptGuard', f_keptRoot', a_page', a_users', a_held', a_away', a_roomRoot', a_leadsTo', a_rights', a_table', a_register', a_ops', a_first', a_second', a_numbers', a_kept'⟩ := u1
        exact K
      · have K := ky post h
        refine br_f c (br_t st (hy _ ?_))
        clear hy ky q
        obtain ⟨y_root', y_keptRoot', f_logged', f_accesses', f_faults', f_faultAddress', y_faultCode', f_guard', f_keptGuard', f_any', y_first', y_second', y_goal', y_code', f_pc', f_savedPc', f_cause', f_output', f_outputs', f_traps', f_user', f_savedUser', f_stopped', y_behindTrap', W', a_kept', G', a_register'⟩ := v1
        exact nm_r (nI_1 i) K
    · exact ⟨nI i, (f_paging, f_guard, f_root, f_logged, f_room, f_oldest, f_dirWord, f_tableFrame, f_tableWord, f_target, f_reached, f_faultAddress, f_faultCode, f_accesses, f_faults, f_pc, f_savedPc, f_cause, f_output, f_outputs, f_traps, f_user, f_savedUser, f_stopped, f_trapped, f_any, f_keptPaging, f_keptGuard, f_keptRoot, a_page, a_users, a_held, a_away, a_roomRoot, a_leadsTo, a_rights, a_table, a_register, a_ops, a_first, a_second, a_numbers, a_kept), (y_root, y_keptRoot, f_logged, f_accesses, f_faults, f_faultAddress, y_faultCode, f_guard, f_keptGuard, f_any, y_first, y_second, y_goal, y_code, f_pc, f_savedPc, f_cause, f_output, f_outputs, f_traps, f_user, f_savedUser, f_stopped, y_behindTrap, W, a_kept, G, a_register), sg_mk hI, fun post h => br_f c (br_f st h), fun post h => br_f c (br_f st h)⟩
theorem i_vc_run {k : Nat} {u : SX} {v : SY} (I : i_Rel k u v) (hk : k + 5 ≤ 2560) (v1 : Int32) : wpX_run (fun r u' => wpY_run (fun r' v' => r' = r ∧ i_Rel (k + 5) u' v') v v1) u v1 := by
  by_cases q1 : v1 < 1
  · refine sg_el (P := fun u v => wpX_run (fun r u' => wpY_run (fun r' v' => r' = r ∧ i_Rel (k + 5) u' v') v v1) u v1) ?_ I
    intro f_paging f_guard f_root f_logged f_room f_oldest f_dirWord f_tableFrame f_tableWord f_target f_reached f_faultAddress f_faultCode f_accesses f_faults f_pc f_savedPc f_cause f_output f_outputs f_traps f_user f_savedUser f_stopped f_trapped f_any f_keptPaging f_keptGuard f_keptRoot y_root y_keptRoot y_faultCode y_first y_second y_goal y_code y_behindTrap a_page a_users a_held a_away a_roomRoot a_leadsTo a_rights a_table a_register a_ops a_first a_second a_numbers a_kept W G hI
    unfold wpX_run wpY_run
    exact br_t q1 (br_t q1 (br_t rfl ⟨rfl, sg_mk hI⟩))
  · by_cases q2 : v1 ≤ 300
    · obtain ⟨n, hn, rfl⟩ := nI_of2 (M := 300) (n := 300) (by decide) (fun z => q1 (Int32.lt_trans z (by decide))) q2
      obtain ⟨r, u', v', q', kx, ky⟩ := sg_run hn n 0 u v (by omega) I
      clear I
      obtain ⟨f_paging, f_guard, f_root, f_logged, f_room, f_oldest, f_dirWord, f_tableFrame, f_tableWord, f_target, f_reached, f_faultAddress, f_faultCode, f_accesses, f_faults, f_pc, f_savedPc, f_cause, f_output, f_outputs, f_traps, f_user, f_savedUser, f_stopped, f_trapped, f_any, f_keptPaging, f_keptGuard, f_keptRoot, a_page, a_users, a_held, a_away, a_roomRoot, a_leadsTo, a_rights, a_table, a_register, a_ops, a_first, a_second, a_numbers, a_kept⟩ := u
      obtain ⟨y_root', y_keptRoot', f_logged', f_accesses', f_faults', f_faultAddress', y_faultCode', f_guard', f_keptGuard', f_any', y_first', y_second', y_goal', y_code', f_pc', f_savedPc', f_cause', f_output', f_outputs', f_traps', f_user', f_savedUser', f_stopped', y_behindTrap', W', a_kept', G', a_register'⟩ := v
      have kx' : ∀ post : Int32 → SX → Prop, post r u' → wX_run_16 post (nI n) (n + 1) 0 f_paging f_guard f_root f_logged f_room f_oldest f_dirWord f_tableFrame f_tableWord f_target f_reached f_faultAddress f_faultCode f_accesses f_faults f_pc f_savedPc f_cause f_output f_outputs f_traps f_user f_savedUser f_stopped f_trapped f_any f_keptPaging f_keptGuard f_keptRoot a_page a_users a_held a_away a_roomRoot a_leadsTo a_rights a_table a_register a_ops a_first a_second a_numbers a_kept := kx
      have ky' : ∀ post : Int32 → SY → Prop, post r v' → wY_run_15 post (nI n) (n + 1) 0 y_root' y_keptRoot' f_logged' f_accesses' f_faults' f_faultAddress' y_faultCode' f_guard' f_keptGuard' f_any' y_first' y_second' y_goal' y_code' f_pc' f_savedPc' f_cause' f_output' f_outputs' f_traps' f_user' f_savedUser' f_stopped' y_behindTrap' W' a_kept' G' a_register' := ky
      unfold wpX_run
      refine br_f q1 (br_t q2 ⟨n + 1, kx' _ ?_⟩)
      unfold wpY_run
      refine br_f q1 (br_f (fun z => absurd q2 (Int32.not_le.mpr z)) (br_f (by decide) ⟨n + 1, ky' _ ?_⟩))
      exact ⟨rfl, q'⟩
    · refine sg_el (P := fun u v => wpX_run (fun r u' => wpY_run (fun r' v' => r' = r ∧ i_Rel (k + 5) u' v') v v1) u v1) ?_ I
      intro f_paging f_guard f_root f_logged f_room f_oldest f_dirWord f_tableFrame f_tableWord f_target f_reached f_faultAddress f_faultCode f_accesses f_faults f_pc f_savedPc f_cause f_output f_outputs f_traps f_user f_savedUser f_stopped f_trapped f_any f_keptPaging f_keptGuard f_keptRoot y_root y_keptRoot y_faultCode y_first y_second y_goal y_code y_behindTrap a_page a_users a_held a_away a_roomRoot a_leadsTo a_rights a_table a_register a_ops a_first a_second a_numbers a_kept W G hI
      unfold wpX_run wpY_run
      exact br_f q1 (br_f q2 (br_f q1 (br_t (Int32.not_le.mp q2) (br_t rfl ⟨rfl, sg_mk hI⟩))))
end
