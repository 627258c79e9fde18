section
/-! pure rows to paste: stores, nI and lN arithmetic, masks, shifts, narrowing, branches by naturals (pk_le, pk_lt, pk_eq), loops (lp1 .. lp16: the measure of the state; rp1 ..: recursion), negatives. Take what you need -/
theorem pk_us {f : Nat → Int32} {k : Nat} {x : Int32} : upd f k x k = x := if_pos rfl
theorem pk_un {f : Nat → Int32} {k j : Nat} {x : Int32} (h : j ≠ k) : upd f k x j = f j := if_neg h
theorem pk_uLs {f : Nat → Int64} {k : Nat} {x : Int64} : vp_updL f k x k = x := if_pos rfl
theorem pk_uLn {f : Nat → Int64} {k j : Nat} {x : Int64} (h : j ≠ k) : vp_updL f k x j = f j := if_neg h
theorem pk_sub {a b : Nat} (h : b ≤ a) : nI a - nI b = nI (a - b) := by
  obtain ⟨c, rfl⟩ : ∃ c, a = c + b := ⟨a - b, by omega⟩
  rw [← nI_add, Int32.add_sub_cancel, Nat.add_sub_cancel]
theorem pk_m1 (n : Nat) : nI (n + 1) + (-1) = nI n := by
  rw [← nI_1, Int32.add_assoc, show (1 : Int32) + (-1) = 0 from rfl, Int32.add_zero]
theorem pk_mul (a b : Nat) : nI a * nI b = nI (a * b) := (Int32.ofNat_mul a b).symm
theorem pk_div {a d : Nat} (ha : a < 2 ^ 31) (h0 : 0 < d) (hd : d < 2 ^ 31) : nI a / nI d = nI (a / d) := by
  apply Int32.toInt_inj.mp
  rw [lg_idiv_nonneg (by rw [nI_toInt ha]; omega) (by rw [nI_toInt hd]; omega), nI_toInt ha, nI_toInt hd, nI_toInt (Nat.lt_of_le_of_lt (Nat.div_le_self a d) ha)]
  first | rfl | exact (Int.natCast_ediv _ _).symm
theorem pk_rem {a d : Nat} (ha : a < 2 ^ 31) (h0 : 0 < d) (hd : d < 2 ^ 31) : nI a - nI a / nI d * nI d = nI (a % d) := by
  rw [pk_div ha h0 hd, pk_mul, pk_sub (Nat.div_mul_le_self a d)]
  exact congrArg nI (by have := Nat.div_add_mod' a d; omega)
theorem pk_sub_toInt {a b : Nat} (ha : a < 2 ^ 30) (hb : b < 2 ^ 30) : (nI a - nI b).toInt = (a : Int) - b := by
  rw [Int32.toInt_sub, nI_toInt (by omega), nI_toInt (by omega)]
  exact Int.bmod_eq_of_le (by omega) (by omega)
theorem pk_sneg {a b : Nat} (hb : b < 2 ^ 30) (h : a < b) : nI a - nI b < 0 := by
  rw [Int32.lt_iff_toInt_lt, pk_sub_toInt (by omega) hb, show (0 : Int32).toInt = 0 from by decide]
  omega
theorem pk_ix (x : Int32) {n : Nat} (hn : n < 2 ^ 31) : x < 0 ∨ nI n ≤ x ∨ ∃ j : Nat, j < n ∧ x = nI j := by
  by_cases h : x < 0
  · exact Or.inl h
  · obtain ⟨j, hj, rfl⟩ := nI_of h
    by_cases h2 : j < n
    · exact Or.inr (Or.inr ⟨j, h2, rfl⟩)
    · exact Or.inr (Or.inl (nI_le (by omega) hj))
theorem pk_le {x y : Int32} {A B : Prop} (a b : Nat) (f : a ≤ b → A) (g : b < a → B) (hx : x = nI a := by rfl) (hy : y = nI b := by rfl) (ha : a < 2 ^ 31 := by omega) (hb : b < 2 ^ 31 := by omega) : (x ≤ y → A) ∧ (¬ x ≤ y → B) := by
  subst hx hy
  rw [nI_leI ha hb]
  exact ⟨f, fun z => g (by omega)⟩
theorem pk_lt {x y : Int32} {A B : Prop} (a b : Nat) (f : a < b → A) (g : b ≤ a → B) (hx : x = nI a := by rfl) (hy : y = nI b := by rfl) (ha : a < 2 ^ 31 := by omega) (hb : b < 2 ^ 31 := by omega) : (x < y → A) ∧ (¬ x < y → B) := by
  subst hx hy
  rw [nI_ltI ha hb]
  exact ⟨f, fun z => g (by omega)⟩
theorem pk_eq {x y : Int32} {A B : Prop} (a b : Nat) (f : a = b → A) (g : a ≠ b → B) (hx : x = nI a := by rfl) (hy : y = nI b := by rfl) (ha : a < 2 ^ 31 := by omega) (hb : b < 2 ^ 31 := by omega) : (x = y → A) ∧ (¬ x = y → B) := by
  subst hx hy
  rw [nI_eq ha hb]
  exact ⟨f, g⟩
theorem pk_in {x : Int32} (n N : Nat) (h : n < N) (hx : x = nI n := by rfl) (hN : N < 2 ^ 31 := by omega) : vp_in x N := by
  subst hx
  exact vp_in_nI h hN
theorem pk_cl {x : Int32} (n : Nat) (hx : x = nI n := by rfl) (h : n < 2 ^ 31 := by omega) : x.toNatClampNeg = n := by
  subst hx
  exact nI_clamp h
theorem pk_tn {n : Nat} (h : n < 2 ^ 32) : (nI n).toBitVec.toNat = n := Nat.mod_eq_of_lt h
theorem pk_and (x : Int32) {m : Int32} (k : Nat) (hm : m.toBitVec.toNat = 2 ^ k - 1) : x &&& m = nI (x.toBitVec.toNat % 2 ^ k) := by
  apply Int32.toBitVec_inj.mp
  apply BitVec.eq_of_toNat_eq
  rw [Int32.toBitVec_and, BitVec.toNat_and, hm, Nat.and_two_pow_sub_one_eq_mod]
  show _ = (BitVec.ofNat 32 _).toNat
  rw [BitVec.toNat_ofNat]
  exact (Nat.mod_eq_of_lt (Nat.lt_of_le_of_lt (Nat.mod_le _ _) x.toBitVec.isLt)).symm
theorem pk_andN {n : Nat} (h : n < 2 ^ 32) {m : Int32} (k : Nat) (hm : m.toBitVec.toNat = 2 ^ k - 1) : nI n &&& m = nI (n % 2 ^ k) := by
  rw [pk_and _ k hm, pk_tn h]
theorem pk_andE (x : Int32) {m : Int32} (k : Nat) (hm : m.toBitVec.toNat = 2 ^ k - 1) : ∃ j : Nat, j < 2 ^ k ∧ x &&& m = nI j := ⟨_, Nat.mod_lt _ (Nat.two_pow_pos k), pk_and x k hm⟩
theorem pk_andIn (x : Int32) {m : Int32} (k : Nat) (hm : m.toBitVec.toNat = 2 ^ k - 1) (hk : k ≤ 30) : vp_in (x &&& m) (2 ^ k) := by
  obtain ⟨j, hj, e⟩ := pk_andE x k hm
  rw [e]
  exact vp_in_nI hj (Nat.lt_of_le_of_lt (Nat.pow_le_pow_right (by decide) hk) (by decide))
theorem pk_shl (a s : Int32) (k : Nat) (hs : (s.toBitVec.smod 32).toNat = k) : (a <<< s).toBitVec.toNat = a.toBitVec.toNat * 2 ^ k % 2 ^ 32 := by
  show (a.toBitVec <<< (s.toBitVec.smod 32).toNat).toNat = _
  rw [hs, BitVec.toNat_shiftLeft, Nat.shiftLeft_eq]
theorem pk_shlN {n : Nat} (s : Int32) (k : Nat) (hs : (s.toBitVec.smod 32).toNat = k) (h : n * 2 ^ k < 2 ^ 32) : nI n <<< s = nI (n * 2 ^ k) := by
  apply Int32.toBitVec_inj.mp
  apply BitVec.eq_of_toNat_eq
  have hn : n < 2 ^ 32 := Nat.lt_of_le_of_lt (Nat.le_mul_of_pos_right n (Nat.two_pow_pos k)) h
  rw [pk_shl _ _ k hs, pk_tn hn, pk_tn h, Nat.mod_eq_of_lt h]
theorem pk_shr (a s : Int32) (k : Nat) (hs : (s.toBitVec.smod 32).toNat = k) : (a >>> s).toInt = a.toInt >>> k := by
  show (a.toBitVec.sshiftRight (s.toBitVec.smod 32).toNat).toInt = _
  rw [hs, BitVec.toInt_sshiftRight]
  rfl
theorem pk_shrN {n : Nat} (h : n < 2 ^ 31) (s : Int32) (k : Nat) (hs : (s.toBitVec.smod 32).toNat = k) : nI n >>> s = nI (n / 2 ^ k) := by
  apply Int32.toInt_inj.mp
  have h2 : n / 2 ^ k ≤ n := Nat.div_le_self _ _
  rw [pk_shr _ _ k hs, nI_toInt h, nI_toInt (by omega), Int.shiftRight_eq_div_pow]
  rfl
theorem pk_ushr (x s : Int32) (k : Nat) (hs : ((s.toUInt32 &&& Int32.toUInt32 31).toBitVec % 32).toNat = k) : (x.toUInt32 >>> (s.toUInt32 &&& Int32.toUInt32 31)).toInt32.toBitVec.toNat = x.toBitVec.toNat / 2 ^ k := by
  have e : (x.toUInt32 >>> (s.toUInt32 &&& Int32.toUInt32 31)).toInt32.toBitVec = x.toBitVec >>> k := by
    rw [← hs]
    exact UInt32.toBitVec_shiftRight _ _
  rw [e, BitVec.toNat_ushiftRight, Nat.shiftRight_eq_div_pow]
theorem pk_ushrN {n : Nat} (hn : n < 2 ^ 32) (s : Int32) (k : Nat) (hs : ((s.toUInt32 &&& Int32.toUInt32 31).toBitVec % 32).toNat = k) : ((nI n).toUInt32 >>> (s.toUInt32 &&& Int32.toUInt32 31)).toInt32 = nI (n / 2 ^ k) := by
  apply Int32.toBitVec_inj.mp
  apply BitVec.eq_of_toNat_eq
  rw [pk_ushr _ s k hs, pk_tn hn, pk_tn (Nat.lt_of_le_of_lt (Nat.div_le_self _ _) hn)]
theorem pk_nb (z : Int32) : narrow .byte (.int z.toInt8.toInt32) = .int z.toInt8.toInt32 := congrArg Value.int (by simp)
theorem pk_ns (z : Int32) : narrow .short (.int z.toInt16.toInt32) = .int z.toInt16.toInt32 := congrArg Value.int (by simp)
theorem pk_fb (r : Int32) : fits .byte (.int r.toInt8.toInt32) = true := by
  have ⟨a, b⟩ := lg_i2b_range r
  have h1 : (-128 : Int32).toInt = -128 := by decide
  have h2 : (127 : Int32).toInt = 127 := by decide
  simp only [fits, Bool.and_eq_true, decide_eq_true_eq, Int32.le_iff_toInt_le, h1, h2]
  omega
theorem pk_fs (r : Int32) : fits .short (.int r.toInt16.toInt32) = true := by
  have ⟨a, b⟩ := lg_i2s_range r
  have h1 : (-32768 : Int32).toInt = -32768 := by decide
  have h2 : (32767 : Int32).toInt = 32767 := by decide
  simp only [fits, Bool.and_eq_true, decide_eq_true_eq, Int32.le_iff_toInt_le, h1, h2]
  omega
theorem pk_charN {q : Nat} (hq : q < 65536) : narrow .char (.int (nI q)) = .int (nI q) ∧ fits .char (.int (nI q)) = true := by
  constructor
  · have e : (nI q).toUInt32.toUInt16.toUInt32.toInt32 = nI q := by
      apply Int32.toBitVec_inj.mp
      apply BitVec.eq_of_toNat_eq
      show (nI q).toUInt32.toUInt16.toUInt32.toNat = q % 2 ^ 32
      rw [UInt16.toNat_toUInt32, UInt32.toNat_toUInt16, show (nI q).toUInt32.toNat = q % 2 ^ 32 from rfl]
      omega
    exact congrArg Value.int e
  · have a : (0 : Int32) ≤ nI q := nI_pos' (by omega)
    have b : nI q ≤ 65535 := nI_le (b := 65535) (by omega) (by decide)
    show (decide ((0 : Int32) ≤ nI q) && decide (nI q ≤ 65535)) = true
    rw [decide_eq_true a, decide_eq_true b]
    rfl
theorem pk_char (x : Int32) : (x.toUInt32 % 65536).toInt32 = nI (x.toBitVec.toNat % 65536) := by
  apply Int32.toBitVec_inj.mp
  apply BitVec.eq_of_toNat_eq
  rw [pk_tn (by omega)]
  show (x.toUInt32 % 65536).toNat = _
  rw [UInt32.toNat_mod]
  rfl
theorem pk_nc (x : Int32) : narrow .char (.int (x.toUInt32 % 65536).toInt32) = .int (x.toUInt32 % 65536).toInt32 := by
  rw [pk_char]
  exact (pk_charN (Nat.mod_lt _ (by decide))).1
theorem pk_fc (x : Int32) : fits .char (.int (x.toUInt32 % 65536).toInt32) = true := by
  rw [pk_char]
  exact (pk_charN (Nat.mod_lt _ (by decide))).2
theorem pk_vb (z : Int32) : vp_nar .byte z.toInt8.toInt32 = z.toInt8.toInt32 := by rw [vp_nar_byte]; simp
theorem pk_vs (z : Int32) : vp_nar .short z.toInt16.toInt32 = z.toInt16.toInt32 := by rw [vp_nar_short]; simp
theorem pk_vc (z : Int32) : vp_nar .char (z.toUInt32 % 65536).toInt32 = (z.toUInt32 % 65536).toInt32 := Value.int.inj (pk_nc z)
theorem pk_lT {n : Nat} (h : n < 2 ^ 63) : (lN n).toInt = (n : Int) := lg_ofNat_toInt h
theorem pk_lLT {a b : Nat} (ha : a < 2 ^ 63) (hb : b < 2 ^ 63) : lN a < lN b ↔ a < b := by
  rw [Int64.lt_iff_toInt_lt, pk_lT ha, pk_lT hb]; omega
theorem pk_lLE {a b : Nat} (ha : a < 2 ^ 63) (hb : b < 2 ^ 63) : lN a ≤ lN b ↔ a ≤ b := by
  rw [Int64.le_iff_toInt_le, pk_lT ha, pk_lT hb]; omega
theorem pk_lEQ {a b : Nat} (ha : a < 2 ^ 63) (hb : b < 2 ^ 63) : lN a = lN b ↔ a = b := by
  rw [← Int64.toInt_inj, pk_lT ha, pk_lT hb]; omega
theorem pk_lOf {x : Int64} (h : ¬ x < 0) : ∃ k : Nat, k < 2 ^ 63 ∧ x = lN k := by
  rw [Int64.lt_iff_toInt_lt] at h
  have h0 : (0 : Int64).toInt = 0 := by decide
  have hx := Int64.toInt_lt x
  refine ⟨x.toInt.toNat, by omega, Int64.toInt_inj.mp ?_⟩
  rw [pk_lT (by omega)]
  omega
theorem pk_lDiv {a b : Nat} (ha : a < 2 ^ 63) (h0 : 0 < b) (hb : b < 2 ^ 63) : lN a / lN b = lN (a / b) := by
  apply Int64.toInt_inj.mp
  rw [lg_ldiv_nonneg (by rw [pk_lT ha]; omega) (by rw [pk_lT hb]; omega), pk_lT ha, pk_lT hb, pk_lT (Nat.lt_of_le_of_lt (Nat.div_le_self a b) ha)]
  rfl
theorem pk_lRem {a b : Nat} (ha : a < 2 ^ 63) (h0 : 0 < b) (hb : b < 2 ^ 63) : lN a - lN a / lN b * lN b = lN (a % b) := by
  rw [pk_lDiv ha h0 hb, lN_mul, lN_sub (Nat.div_mul_le_self a b)]
  exact congrArg lN (by have := Nat.div_add_mod' a b; omega)
theorem pk_loop {σ : Type} (W : Nat → Nat → σ → Prop) (I : Nat → σ → Prop) (e i0 : Nat) (s : σ) (hi : i0 ≤ e) (h0 : I i0 s) (hx : ∀ n s, I e s → W (n + 1) e s)
    (hs : ∀ n i s, i < e → I i s → (∀ s', I (i + 1) s' → W n (i + 1) s') → W (n + 1) i s) : ∃ n, W n i0 s :=
  ⟨e + 1, loop_i W I e hx hs (e + 1) i0 s hi (by omega) h0⟩
theorem pk_loopD {σ : Type} (W : Nat → Nat → σ → Prop) (I : Nat → σ → Prop) (hx : ∀ n s, I 0 s → W (n + 1) 0 s)
    (hs : ∀ n i s, I (i + 1) s → (∀ s', I i s' → W n i s') → W (n + 1) (i + 1) s) : ∀ (e : Nat) (s : σ), I e s → W (e + 1) e s := by
  intro e
  induction e with
  | zero => exact fun s h => hx 0 s h
  | succ e ih => exact fun s h => hs (e + 1) e s h (fun s' h' => ih s' h')
theorem lp1 {A1 : Type} (W : Nat → A1 → Prop) (I : A1 → Prop) (μ : A1 → Nat) (hs : ∀ (n : Nat) (a1 : A1), I a1 → (∀ (b1 : A1), I b1 → μ b1 < μ a1 → W n b1) → W (n + 1) a1) (a1 : A1) (h : I a1) : ∃ n, W n a1 :=
  loop_m (σ := A1) (fun n s => W n s) (fun s => I s) (fun s => μ s) (fun n s hI hk => hs n s hI (fun b1 h9 hm => hk b1 h9 hm)) a1 h
theorem lp2 {A1 A2 : Type} (W : Nat → A1 → A2 → Prop) (I : A1 → A2 → Prop) (μ : A1 → A2 → Nat) (hs : ∀ (n : Nat) (a1 : A1) (a2 : A2), I a1 a2 → (∀ (b1 : A1) (b2 : A2), I b1 b2 → μ b1 b2 < μ a1 a2 → W n b1 b2) → W (n + 1) a1 a2) (a1 : A1) (a2 : A2) (h : I a1 a2) : ∃ n, W n a1 a2 :=
  loop_m (σ := A1 × A2) (fun n s => W n s.1 s.2) (fun s => I s.1 s.2) (fun s => μ s.1 s.2) (fun n s hI hk => hs n s.1 s.2 hI (fun b1 b2 h9 hm => hk (b1, b2) h9 hm)) (a1, a2) h
theorem lp3 {A1 A2 A3 : Type} (W : Nat → A1 → A2 → A3 → Prop) (I : A1 → A2 → A3 → Prop) (μ : A1 → A2 → A3 → Nat) (hs : ∀ (n : Nat) (a1 : A1) (a2 : A2) (a3 : A3), I a1 a2 a3 → (∀ (b1 : A1) (b2 : A2) (b3 : A3), I b1 b2 b3 → μ b1 b2 b3 < μ a1 a2 a3 → W n b1 b2 b3) → W (n + 1) a1 a2 a3) (a1 : A1) (a2 : A2) (a3 : A3) (h : I a1 a2 a3) : ∃ n, W n a1 a2 a3 :=
  loop_m (σ := A1 × A2 × A3) (fun n s => W n s.1 s.2.1 s.2.2) (fun s => I s.1 s.2.1 s.2.2) (fun s => μ s.1 s.2.1 s.2.2) (fun n s hI hk => hs n s.1 s.2.1 s.2.2 hI (fun b1 b2 b3 h9 hm => hk (b1, b2, b3) h9 hm)) (a1, a2, a3) h
theorem lp4 {A1 A2 A3 A4 : Type} (W : Nat → A1 → A2 → A3 → A4 → Prop) (I : A1 → A2 → A3 → A4 → Prop) (μ : A1 → A2 → A3 → A4 → Nat) (hs : ∀ (n : Nat) (a1 : A1) (a2 : A2) (a3 : A3) (a4 : A4), I a1 a2 a3 a4 → (∀ (b1 : A1) (b2 : A2) (b3 : A3) (b4 : A4), I b1 b2 b3 b4 → μ b1 b2 b3 b4 < μ a1 a2 a3 a4 → W n b1 b2 b3 b4) → W (n + 1) a1 a2 a3 a4) (a1 : A1) (a2 : A2) (a3 : A3) (a4 : A4) (h : I a1 a2 a3 a4) : ∃ n, W n a1 a2 a3 a4 :=
  loop_m (σ := A1 × A2 × A3 × A4) (fun n s => W n s.1 s.2.1 s.2.2.1 s.2.2.2) (fun s => I s.1 s.2.1 s.2.2.1 s.2.2.2) (fun s => μ s.1 s.2.1 s.2.2.1 s.2.2.2) (fun n s hI hk => hs n s.1 s.2.1 s.2.2.1 s.2.2.2 hI (fun b1 b2 b3 b4 h9 hm => hk (b1, b2, b3, b4) h9 hm)) (a1, a2, a3, a4) h
theorem lp5 {A1 A2 A3 A4 A5 : Type} (W : Nat → A1 → A2 → A3 → A4 → A5 → Prop) (I : A1 → A2 → A3 → A4 → A5 → Prop) (μ : A1 → A2 → A3 → A4 → A5 → Nat) (hs : ∀ (n : Nat) (a1 : A1) (a2 : A2) (a3 : A3) (a4 : A4) (a5 : A5), I a1 a2 a3 a4 a5 → (∀ (b1 : A1) (b2 : A2) (b3 : A3) (b4 : A4) (b5 : A5), I b1 b2 b3 b4 b5 → μ b1 b2 b3 b4 b5 < μ a1 a2 a3 a4 a5 → W n b1 b2 b3 b4 b5) → W (n + 1) a1 a2 a3 a4 a5) (a1 : A1) (a2 : A2) (a3 : A3) (a4 : A4) (a5 : A5) (h : I a1 a2 a3 a4 a5) : ∃ n, W n a1 a2 a3 a4 a5 :=
  loop_m (σ := A1 × A2 × A3 × A4 × A5) (fun n s => W n s.1 s.2.1 s.2.2.1 s.2.2.2.1 s.2.2.2.2) (fun s => I s.1 s.2.1 s.2.2.1 s.2.2.2.1 s.2.2.2.2) (fun s => μ s.1 s.2.1 s.2.2.1 s.2.2.2.1 s.2.2.2.2) (fun n s hI hk => hs n s.1 s.2.1 s.2.2.1 s.2.2.2.1 s.2.2.2.2 hI (fun b1 b2 b3 b4 b5 h9 hm => hk (b1, b2, b3, b4, b5) h9 hm)) (a1, a2, a3, a4, a5) h
theorem lp6 {A1 A2 A3 A4 A5 A6 : Type} (W : Nat → A1 → A2 → A3 → A4 → A5 → A6 → Prop) (I : A1 → A2 → A3 → A4 → A5 → A6 → Prop) (μ : A1 → A2 → A3 → A4 → A5 → A6 → Nat) (hs : ∀ (n : Nat) (a1 : A1) (a2 : A2) (a3 : A3) (a4 : A4) (a5 : A5) (a6 : A6), I a1 a2 a3 a4 a5 a6 → (∀ (b1 : A1) (b2 : A2) (b3 : A3) (b4 : A4) (b5 : A5) (b6 : A6), I b1 b2 b3 b4 b5 b6 → μ b1 b2 b3 b4 b5 b6 < μ a1 a2 a3 a4 a5 a6 → W n b1 b2 b3 b4 b5 b6) → W (n + 1) a1 a2 a3 a4 a5 a6) (a1 : A1) (a2 : A2) (a3 : A3) (a4 : A4) (a5 : A5) (a6 : A6) (h : I a1 a2 a3 a4 a5 a6) : ∃ n, W n a1 a2 a3 a4 a5 a6 :=
  loop_m (σ := A1 × A2 × A3 × A4 × A5 × A6) (fun n s => W n s.1 s.2.1 s.2.2.1 s.2.2.2.1 s.2.2.2.2.1 s.2.2.2.2.2) (fun s => I s.1 s.2.1 s.2.2.1 s.2.2.2.1 s.2.2.2.2.1 s.2.2.2.2.2) (fun s => μ s.1 s.2.1 s.2.2.1 s.2.2.2.1 s.2.2.2.2.1 s.2.2.2.2.2) (fun n s hI hk => hs n s.1 s.2.1 s.2.2.1 s.2.2.2.1 s.2.2.2.2.1 s.2.2.2.2.2 hI (fun b1 b2 b3 b4 b5 b6 h9 hm => hk (b1, b2, b3, b4, b5, b6) h9 hm)) (a1, a2, a3, a4, a5, a6) h
theorem lp7 {A1 A2 A3 A4 A5 A6 A7 : Type} (W : Nat → A1 → A2 → A3 → A4 → A5 → A6 → A7 → Prop) (I : A1 → A2 → A3 → A4 → A5 → A6 → A7 → Prop) (μ : A1 → A2 → A3 → A4 → A5 → A6 → A7 → Nat) (hs : ∀ (n : Nat) (a1 : A1) (a2 : A2) (a3 : A3) (a4 : A4) (a5 : A5) (a6 : A6) (a7 : A7), I a1 a2 a3 a4 a5 a6 a7 → (∀ (b1 : A1) (b2 : A2) (b3 : A3) (b4 : A4) (b5 : A5) (b6 : A6) (b7 : A7), I b1 b2 b3 b4 b5 b6 b7 → μ b1 b2 b3 b4 b5 b6 b7 < μ a1 a2 a3 a4 a5 a6 a7 → W n b1 b2 b3 b4 b5 b6 b7) → W (n + 1) a1 a2 a3 a4 a5 a6 a7) (a1 : A1) (a2 : A2) (a3 : A3) (a4 : A4) (a5 : A5) (a6 : A6) (a7 : A7) (h : I a1 a2 a3 a4 a5 a6 a7) : ∃ n, W n a1 a2 a3 a4 a5 a6 a7 :=
  loop_m (σ := A1 × A2 × A3 × A4 × A5 × A6 × A7) (fun n s => W n s.1 s.2.1 s.2.2.1 s.2.2.2.1 s.2.2.2.2.1 s.2.2.2.2.2.1 s.2.2.2.2.2.2) (fun s => I s.1 s.2.1 s.2.2.1 s.2.2.2.1 s.2.2.2.2.1 s.2.2.2.2.2.1 s.2.2.2.2.2.2) (fun s => μ s.1 s.2.1 s.2.2.1 s.2.2.2.1 s.2.2.2.2.1 s.2.2.2.2.2.1 s.2.2.2.2.2.2) (fun n s hI hk => hs n s.1 s.2.1 s.2.2.1 s.2.2.2.1 s.2.2.2.2.1 s.2.2.2.2.2.1 s.2.2.2.2.2.2 hI (fun b1 b2 b3 b4 b5 b6 b7 h9 hm => hk (b1, b2, b3, b4, b5, b6, b7) h9 hm)) (a1, a2, a3, a4, a5, a6, a7) h
theorem lp8 {A1 A2 A3 A4 A5 A6 A7 A8 : Type} (W : Nat → A1 → A2 → A3 → A4 → A5 → A6 → A7 → A8 → Prop) (I : A1 → A2 → A3 → A4 → A5 → A6 → A7 → A8 → Prop) (μ : A1 → A2 → A3 → A4 → A5 → A6 → A7 → A8 → Nat) (hs : ∀ (n : Nat) (a1 : A1) (a2 : A2) (a3 : A3) (a4 : A4) (a5 : A5) (a6 : A6) (a7 : A7) (a8 : A8), I a1 a2 a3 a4 a5 a6 a7 a8 → (∀ (b1 : A1) (b2 : A2) (b3 : A3) (b4 : A4) (b5 : A5) (b6 : A6) (b7 : A7) (b8 : A8), I b1 b2 b3 b4 b5 b6 b7 b8 → μ b1 b2 b3 b4 b5 b6 b7 b8 < μ a1 a2 a3 a4 a5 a6 a7 a8 → W n b1 b2 b3 b4 b5 b6 b7 b8) → W (n + 1) a1 a2 a3 a4 a5 a6 a7 a8) (a1 : A1) (a2 : A2) (a3 : A3) (a4 : A4) (a5 : A5) (a6 : A6) (a7 : A7) (a8 : A8) (h : I a1 a2 a3 a4 a5 a6 a7 a8) : ∃ n, W n a1 a2 a3 a4 a5 a6 a7 a8 :=
  loop_m (σ := A1 × A2 × A3 × A4 × A5 × A6 × A7 × A8) (fun n s => W n s.1 s.2.1 s.2.2.1 s.2.2.2.1 s.2.2.2.2.1 s.2.2.2.2.2.1 s.2.2.2.2.2.2.1 s.2.2.2.2.2.2.2) (fun s => I s.1 s.2.1 s.2.2.1 s.2.2.2.1 s.2.2.2.2.1 s.2.2.2.2.2.1 s.2.2.2.2.2.2.1 s.2.2.2.2.2.2.2) (fun s => μ s.1 s.2.1 s.2.2.1 s.2.2.2.1 s.2.2.2.2.1 s.2.2.2.2.2.1 s.2.2.2.2.2.2.1 s.2.2.2.2.2.2.2) (fun n s hI hk => hs n s.1 s.2.1 s.2.2.1 s.2.2.2.1 s.2.2.2.2.1 s.2.2.2.2.2.1 s.2.2.2.2.2.2.1 s.2.2.2.2.2.2.2 hI (fun b1 b2 b3 b4 b5 b6 b7 b8 h9 hm => hk (b1, b2, b3, b4, b5, b6, b7, b8) h9 hm)) (a1, a2, a3, a4, a5, a6, a7, a8) h
theorem lp9 {A1 A2 A3 A4 A5 A6 A7 A8 A9 : Type} (W : Nat → A1 → A2 → A3 → A4 → A5 → A6 → A7 → A8 → A9 → Prop) (I : A1 → A2 → A3 → A4 → A5 → A6 → A7 → A8 → A9 → Prop) (μ : A1 → A2 → A3 → A4 → A5 → A6 → A7 → A8 → A9 → Nat) (hs : ∀ (n : Nat) (a1 : A1) (a2 : A2) (a3 : A3) (a4 : A4) (a5 : A5) (a6 : A6) (a7 : A7) (a8 : A8) (a9 : A9), I a1 a2 a3 a4 a5 a6 a7 a8 a9 → (∀ (b1 : A1) (b2 : A2) (b3 : A3) (b4 : A4) (b5 : A5) (b6 : A6) (b7 : A7) (b8 : A8) (b9 : A9), I b1 b2 b3 b4 b5 b6 b7 b8 b9 → μ b1 b2 b3 b4 b5 b6 b7 b8 b9 < μ a1 a2 a3 a4 a5 a6 a7 a8 a9 → W n b1 b2 b3 b4 b5 b6 b7 b8 b9) → W (n + 1) a1 a2 a3 a4 a5 a6 a7 a8 a9) (a1 : A1) (a2 : A2) (a3 : A3) (a4 : A4) (a5 : A5) (a6 : A6) (a7 : A7) (a8 : A8) (a9 : A9) (h : I a1 a2 a3 a4 a5 a6 a7 a8 a9) : ∃ n, W n a1 a2 a3 a4 a5 a6 a7 a8 a9 :=
  loop_m (σ := A1 × A2 × A3 × A4 × A5 × A6 × A7 × A8 × A9) (fun n s => W n s.1 s.2.1 s.2.2.1 s.2.2.2.1 s.2.2.2.2.1 s.2.2.2.2.2.1 s.2.2.2.2.2.2.1 s.2.2.2.2.2.2.2.1 s.2.2.2.2.2.2.2.2) (fun s => I s.1 s.2.1 s.2.2.1 s.2.2.2.1 s.2.2.2.2.1 s.2.2.2.2.2.1 s.2.2.2.2.2.2.1 s.2.2.2.2.2.2.2.1 s.2.2.2.2.2.2.2.2) (fun s => μ s.1 s.2.1 s.2.2.1 s.2.2.2.1 s.2.2.2.2.1 s.2.2.2.2.2.1 s.2.2.2.2.2.2.1 s.2.2.2.2.2.2.2.1 s.2.2.2.2.2.2.2.2) (fun n s hI hk => hs n s.1 s.2.1 s.2.2.1 s.2.2.2.1 s.2.2.2.2.1 s.2.2.2.2.2.1 s.2.2.2.2.2.2.1 s.2.2.2.2.2.2.2.1 s.2.2.2.2.2.2.2.2 hI (fun b1 b2 b3 b4 b5 b6 b7 b8 b9 h9 hm => hk (b1, b2, b3, b4, b5, b6, b7, b8, b9) h9 hm)) (a1, a2, a3, a4, a5, a6, a7, a8, a9) h
theorem lp10 {A1 A2 A3 A4 A5 A6 A7 A8 A9 A10 : Type} (W : Nat → A1 → A2 → A3 → A4 → A5 → A6 → A7 → A8 → A9 → A10 → Prop) (I : A1 → A2 → A3 → A4 → A5 → A6 → A7 → A8 → A9 → A10 → Prop) (μ : A1 → A2 → A3 → A4 → A5 → A6 → A7 → A8 → A9 → A10 → Nat) (hs : ∀ (n : Nat) (a1 : A1) (a2 : A2) (a3 : A3) (a4 : A4) (a5 : A5) (a6 : A6) (a7 : A7) (a8 : A8) (a9 : A9) (a10 : A10), I a1 a2 a3 a4 a5 a6 a7 a8 a9 a10 → (∀ (b1 : A1) (b2 : A2) (b3 : A3) (b4 : A4) (b5 : A5) (b6 : A6) (b7 : A7) (b8 : A8) (b9 : A9) (b10 : A10), I b1 b2 b3 b4 b5 b6 b7 b8 b9 b10 → μ b1 b2 b3 b4 b5 b6 b7 b8 b9 b10 < μ a1 a2 a3 a4 a5 a6 a7 a8 a9 a10 → W n b1 b2 b3 b4 b5 b6 b7 b8 b9 b10) → W (n + 1) a1 a2 a3 a4 a5 a6 a7 a8 a9 a10) (a1 : A1) (a2 : A2) (a3 : A3) (a4 : A4) (a5 : A5) (a6 : A6) (a7 : A7) (a8 : A8) (a9 : A9) (a10 : A10) (h : I a1 a2 a3 a4 a5 a6 a7 a8 a9 a10) : ∃ n, W n a1 a2 a3 a4 a5 a6 a7 a8 a9 a10 :=
  loop_m (σ := A1 × A2 × A3 × A4 × A5 × A6 × A7 × A8 × A9 × A10) (fun n s => W n s.1 s.2.1 s.2.2.1 s.2.2.2.1 s.2.2.2.2.1 s.2.2.2.2.2.1 s.2.2.2.2.2.2.1 s.2.2.2.2.2.2.2.1 s.2.2.2.2.2.2.2.2.1 s.2.2.2.2.2.2.2.2.2) (fun s => I s.1 s.2.1 s.2.2.1 s.2.2.2.1 s.2.2.2.2.1 s.2.2.2.2.2.1 s.2.2.2.2.2.2.1 s.2.2.2.2.2.2.2.1 s.2.2.2.2.2.2.2.2.1 s.2.2.2.2.2.2.2.2.2) (fun s => μ s.1 s.2.1 s.2.2.1 s.2.2.2.1 s.2.2.2.2.1 s.2.2.2.2.2.1 s.2.2.2.2.2.2.1 s.2.2.2.2.2.2.2.1 s.2.2.2.2.2.2.2.2.1 s.2.2.2.2.2.2.2.2.2) (fun n s hI hk => hs n s.1 s.2.1 s.2.2.1 s.2.2.2.1 s.2.2.2.2.1 s.2.2.2.2.2.1 s.2.2.2.2.2.2.1 s.2.2.2.2.2.2.2.1 s.2.2.2.2.2.2.2.2.1 s.2.2.2.2.2.2.2.2.2 hI (fun b1 b2 b3 b4 b5 b6 b7 b8 b9 b10 h9 hm => hk (b1, b2, b3, b4, b5, b6, b7, b8, b9, b10) h9 hm)) (a1, a2, a3, a4, a5, a6, a7, a8, a9, a10) h
theorem lp11 {A1 A2 A3 A4 A5 A6 A7 A8 A9 A10 A11 : Type} (W : Nat → A1 → A2 → A3 → A4 → A5 → A6 → A7 → A8 → A9 → A10 → A11 → Prop) (I : A1 → A2 → A3 → A4 → A5 → A6 → A7 → A8 → A9 → A10 → A11 → Prop) (μ : A1 → A2 → A3 → A4 → A5 → A6 → A7 → A8 → A9 → A10 → A11 → Nat) (hs : ∀ (n : Nat) (a1 : A1) (a2 : A2) (a3 : A3) (a4 : A4) (a5 : A5) (a6 : A6) (a7 : A7) (a8 : A8) (a9 : A9) (a10 : A10) (a11 : A11), I a1 a2 a3 a4 a5 a6 a7 a8 a9 a10 a11 → (∀ (b1 : A1) (b2 : A2) (b3 : A3) (b4 : A4) (b5 : A5) (b6 : A6) (b7 : A7) (b8 : A8) (b9 : A9) (b10 : A10) (b11 : A11), I b1 b2 b3 b4 b5 b6 b7 b8 b9 b10 b11 → μ b1 b2 b3 b4 b5 b6 b7 b8 b9 b10 b11 < μ a1 a2 a3 a4 a5 a6 a7 a8 a9 a10 a11 → W n b1 b2 b3 b4 b5 b6 b7 b8 b9 b10 b11) → W (n + 1) a1 a2 a3 a4 a5 a6 a7 a8 a9 a10 a11) (a1 : A1) (a2 : A2) (a3 : A3) (a4 : A4) (a5 : A5) (a6 : A6) (a7 : A7) (a8 : A8) (a9 : A9) (a10 : A10) (a11 : A11) (h : I a1 a2 a3 a4 a5 a6 a7 a8 a9 a10 a11) : ∃ n, W n a1 a2 a3 a4 a5 a6 a7 a8 a9 a10 a11 :=
  loop_m (σ := A1 × A2 × A3 × A4 × A5 × A6 × A7 × A8 × A9 × A10 × A11) (fun n s => W n s.1 s.2.1 s.2.2.1 s.2.2.2.1 s.2.2.2.2.1 s.2.2.2.2.2.1 s.2.2.2.2.2.2.1 s.2.2.2.2.2.2.2.1 s.2.2.2.2.2.2.2.2.1 s.2.2.2.2.2.2.2.2.2.1 s.2.2.2.2.2.2.2.2.2.2) (fun s => I s.1 s.2.1 s.2.2.1 s.2.2.2.1 s.2.2.2.2.1 s.2.2.2.2.2.1 s.2.2.2.2.2.2.1 s.2.2.2.2.2.2.2.1 s.2.2.2.2.2.2.2.2.1 s.2.2.2.2.2.2.2.2.2.1 s.2.2.2.2.2.2.2.2.2.2) (fun s => μ s.1 s.2.1 s.2.2.1 s.2.2.2.1 s.2.2.2.2.1 s.2.2.2.2.2.1 s.2.2.2.2.2.2.1 s.2.2.2.2.2.2.2.1 s.2.2.2.2.2.2.2.2.1 s.2.2.2.2.2.2.2.2.2.1 s.2.2.2.2.2.2.2.2.2.2) (fun n s hI hk => hs n s.1 s.2.1 s.2.2.1 s.2.2.2.1 s.2.2.2.2.1 s.2.2.2.2.2.1 s.2.2.2.2.2.2.1 s.2.2.2.2.2.2.2.1 s.2.2.2.2.2.2.2.2.1 s.2.2.2.2.2.2.2.2.2.1 s.2.2.2.2.2.2.2.2.2.2 hI (fun b1 b2 b3 b4 b5 b6 b7 b8 b9 b10 b11 h9 hm => hk (b1, b2, b3, b4, b5, b6, b7, b8, b9, b10, b11) h9 hm)) (a1, a2, a3, a4, a5, a6, a7, a8, a9, a10, a11) h
theorem lp12 {A1 A2 A3 A4 A5 A6 A7 A8 A9 A10 A11 A12 : Type} (W : Nat → A1 → A2 → A3 → A4 → A5 → A6 → A7 → A8 → A9 → A10 → A11 → A12 → Prop) (I : A1 → A2 → A3 → A4 → A5 → A6 → A7 → A8 → A9 → A10 → A11 → A12 → Prop) (μ : A1 → A2 → A3 → A4 → A5 → A6 → A7 → A8 → A9 → A10 → A11 → A12 → Nat) (hs : ∀ (n : Nat) (a1 : A1) (a2 : A2) (a3 : A3) (a4 : A4) (a5 : A5) (a6 : A6) (a7 : A7) (a8 : A8) (a9 : A9) (a10 : A10) (a11 : A11) (a12 : A12), I a1 a2 a3 a4 a5 a6 a7 a8 a9 a10 a11 a12 → (∀ (b1 : A1) (b2 : A2) (b3 : A3) (b4 : A4) (b5 : A5) (b6 : A6) (b7 : A7) (b8 : A8) (b9 : A9) (b10 : A10) (b11 : A11) (b12 : A12), I b1 b2 b3 b4 b5 b6 b7 b8 b9 b10 b11 b12 → μ b1 b2 b3 b4 b5 b6 b7 b8 b9 b10 b11 b12 < μ a1 a2 a3 a4 a5 a6 a7 a8 a9 a10 a11 a12 → W n b1 b2 b3 b4 b5 b6 b7 b8 b9 b10 b11 b12) → W (n + 1) a1 a2 a3 a4 a5 a6 a7 a8 a9 a10 a11 a12) (a1 : A1) (a2 : A2) (a3 : A3) (a4 : A4) (a5 : A5) (a6 : A6) (a7 : A7) (a8 : A8) (a9 : A9) (a10 : A10) (a11 : A11) (a12 : A12) (h : I a1 a2 a3 a4 a5 a6 a7 a8 a9 a10 a11 a12) : ∃ n, W n a1 a2 a3 a4 a5 a6 a7 a8 a9 a10 a11 a12 :=
  loop_m (σ := A1 × A2 × A3 × A4 × A5 × A6 × A7 × A8 × A9 × A10 × A11 × A12) (fun n s => W n s.1 s.2.1 s.2.2.1 s.2.2.2.1 s.2.2.2.2.1 s.2.2.2.2.2.1 s.2.2.2.2.2.2.1 s.2.2.2.2.2.2.2.1 s.2.2.2.2.2.2.2.2.1 s.2.2.2.2.2.2.2.2.2.1 s.2.2.2.2.2.2.2.2.2.2.1 s.2.2.2.2.2.2.2.2.2.2.2) (fun s => I s.1 s.2.1 s.2.2.1 s.2.2.2.1 s.2.2.2.2.1 s.2.2.2.2.2.1 s.2.2.2.2.2.2.1 s.2.2.2.2.2.2.2.1 s.2.2.2.2.2.2.2.2.1 s.2.2.2.2.2.2.2.2.2.1 s.2.2.2.2.2.2.2.2.2.2.1 s.2.2.2.2.2.2.2.2.2.2.2) (fun s => μ s.1 s.2.1 s.2.2.1 s.2.2.2.1 s.2.2.2.2.1 s.2.2.2.2.2.1 s.2.2.2.2.2.2.1 s.2.2.2.2.2.2.2.1 s.2.2.2.2.2.2.2.2.1 s.2.2.2.2.2.2.2.2.2.1 s.2.2.2.2.2.2.2.2.2.2.1 s.2.2.2.2.2.2.2.2.2.2.2) (fun n s hI hk => hs n s.1 s.2.1 s.2.2.1 s.2.2.2.1 s.2.2.2.2.1 s.2.2.2.2.2.1 s.2.2.2.2.2.2.1 s.2.2.2.2.2.2.2.1 s.2.2.2.2.2.2.2.2.1 s.2.2.2.2.2.2.2.2.2.1 s.2.2.2.2.2.2.2.2.2.2.1 s.2.2.2.2.2.2.2.2.2.2.2 hI (fun b1 b2 b3 b4 b5 b6 b7 b8 b9 b10 b11 b12 h9 hm => hk (b1, b2, b3, b4, b5, b6, b7, b8, b9, b10, b11, b12) h9 hm)) (a1, a2, a3, a4, a5, a6, a7, a8, a9, a10, a11, a12) h
theorem lp13 {A1 A2 A3 A4 A5 A6 A7 A8 A9 A10 A11 A12 A13 : Type} (W : Nat → A1 → A2 → A3 → A4 → A5 → A6 → A7 → A8 → A9 → A10 → A11 → A12 → A13 → Prop) (I : A1 → A2 → A3 → A4 → A5 → A6 → A7 → A8 → A9 → A10 → A11 → A12 → A13 → Prop) (μ : A1 → A2 → A3 → A4 → A5 → A6 → A7 → A8 → A9 → A10 → A11 → A12 → A13 → Nat) (hs : ∀ (n : Nat) (a1 : A1) (a2 : A2) (a3 : A3) (a4 : A4) (a5 : A5) (a6 : A6) (a7 : A7) (a8 : A8) (a9 : A9) (a10 : A10) (a11 : A11) (a12 : A12) (a13 : A13), I a1 a2 a3 a4 a5 a6 a7 a8 a9 a10 a11 a12 a13 → (∀ (b1 : A1) (b2 : A2) (b3 : A3) (b4 : A4) (b5 : A5) (b6 : A6) (b7 : A7) (b8 : A8) (b9 : A9) (b10 : A10) (b11 : A11) (b12 : A12) (b13 : A13), I b1 b2 b3 b4 b5 b6 b7 b8 b9 b10 b11 b12 b13 → μ b1 b2 b3 b4 b5 b6 b7 b8 b9 b10 b11 b12 b13 < μ a1 a2 a3 a4 a5 a6 a7 a8 a9 a10 a11 a12 a13 → W n b1 b2 b3 b4 b5 b6 b7 b8 b9 b10 b11 b12 b13) → W (n + 1) a1 a2 a3 a4 a5 a6 a7 a8 a9 a10 a11 a12 a13) (a1 : A1) (a2 : A2) (a3 : A3) (a4 : A4) (a5 : A5) (a6 : A6) (a7 : A7) (a8 : A8) (a9 : A9) (a10 : A10) (a11 : A11) (a12 : A12) (a13 : A13) (h : I a1 a2 a3 a4 a5 a6 a7 a8 a9 a10 a11 a12 a13) : ∃ n, W n a1 a2 a3 a4 a5 a6 a7 a8 a9 a10 a11 a12 a13 :=
  loop_m (σ := A1 × A2 × A3 × A4 × A5 × A6 × A7 × A8 × A9 × A10 × A11 × A12 × A13) (fun n s => W n s.1 s.2.1 s.2.2.1 s.2.2.2.1 s.2.2.2.2.1 s.2.2.2.2.2.1 s.2.2.2.2.2.2.1 s.2.2.2.2.2.2.2.1 s.2.2.2.2.2.2.2.2.1 s.2.2.2.2.2.2.2.2.2.1 s.2.2.2.2.2.2.2.2.2.2.1 s.2.2.2.2.2.2.2.2.2.2.2.1 s.2.2.2.2.2.2.2.2.2.2.2.2) (fun s => I s.1 s.2.1 s.2.2.1 s.2.2.2.1 s.2.2.2.2.1 s.2.2.2.2.2.1 s.2.2.2.2.2.2.1 s.2.2.2.2.2.2.2.1 s.2.2.2.2.2.2.2.2.1 s.2.2.2.2.2.2.2.2.2.1 s.2.2.2.2.2.2.2.2.2.2.1 s.2.2.2.2.2.2.2.2.2.2.2.1 s.2.2.2.2.2.2.2.2.2.2.2.2) (fun s => μ s.1 s.2.1 s.2.2.1 s.2.2.2.1 s.2.2.2.2.1 s.2.2.2.2.2.1 s.2.2.2.2.2.2.1 s.2.2.2.2.2.2.2.1 s.2.2.2.2.2.2.2.2.1 s.2.2.2.2.2.2.2.2.2.1 s.2.2.2.2.2.2.2.2.2.2.1 s.2.2.2.2.2.2.2.2.2.2.2.1 s.2.2.2.2.2.2.2.2.2.2.2.2) (fun n s hI hk => hs n s.1 s.2.1 s.2.2.1 s.2.2.2.1 s.2.2.2.2.1 s.2.2.2.2.2.1 s.2.2.2.2.2.2.1 s.2.2.2.2.2.2.2.1 s.2.2.2.2.2.2.2.2.1 s.2.2.2.2.2.2.2.2.2.1 s.2.2.2.2.2.2.2.2.2.2.1 s.2.2.2.2.2.2.2.2.2.2.2.1 s.2.2.2.2.2.2.2.2.2.2.2.2 hI (fun b1 b2 b3 b4 b5 b6 b7 b8 b9 b10 b11 b12 b13 h9 hm => hk (b1, b2, b3, b4, b5, b6, b7, b8, b9, b10, b11, b12, b13) h9 hm)) (a1, a2, a3, a4, a5, a6, a7, a8, a9, a10, a11, a12, a13) h
theorem lp14 {A1 A2 A3 A4 A5 A6 A7 A8 A9 A10 A11 A12 A13 A14 : Type} (W : Nat → A1 → A2 → A3 → A4 → A5 → A6 → A7 → A8 → A9 → A10 → A11 → A12 → A13 → A14 → Prop) (I : A1 → A2 → A3 → A4 → A5 → A6 → A7 → A8 → A9 → A10 → A11 → A12 → A13 → A14 → Prop) (μ : A1 → A2 → A3 → A4 → A5 → A6 → A7 → A8 → A9 → A10 → A11 → A12 → A13 → A14 → Nat) (hs : ∀ (n : Nat) (a1 : A1) (a2 : A2) (a3 : A3) (a4 : A4) (a5 : A5) (a6 : A6) (a7 : A7) (a8 : A8) (a9 : A9) (a10 : A10) (a11 : A11) (a12 : A12) (a13 : A13) (a14 : A14), I a1 a2 a3 a4 a5 a6 a7 a8 a9 a10 a11 a12 a13 a14 → (∀ (b1 : A1) (b2 : A2) (b3 : A3) (b4 : A4) (b5 : A5) (b6 : A6) (b7 : A7) (b8 : A8) (b9 : A9) (b10 : A10) (b11 : A11) (b12 : A12) (b13 : A13) (b14 : A14), I b1 b2 b3 b4 b5 b6 b7 b8 b9 b10 b11 b12 b13 b14 → μ b1 b2 b3 b4 b5 b6 b7 b8 b9 b10 b11 b12 b13 b14 < μ a1 a2 a3 a4 a5 a6 a7 a8 a9 a10 a11 a12 a13 a14 → W n b1 b2 b3 b4 b5 b6 b7 b8 b9 b10 b11 b12 b13 b14) → W (n + 1) a1 a2 a3 a4 a5 a6 a7 a8 a9 a10 a11 a12 a13 a14) (a1 : A1) (a2 : A2) (a3 : A3) (a4 : A4) (a5 : A5) (a6 : A6) (a7 : A7) (a8 : A8) (a9 : A9) (a10 : A10) (a11 : A11) (a12 : A12) (a13 : A13) (a14 : A14) (h : I a1 a2 a3 a4 a5 a6 a7 a8 a9 a10 a11 a12 a13 a14) : ∃ n, W n a1 a2 a3 a4 a5 a6 a7 a8 a9 a10 a11 a12 a13 a14 :=
  loop_m (σ := A1 × A2 × A3 × A4 × A5 × A6 × A7 × A8 × A9 × A10 × A11 × A12 × A13 × A14) (fun n s => W n s.1 s.2.1 s.2.2.1 s.2.2.2.1 s.2.2.2.2.1 s.2.2.2.2.2.1 s.2.2.2.2.2.2.1 s.2.2.2.2.2.2.2.1 s.2.2.2.2.2.2.2.2.1 s.2.2.2.2.2.2.2.2.2.1 s.2.2.2.2.2.2.2.2.2.2.1 s.2.2.2.2.2.2.2.2.2.2.2.1 s.2.2.2.2.2.2.2.2.2.2.2.2.1 s.2.2.2.2.2.2.2.2.2.2.2.2.2) (fun s => I s.1 s.2.1 s.2.2.1 s.2.2.2.1 s.2.2.2.2.1 s.2.2.2.2.2.1 s.2.2.2.2.2.2.1 s.2.2.2.2.2.2.2.1 s.2.2.2.2.2.2.2.2.1 s.2.2.2.2.2.2.2.2.2.1 s.2.2.2.2.2.2.2.2.2.2.1 s.2.2.2.2.2.2.2.2.2.2.2.1 s.2.2.2.2.2.2.2.2.2.2.2.2.1 s.2.2.2.2.2.2.2.2.2.2.2.2.2) (fun s => μ s.1 s.2.1 s.2.2.1 s.2.2.2.1 s.2.2.2.2.1 s.2.2.2.2.2.1 s.2.2.2.2.2.2.1 s.2.2.2.2.2.2.2.1 s.2.2.2.2.2.2.2.2.1 s.2.2.2.2.2.2.2.2.2.1 s.2.2.2.2.2.2.2.2.2.2.1 s.2.2.2.2.2.2.2.2.2.2.2.1 s.2.2.2.2.2.2.2.2.2.2.2.2.1 s.2.2.2.2.2.2.2.2.2.2.2.2.2) (fun n s hI hk => hs n s.1 s.2.1 s.2.2.1 s.2.2.2.1 s.2.2.2.2.1 s.2.2.2.2.2.1 s.2.2.2.2.2.2.1 s.2.2.2.2.2.2.2.1 s.2.2.2.2.2.2.2.2.1 s.2.2.2.2.2.2.2.2.2.1 s.2.2.2.2.2.2.2.2.2.2.1 s.2.2.2.2.2.2.2.2.2.2.2.1 s.2.2.2.2.2.2.2.2.2.2.2.2.1 s.2.2.2.2.2.2.2.2.2.2.2.2.2 hI (fun b1 b2 b3 b4 b5 b6 b7 b8 b9 b10 b11 b12 b13 b14 h9 hm => hk (b1, b2, b3, b4, b5, b6, b7, b8, b9, b10, b11, b12, b13, b14) h9 hm)) (a1, a2, a3, a4, a5, a6, a7, a8, a9, a10, a11, a12, a13, a14) h
theorem lp15 {A1 A2 A3 A4 A5 A6 A7 A8 A9 A10 A11 A12 A13 A14 A15 : Type} (W : Nat → A1 → A2 → A3 → A4 → A5 → A6 → A7 → A8 → A9 → A10 → A11 → A12 → A13 → A14 → A15 → Prop) (I : A1 → A2 → A3 → A4 → A5 → A6 → A7 → A8 → A9 → A10 → A11 → A12 → A13 → A14 → A15 → Prop) (μ : A1 → A2 → A3 → A4 → A5 → A6 → A7 → A8 → A9 → A10 → A11 → A12 → A13 → A14 → A15 → Nat) (hs : ∀ (n : Nat) (a1 : A1) (a2 : A2) (a3 : A3) (a4 : A4) (a5 : A5) (a6 : A6) (a7 : A7) (a8 : A8) (a9 : A9) (a10 : A10) (a11 : A11) (a12 : A12) (a13 : A13) (a14 : A14) (a15 : A15), I a1 a2 a3 a4 a5 a6 a7 a8 a9 a10 a11 a12 a13 a14 a15 → (∀ (b1 : A1) (b2 : A2) (b3 : A3) (b4 : A4) (b5 : A5) (b6 : A6) (b7 : A7) (b8 : A8) (b9 : A9) (b10 : A10) (b11 : A11) (b12 : A12) (b13 : A13) (b14 : A14) (b15 : A15), I b1 b2 b3 b4 b5 b6 b7 b8 b9 b10 b11 b12 b13 b14 b15 → μ b1 b2 b3 b4 b5 b6 b7 b8 b9 b10 b11 b12 b13 b14 b15 < μ a1 a2 a3 a4 a5 a6 a7 a8 a9 a10 a11 a12 a13 a14 a15 → W n b1 b2 b3 b4 b5 b6 b7 b8 b9 b10 b11 b12 b13 b14 b15) → W (n + 1) a1 a2 a3 a4 a5 a6 a7 a8 a9 a10 a11 a12 a13 a14 a15) (a1 : A1) (a2 : A2) (a3 : A3) (a4 : A4) (a5 : A5) (a6 : A6) (a7 : A7) (a8 : A8) (a9 : A9) (a10 : A10) (a11 : A11) (a12 : A12) (a13 : A13) (a14 : A14) (a15 : A15) (h : I a1 a2 a3 a4 a5 a6 a7 a8 a9 a10 a11 a12 a13 a14 a15) : ∃ n, W n a1 a2 a3 a4 a5 a6 a7 a8 a9 a10 a11 a12 a13 a14 a15 :=
  loop_m (σ := A1 × A2 × A3 × A4 × A5 × A6 × A7 × A8 × A9 × A10 × A11 × A12 × A13 × A14 × A15) (fun n s => W n s.1 s.2.1 s.2.2.1 s.2.2.2.1 s.2.2.2.2.1 s.2.2.2.2.2.1 s.2.2.2.2.2.2.1 s.2.2.2.2.2.2.2.1 s.2.2.2.2.2.2.2.2.1 s.2.2.2.2.2.2.2.2.2.1 s.2.2.2.2.2.2.2.2.2.2.1 s.2.2.2.2.2.2.2.2.2.2.2.1 s.2.2.2.2.2.2.2.2.2.2.2.2.1 s.2.2.2.2.2.2.2.2.2.2.2.2.2.1 s.2.2.2.2.2.2.2.2.2.2.2.2.2.2) (fun s => I s.1 s.2.1 s.2.2.1 s.2.2.2.1 s.2.2.2.2.1 s.2.2.2.2.2.1 s.2.2.2.2.2.2.1 s.2.2.2.2.2.2.2.1 s.2.2.2.2.2.2.2.2.1 s.2.2.2.2.2.2.2.2.2.1 s.2.2.2.2.2.2.2.2.2.2.1 s.2.2.2.2.2.2.2.2.2.2.2.1 s.2.2.2.2.2.2.2.2.2.2.2.2.1 s.2.2.2.2.2.2.2.2.2.2.2.2.2.1 s.2.2.2.2.2.2.2.2.2.2.2.2.2.2) (fun s => μ s.1 s.2.1 s.2.2.1 s.2.2.2.1 s.2.2.2.2.1 s.2.2.2.2.2.1 s.2.2.2.2.2.2.1 s.2.2.2.2.2.2.2.1 s.2.2.2.2.2.2.2.2.1 s.2.2.2.2.2.2.2.2.2.1 s.2.2.2.2.2.2.2.2.2.2.1 s.2.2.2.2.2.2.2.2.2.2.2.1 s.2.2.2.2.2.2.2.2.2.2.2.2.1 s.2.2.2.2.2.2.2.2.2.2.2.2.2.1 s.2.2.2.2.2.2.2.2.2.2.2.2.2.2) (fun n s hI hk => hs n s.1 s.2.1 s.2.2.1 s.2.2.2.1 s.2.2.2.2.1 s.2.2.2.2.2.1 s.2.2.2.2.2.2.1 s.2.2.2.2.2.2.2.1 s.2.2.2.2.2.2.2.2.1 s.2.2.2.2.2.2.2.2.2.1 s.2.2.2.2.2.2.2.2.2.2.1 s.2.2.2.2.2.2.2.2.2.2.2.1 s.2.2.2.2.2.2.2.2.2.2.2.2.1 s.2.2.2.2.2.2.2.2.2.2.2.2.2.1 s.2.2.2.2.2.2.2.2.2.2.2.2.2.2 hI (fun b1 b2 b3 b4 b5 b6 b7 b8 b9 b10 b11 b12 b13 b14 b15 h9 hm => hk (b1, b2, b3, b4, b5, b6, b7, b8, b9, b10, b11, b12, b13, b14, b15) h9 hm)) (a1, a2, a3, a4, a5, a6, a7, a8, a9, a10, a11, a12, a13, a14, a15) h
theorem lp16 {A1 A2 A3 A4 A5 A6 A7 A8 A9 A10 A11 A12 A13 A14 A15 A16 : Type} (W : Nat → A1 → A2 → A3 → A4 → A5 → A6 → A7 → A8 → A9 → A10 → A11 → A12 → A13 → A14 → A15 → A16 → Prop) (I : A1 → A2 → A3 → A4 → A5 → A6 → A7 → A8 → A9 → A10 → A11 → A12 → A13 → A14 → A15 → A16 → Prop) (μ : A1 → A2 → A3 → A4 → A5 → A6 → A7 → A8 → A9 → A10 → A11 → A12 → A13 → A14 → A15 → A16 → Nat) (hs : ∀ (n : Nat) (a1 : A1) (a2 : A2) (a3 : A3) (a4 : A4) (a5 : A5) (a6 : A6) (a7 : A7) (a8 : A8) (a9 : A9) (a10 : A10) (a11 : A11) (a12 : A12) (a13 : A13) (a14 : A14) (a15 : A15) (a16 : A16), I a1 a2 a3 a4 a5 a6 a7 a8 a9 a10 a11 a12 a13 a14 a15 a16 → (∀ (b1 : A1) (b2 : A2) (b3 : A3) (b4 : A4) (b5 : A5) (b6 : A6) (b7 : A7) (b8 : A8) (b9 : A9) (b10 : A10) (b11 : A11) (b12 : A12) (b13 : A13) (b14 : A14) (b15 : A15) (b16 : A16), I b1 b2 b3 b4 b5 b6 b7 b8 b9 b10 b11 b12 b13 b14 b15 b16 → μ b1 b2 b3 b4 b5 b6 b7 b8 b9 b10 b11 b12 b13 b14 b15 b16 < μ a1 a2 a3 a4 a5 a6 a7 a8 a9 a10 a11 a12 a13 a14 a15 a16 → W n b1 b2 b3 b4 b5 b6 b7 b8 b9 b10 b11 b12 b13 b14 b15 b16) → W (n + 1) a1 a2 a3 a4 a5 a6 a7 a8 a9 a10 a11 a12 a13 a14 a15 a16) (a1 : A1) (a2 : A2) (a3 : A3) (a4 : A4) (a5 : A5) (a6 : A6) (a7 : A7) (a8 : A8) (a9 : A9) (a10 : A10) (a11 : A11) (a12 : A12) (a13 : A13) (a14 : A14) (a15 : A15) (a16 : A16) (h : I a1 a2 a3 a4 a5 a6 a7 a8 a9 a10 a11 a12 a13 a14 a15 a16) : ∃ n, W n a1 a2 a3 a4 a5 a6 a7 a8 a9 a10 a11 a12 a13 a14 a15 a16 :=
  loop_m (σ := A1 × A2 × A3 × A4 × A5 × A6 × A7 × A8 × A9 × A10 × A11 × A12 × A13 × A14 × A15 × A16) (fun n s => W n s.1 s.2.1 s.2.2.1 s.2.2.2.1 s.2.2.2.2.1 s.2.2.2.2.2.1 s.2.2.2.2.2.2.1 s.2.2.2.2.2.2.2.1 s.2.2.2.2.2.2.2.2.1 s.2.2.2.2.2.2.2.2.2.1 s.2.2.2.2.2.2.2.2.2.2.1 s.2.2.2.2.2.2.2.2.2.2.2.1 s.2.2.2.2.2.2.2.2.2.2.2.2.1 s.2.2.2.2.2.2.2.2.2.2.2.2.2.1 s.2.2.2.2.2.2.2.2.2.2.2.2.2.2.1 s.2.2.2.2.2.2.2.2.2.2.2.2.2.2.2) (fun s => I s.1 s.2.1 s.2.2.1 s.2.2.2.1 s.2.2.2.2.1 s.2.2.2.2.2.1 s.2.2.2.2.2.2.1 s.2.2.2.2.2.2.2.1 s.2.2.2.2.2.2.2.2.1 s.2.2.2.2.2.2.2.2.2.1 s.2.2.2.2.2.2.2.2.2.2.1 s.2.2.2.2.2.2.2.2.2.2.2.1 s.2.2.2.2.2.2.2.2.2.2.2.2.1 s.2.2.2.2.2.2.2.2.2.2.2.2.2.1 s.2.2.2.2.2.2.2.2.2.2.2.2.2.2.1 s.2.2.2.2.2.2.2.2.2.2.2.2.2.2.2) (fun s => μ s.1 s.2.1 s.2.2.1 s.2.2.2.1 s.2.2.2.2.1 s.2.2.2.2.2.1 s.2.2.2.2.2.2.1 s.2.2.2.2.2.2.2.1 s.2.2.2.2.2.2.2.2.1 s.2.2.2.2.2.2.2.2.2.1 s.2.2.2.2.2.2.2.2.2.2.1 s.2.2.2.2.2.2.2.2.2.2.2.1 s.2.2.2.2.2.2.2.2.2.2.2.2.1 s.2.2.2.2.2.2.2.2.2.2.2.2.2.1 s.2.2.2.2.2.2.2.2.2.2.2.2.2.2.1 s.2.2.2.2.2.2.2.2.2.2.2.2.2.2.2) (fun n s hI hk => hs n s.1 s.2.1 s.2.2.1 s.2.2.2.1 s.2.2.2.2.1 s.2.2.2.2.2.1 s.2.2.2.2.2.2.1 s.2.2.2.2.2.2.2.1 s.2.2.2.2.2.2.2.2.1 s.2.2.2.2.2.2.2.2.2.1 s.2.2.2.2.2.2.2.2.2.2.1 s.2.2.2.2.2.2.2.2.2.2.2.1 s.2.2.2.2.2.2.2.2.2.2.2.2.1 s.2.2.2.2.2.2.2.2.2.2.2.2.2.1 s.2.2.2.2.2.2.2.2.2.2.2.2.2.2.1 s.2.2.2.2.2.2.2.2.2.2.2.2.2.2.2 hI (fun b1 b2 b3 b4 b5 b6 b7 b8 b9 b10 b11 b12 b13 b14 b15 b16 h9 hm => hk (b1, b2, b3, b4, b5, b6, b7, b8, b9, b10, b11, b12, b13, b14, b15, b16) h9 hm)) (a1, a2, a3, a4, a5, a6, a7, a8, a9, a10, a11, a12, a13, a14, a15, a16) h
theorem pk_least (P : Nat → Prop) (h : ∃ k, P k) : ∃ k, P k ∧ ∀ j, j < k → ¬ P j := by
  obtain ⟨k, hk⟩ := h
  induction k using Nat.strongRecOn with
  | ind k ih =>
    by_cases e : ∃ j, j < k ∧ P j
    · obtain ⟨j, hj, pj⟩ := e
      exact ih j hj pj
    · exact ⟨k, hk, fun j hj pj => e ⟨j, hj, pj⟩⟩
theorem rp1 {ρ A1 : Type} (W : Nat → (ρ → Prop) → A1 → Prop) (ok : A1 → Prop) (μ : A1 → Nat) (val : A1 → ρ)
    (hs : ∀ (d : Nat) (post : ρ → Prop) (a1 : A1), ok a1 → post (val a1) → (∀ (post' : ρ → Prop) (b1 : A1), ok b1 → μ b1 < μ a1 → post' (val b1) → W d post' b1) → W (d + 1) post a1) :
    ∀ (d : Nat) (post : ρ → Prop) (a1 : A1), ok a1 → μ a1 < d → post (val a1) → W d post a1 := by
  intro d
  induction d with
  | zero => intro post a1 _ h; omega
  | succ d ih =>
    intro post a1 ho hm hp
    exact hs d post a1 ho hp (fun post' b1 ho' hm' hp' => ih post' b1 ho' (by omega) hp')
theorem rp2 {ρ A1 A2 : Type} (W : Nat → (ρ → Prop) → A1 → A2 → Prop) (ok : A1 → A2 → Prop) (μ : A1 → A2 → Nat) (val : A1 → A2 → ρ)
    (hs : ∀ (d : Nat) (post : ρ → Prop) (a1 : A1) (a2 : A2), ok a1 a2 → post (val a1 a2) → (∀ (post' : ρ → Prop) (b1 : A1) (b2 : A2), ok b1 b2 → μ b1 b2 < μ a1 a2 → post' (val b1 b2) → W d post' b1 b2) → W (d + 1) post a1 a2) :
    ∀ (d : Nat) (post : ρ → Prop) (a1 : A1) (a2 : A2), ok a1 a2 → μ a1 a2 < d → post (val a1 a2) → W d post a1 a2 := by
  intro d
  induction d with
  | zero => intro post a1 a2 _ h; omega
  | succ d ih =>
    intro post a1 a2 ho hm hp
    exact hs d post a1 a2 ho hp (fun post' b1 b2 ho' hm' hp' => ih post' b1 b2 ho' (by omega) hp')
theorem rp3 {ρ A1 A2 A3 : Type} (W : Nat → (ρ → Prop) → A1 → A2 → A3 → Prop) (ok : A1 → A2 → A3 → Prop) (μ : A1 → A2 → A3 → Nat) (val : A1 → A2 → A3 → ρ)
    (hs : ∀ (d : Nat) (post : ρ → Prop) (a1 : A1) (a2 : A2) (a3 : A3), ok a1 a2 a3 → post (val a1 a2 a3) → (∀ (post' : ρ → Prop) (b1 : A1) (b2 : A2) (b3 : A3), ok b1 b2 b3 → μ b1 b2 b3 < μ a1 a2 a3 → post' (val b1 b2 b3) → W d post' b1 b2 b3) → W (d + 1) post a1 a2 a3) :
    ∀ (d : Nat) (post : ρ → Prop) (a1 : A1) (a2 : A2) (a3 : A3), ok a1 a2 a3 → μ a1 a2 a3 < d → post (val a1 a2 a3) → W d post a1 a2 a3 := by
  intro d
  induction d with
  | zero => intro post a1 a2 a3 _ h; omega
  | succ d ih =>
    intro post a1 a2 a3 ho hm hp
    exact hs d post a1 a2 a3 ho hp (fun post' b1 b2 b3 ho' hm' hp' => ih post' b1 b2 b3 ho' (by omega) hp')
theorem rp4 {ρ A1 A2 A3 A4 : Type} (W : Nat → (ρ → Prop) → A1 → A2 → A3 → A4 → Prop) (ok : A1 → A2 → A3 → A4 → Prop) (μ : A1 → A2 → A3 → A4 → Nat) (val : A1 → A2 → A3 → A4 → ρ)
    (hs : ∀ (d : Nat) (post : ρ → Prop) (a1 : A1) (a2 : A2) (a3 : A3) (a4 : A4), ok a1 a2 a3 a4 → post (val a1 a2 a3 a4) → (∀ (post' : ρ → Prop) (b1 : A1) (b2 : A2) (b3 : A3) (b4 : A4), ok b1 b2 b3 b4 → μ b1 b2 b3 b4 < μ a1 a2 a3 a4 → post' (val b1 b2 b3 b4) → W d post' b1 b2 b3 b4) → W (d + 1) post a1 a2 a3 a4) :
    ∀ (d : Nat) (post : ρ → Prop) (a1 : A1) (a2 : A2) (a3 : A3) (a4 : A4), ok a1 a2 a3 a4 → μ a1 a2 a3 a4 < d → post (val a1 a2 a3 a4) → W d post a1 a2 a3 a4 := by
  intro d
  induction d with
  | zero => intro post a1 a2 a3 a4 _ h; omega
  | succ d ih =>
    intro post a1 a2 a3 a4 ho hm hp
    exact hs d post a1 a2 a3 a4 ho hp (fun post' b1 b2 b3 b4 ho' hm' hp' => ih post' b1 b2 b3 b4 ho' (by omega) hp')
theorem rp5 {ρ A1 A2 A3 A4 A5 : Type} (W : Nat → (ρ → Prop) → A1 → A2 → A3 → A4 → A5 → Prop) (ok : A1 → A2 → A3 → A4 → A5 → Prop) (μ : A1 → A2 → A3 → A4 → A5 → Nat) (val : A1 → A2 → A3 → A4 → A5 → ρ)
    (hs : ∀ (d : Nat) (post : ρ → Prop) (a1 : A1) (a2 : A2) (a3 : A3) (a4 : A4) (a5 : A5), ok a1 a2 a3 a4 a5 → post (val a1 a2 a3 a4 a5) → (∀ (post' : ρ → Prop) (b1 : A1) (b2 : A2) (b3 : A3) (b4 : A4) (b5 : A5), ok b1 b2 b3 b4 b5 → μ b1 b2 b3 b4 b5 < μ a1 a2 a3 a4 a5 → post' (val b1 b2 b3 b4 b5) → W d post' b1 b2 b3 b4 b5) → W (d + 1) post a1 a2 a3 a4 a5) :
    ∀ (d : Nat) (post : ρ → Prop) (a1 : A1) (a2 : A2) (a3 : A3) (a4 : A4) (a5 : A5), ok a1 a2 a3 a4 a5 → μ a1 a2 a3 a4 a5 < d → post (val a1 a2 a3 a4 a5) → W d post a1 a2 a3 a4 a5 := by
  intro d
  induction d with
  | zero => intro post a1 a2 a3 a4 a5 _ h; omega
  | succ d ih =>
    intro post a1 a2 a3 a4 a5 ho hm hp
    exact hs d post a1 a2 a3 a4 a5 ho hp (fun post' b1 b2 b3 b4 b5 ho' hm' hp' => ih post' b1 b2 b3 b4 b5 ho' (by omega) hp')
theorem rp6 {ρ A1 A2 A3 A4 A5 A6 : Type} (W : Nat → (ρ → Prop) → A1 → A2 → A3 → A4 → A5 → A6 → Prop) (ok : A1 → A2 → A3 → A4 → A5 → A6 → Prop) (μ : A1 → A2 → A3 → A4 → A5 → A6 → Nat) (val : A1 → A2 → A3 → A4 → A5 → A6 → ρ)
    (hs : ∀ (d : Nat) (post : ρ → Prop) (a1 : A1) (a2 : A2) (a3 : A3) (a4 : A4) (a5 : A5) (a6 : A6), ok a1 a2 a3 a4 a5 a6 → post (val a1 a2 a3 a4 a5 a6) → (∀ (post' : ρ → Prop) (b1 : A1) (b2 : A2) (b3 : A3) (b4 : A4) (b5 : A5) (b6 : A6), ok b1 b2 b3 b4 b5 b6 → μ b1 b2 b3 b4 b5 b6 < μ a1 a2 a3 a4 a5 a6 → post' (val b1 b2 b3 b4 b5 b6) → W d post' b1 b2 b3 b4 b5 b6) → W (d + 1) post a1 a2 a3 a4 a5 a6) :
    ∀ (d : Nat) (post : ρ → Prop) (a1 : A1) (a2 : A2) (a3 : A3) (a4 : A4) (a5 : A5) (a6 : A6), ok a1 a2 a3 a4 a5 a6 → μ a1 a2 a3 a4 a5 a6 < d → post (val a1 a2 a3 a4 a5 a6) → W d post a1 a2 a3 a4 a5 a6 := by
  intro d
  induction d with
  | zero => intro post a1 a2 a3 a4 a5 a6 _ h; omega
  | succ d ih =>
    intro post a1 a2 a3 a4 a5 a6 ho hm hp
    exact hs d post a1 a2 a3 a4 a5 a6 ho hp (fun post' b1 b2 b3 b4 b5 b6 ho' hm' hp' => ih post' b1 b2 b3 b4 b5 b6 ho' (by omega) hp')
theorem rec_p {σ ρ : Type} (W : Nat → (ρ → Prop) → σ → Prop) (ok : σ → Prop) (μ : σ → Nat) (val : σ → ρ)
    (hs : ∀ d s post, ok s → post (val s) → (∀ s' post', ok s' → μ s' < μ s → post' (val s') → W d post' s') → W (d + 1) post s) :
    ∀ d s post, ok s → μ s < d → post (val s) → W d post s := by
  intro d
  induction d with
  | zero => intro s post _ h; omega
  | succ d ih =>
    intro s post ho hm hp
    exact hs d s post ho hp (fun s' post' ho' hm' hp' => ih s' post' ho' (by omega) hp')
theorem rec_q {σ ρ : Type} (W : Nat → (ρ → Prop) → σ → Prop) (ok : σ → Prop) (μ : σ → Nat) (Q : σ → ρ → Prop)
    (hs : ∀ d s post, ok s → (∀ r, Q s r → post r) → (∀ s' post', ok s' → μ s' < μ s → (∀ r, Q s' r → post' r) → W d post' s') → W (d + 1) post s) :
    ∀ d s post, ok s → μ s < d → (∀ r, Q s r → post r) → W d post s := by
  intro d
  induction d with
  | zero => intro s post _ h; omega
  | succ d ih =>
    intro s post ho hm hp
    exact hs d s post ho hp (fun s' post' ho' hm' hp' => ih s' post' ho' (by omega) hp')
def bx_sum (f : Nat → Int32) : Nat → Int32
  | 0 => 0
  | n + 1 => bx_sum f n + f n
theorem ek_u {A : Prop} {B : Nat → Prop} {k N : Nat} (hk : k < N) (h : B k) : (some k = none → A) ∧ (∀ y : Nat, some k = some y → (y < N ∧ B y)) :=
  ⟨fun z => absurd z (Option.some_ne_none k), fun _ e => (by cases e; exact ⟨hk, h⟩)⟩
theorem ek_nu {A : Prop} {B : Nat → Prop} (h : A) : ((none : Option Nat) = none → A) ∧ (∀ y : Nat, (none : Option Nat) = some y → B y) :=
  ⟨fun _ => h, fun _ e => (by cases e)⟩
theorem ek_if {c d A B : Prop} (e : c ↔ d) (f : d → A) (g : ¬ d → B) : (c → A) ∧ (¬ c → B) :=
  ⟨fun z => f (e.mp z), fun z => g (fun y => z (e.mpr y))⟩
theorem ek_v {α : Sort _} {P : α → Prop} {a b : α} (e : a = b) (h : P b) : P a := e ▸ h
theorem co_some {x : Option Nat} {A : Prop} {B : Nat → Prop} (i : Nat) (h : B i) (hx : x = some i := by rfl) : (x = none → A) ∧ (∀ y : Nat, x = some y → B y) := by
  subst hx
  exact ⟨fun e => (nomatch e), fun y e => Option.some.inj e ▸ h⟩
theorem co_none {x : Option Nat} {A : Prop} {B : Nat → Prop} (h : A) (hx : x = none := by rfl) : (x = none → A) ∧ (∀ y : Nat, x = some y → B y) := by
  subst hx
  exact ⟨fun _ => h, fun y e => (nomatch e)⟩
theorem co_any {x : Option Nat} {A : Prop} {B : Nat → Prop} (hn : x = none → A) (hs : ∀ i : Nat, x = some i → B i) : (x = none → A) ∧ (∀ y : Nat, x = some y → B y) := ⟨hn, hs⟩
theorem co_2 {P : Nat → Prop} (h0 : P 0) (h1 : P 1) {i : Nat} (hi : i < 2) : P i :=
  match i, hi with
  | 0, _ => h0
  | 1, _ => h1
theorem co_3 {P : Nat → Prop} (h0 : P 0) (h1 : P 1) (h2 : P 2) {i : Nat} (hi : i < 3) : P i :=
  match i, hi with
  | 0, _ => h0
  | 1, _ => h1
  | 2, _ => h2
theorem co_4 {P : Nat → Prop} (h0 : P 0) (h1 : P 1) (h2 : P 2) (h3 : P 3) {i : Nat} (hi : i < 4) : P i :=
  match i, hi with
  | 0, _ => h0
  | 1, _ => h1
  | 2, _ => h2
  | 3, _ => h3
theorem co_dec {N : Nat} {P : Nat → Prop} [DecidablePred P] (h : (List.range N).all (fun i => decide (P i)) = true) {i : Nat} (hi : i < N) : P i := by
  have := List.all_eq_true.mp h i (List.mem_range.mpr hi)
  exact of_decide_eq_true this
theorem co_tab {α : Type} {l : List α} {d : α} {P : α → Prop} (h : ∀ a, a ∈ l → P a) {i : Nat} (hi : i < l.length) : P (l.getD i d) := by
  rw [List.getD_eq_getElem?_getD, List.getElem?_eq_getElem hi]
  exact h _ (List.getElem_mem hi)
theorem pk_mu {x : Int32} {L : Nat} (h0 : ¬ x < 0) (h : ¬ nI L ≤ x) (hL : L < 2 ^ 31) : ∃ j : Nat, j < L ∧ x = nI j ∧ x + 1 = nI (j + 1) ∧ x.toNatClampNeg = j ∧ L - (x + 1).toNatClampNeg < L - x.toNatClampNeg := by
  obtain ⟨j, hj, rfl⟩ := nI_of h0
  have hl : j < L := Nat.not_le.mp fun q => h (nI_le q hj)
  refine ⟨j, hl, rfl, nI_1 j, nI_clamp hj, ?_⟩
  rw [nI_1, nI_clamp (by omega), nI_clamp hj]
  omega
theorem op_s {α : Type} {r : Option α} {A : Prop} {B : α → Prop} {y : α} (h : r = some y) (b : B y) : (r = none → A) ∧ ∀ z, r = some z → B z :=
  ⟨fun e => (by rw [h] at e; cases e), fun z e => (by rw [h] at e; cases e; exact b)⟩
def l_holds {α : Type} (a : Nat → Option Nat) (LP : List Nat) (p : Nat → α) (c : Nat) (b : Nat → α) : Prop :=
  ∀ j, j < c → ∃ y, a j = some y ∧ y ∈ LP ∧ p y = b j
theorem l_holds_0 {α : Type} {a : Nat → Option Nat} {LP : List Nat} {p b : Nat → α} : l_holds a LP p 0 b := fun j h => absurd h (Nat.not_lt_zero j)
theorem l_in_new (LP : List Nat) (q : Nat) : q ∈ LP ++ [q] := List.mem_append.mpr (Or.inr (List.mem_singleton.mpr rfl))
def l_sum (b : Nat → Int32) : Nat → Int32
  | 0 => 0
  | k + 1 => l_sum b k + b k
theorem sb_shr0 (x : Int32) : x >>> ((0 : Int32) &&& 31) = x := by
  rw [show ((0 : Int32) &&& 31) = 0 by decide]
  simp
theorem sb_shl0 (x : Int32) : x <<< ((0 : Int32) &&& 31) = x := by
  rw [show ((0 : Int32) &&& 31) = 0 by decide]
  simp
theorem sb_cl0 : (0 : Int32).toNatClampNeg = 0 := by decide
theorem sb_m1 {p : Nat} (h : 0 < p) : nI p + (-1) = nI (p - 1) := by
  obtain ⟨q, rfl⟩ : ∃ q, p = q + 1 := ⟨p - 1, by omega⟩
  exact pk_m1 q
def sb_b (c : Nat) : Int32 := (nI c).toInt8.toInt32
theorem sb_byte : ∀ c, c < 256 → sb_b c &&& 255 = nI c ∧ ((nI c).toUInt32 % 65536).toInt32 = nI c ∧ nI c ≤ 255 := by decide +kernel
def sb_Fit (a : Nat → Int32) : Prop := ∀ j, fits .byte (.int (a j)) = true
def sb_Lat (t : Nat → Nat) (n : Nat) (a : Nat → Int32) : Prop := ∀ j, j < n → t j < 256 ∧ a j = sb_b (t j)
theorem sb_fitB (c : Nat) : fits .byte (.int (sb_b c)) = true := pk_fb _
theorem sb_fit0 : sb_Fit (fun _ => 0) := fun _ => by
  show fits .byte (.int 0) = true
  decide
theorem sb_fitU {a : Nat → Int32} {k : Nat} {x : Int32} (h : sb_Fit a) (hx : fits .byte (.int x) = true) : sb_Fit (upd a k x) := by
  intro j
  by_cases e : j = k
  · subst e
    rw [pk_us]
    exact hx
  · rw [pk_un e]
    exact h j
def sb_cat (t : Nat → Nat) (n : Nat) (s : Nat → Nat) : Nat → Nat := fun j => if j < n then t j else s (j - n)
theorem sb_cat_lo {t s : Nat → Nat} {n j : Nat} (h : j < n) : sb_cat t n s j = t j := if_pos h
theorem sb_cat_hi {t s : Nat → Nat} {n j : Nat} : sb_cat t n s (n + j) = s j := by
  show (if n + j < n then t (n + j) else s (n + j - n)) = s j
  rw [if_neg (by omega), Nat.add_sub_cancel_left]
theorem sb_latPut {t s : Nat → Nat} {n w : Nat} {a a' : Nat → Int32} (h : sb_Lat t n a) (hk : ∀ j, j < n → a' j = a j) (hs : ∀ i, i < w → s i < 256 ∧ a' (n + i) = sb_b (s i)) : sb_Lat (sb_cat t n s) (n + w) a' := by
  intro j hj
  by_cases e : j < n
  · rw [sb_cat_lo e, hk j e]
    exact h j e
  · obtain ⟨i, rfl⟩ : ∃ i, j = n + i := ⟨j - n, by omega⟩
    rw [sb_cat_hi]
    exact hs i (by omega)
theorem sb_latKeep {t : Nat → Nat} {n : Nat} {a a' : Nat → Int32} (h : sb_Lat t n a) (hk : ∀ j, j < n → a' j = a j) : sb_Lat t n a' := fun j hj => by
  rw [hk j hj]
  exact h j hj
def sb_cap (q m : Nat) : Nat := if q ≤ m then m else if 2 * m + 2 < q then q else 2 * m + 2
def sb_Room (q m mc ms : Nat) : Prop := q ≤ m ∨ (1 ≤ mc ∧ sb_cap q m ≤ ms ∧ sb_cap q m ≤ 65536)
theorem sb_cap_ge (q m : Nat) : q ≤ sb_cap q m := by
  unfold sb_cap
  split
  · omega
  · split <;> omega
theorem sb_cap_gem (q m : Nat) : m ≤ sb_cap q m := by
  unfold sb_cap
  split
  · omega
  · split <;> omega
theorem sb_cap_le {q m mc ms : Nat} (hm : m ≤ 65536) (hr : sb_Room q m mc ms) : sb_cap q m ≤ 65536 := by
  rcases hr with h | h
  · rw [sb_cap, if_pos h]
    exact hm
  · exact h.2.2
theorem sb_at {P : Int32 → Prop} {x y : Int32} (e : x = y) (h : P y) : P x := e ▸ h
def sb_dg (w : Nat) : Nat := if w < 10 then 1 else if w < 100 then 2 else if w < 1000 then 3 else if w < 10000 then 4 else if w < 100000 then 5 else if w < 1000000 then 6 else if w < 10000000 then 7 else if w < 100000000 then 8 else if w < 1000000000 then 9 else 10
def sb_dec (v : Nat) : Nat → Nat := fun i => 48 + v / 10 ^ (sb_dg v - 1 - i) % 10
theorem sb_dg_in (w : Nat) : 1 ≤ sb_dg w ∧ sb_dg w ≤ 10 := by
  unfold sb_dg
  constructor <;> (repeat' split) <;> omega
theorem sb_dg100 {w : Nat} (h : 100 ≤ w) (hw : w < 2 ^ 31) : sb_dg w = sb_dg (w / 100) + 2 := by
  rw [sb_dg, sb_dg, if_neg (show ¬ w < 10 by omega), if_neg (show ¬ w < 100 by omega)]
  by_cases h3 : w < 1000
  · rw [if_pos h3, if_pos (show w / 100 < 10 by omega)]
  rw [if_neg h3, if_neg (show ¬ w / 100 < 10 by omega)]
  by_cases h4 : w < 10000
  · rw [if_pos h4, if_pos (show w / 100 < 100 by omega)]
  rw [if_neg h4, if_neg (show ¬ w / 100 < 100 by omega)]
  by_cases h5 : w < 100000
  · rw [if_pos h5, if_pos (show w / 100 < 1000 by omega)]
  rw [if_neg h5, if_neg (show ¬ w / 100 < 1000 by omega)]
  by_cases h6 : w < 1000000
  · rw [if_pos h6, if_pos (show w / 100 < 10000 by omega)]
  rw [if_neg h6, if_neg (show ¬ w / 100 < 10000 by omega)]
  by_cases h7 : w < 10000000
  · rw [if_pos h7, if_pos (show w / 100 < 100000 by omega)]
  rw [if_neg h7, if_neg (show ¬ w / 100 < 100000 by omega)]
  by_cases h8 : w < 100000000
  · rw [if_pos h8, if_pos (show w / 100 < 1000000 by omega)]
  rw [if_neg h8, if_neg (show ¬ w / 100 < 1000000 by omega)]
  by_cases h9 : w < 1000000000
  · rw [if_pos h9, if_pos (show w / 100 < 10000000 by omega)]
  rw [if_neg h9, if_neg (show ¬ w / 100 < 10000000 by omega)]
  rw [if_pos (show w / 100 < 100000000 by omega)]
theorem sb_negT {w : Nat} (h : w < 2 ^ 31) : (-nI w).toInt = -(w : Int) := by
  rw [Int32.toInt_neg, nI_toInt h]
  exact Int.bmod_eq_of_le (by omega) (by omega)
theorem sb_nle {a b : Nat} (ha : a < 2 ^ 31) (hb : b < 2 ^ 31) : -nI a ≤ -nI b ↔ b ≤ a := by
  rw [Int32.le_iff_toInt_le, sb_negT ha, sb_negT hb]
  omega
theorem sb_nlt {a b : Nat} (ha : a < 2 ^ 31) (hb : b < 2 ^ 31) : -nI a < -nI b ↔ b < a := by
  rw [Int32.lt_iff_toInt_lt, sb_negT ha, sb_negT hb]
  omega
theorem sb_cmp {A B : Prop} {x : Int32} (v c : Nat) (f : c ≤ v → A) (g : v < c → B) (hv : v < 2 ^ 31) (hx : x = -nI c := by rfl) (hc : c < 2 ^ 31 := by omega) : (-nI v ≤ x → A) ∧ (¬ -nI v ≤ x → B) := by
  subst hx
  rw [sb_nle hv hc]
  exact ⟨f, fun z => g (by omega)⟩
theorem sb_ndiv {w : Nat} (hw : w < 2 ^ 31) : (-nI w) / 100 = -nI (w / 100) := by
  apply Int32.toInt_inj.mp
  have h100 : (100 : Int32).toInt = 100 := by decide
  rw [Int32.toInt_div, sb_negT hw, h100, sb_negT (by omega), Int.neg_tdiv, Int.tdiv_eq_ediv_of_nonneg (by omega), Int.bmod_eq_of_le (by omega) (by omega)]
  omega
theorem sb_nrem {w : Nat} (hw : w < 2 ^ 31) : (-nI (w / 100)) * 100 - (-nI w) = nI (w % 100) := by
  have h := pk_rem (a := w) (d := 100) hw (by decide) (by decide)
  rw [pk_div hw (by decide) (by decide)] at h
  rw [← h]
  show (-nI (w / 100)) * nI 100 - (-nI w) = nI w - nI (w / 100) * nI 100
  rw [Int32.neg_mul, Int32.sub_neg, Int32.add_comm, ← Int32.sub_eq_add_neg]
end
section
/-! rows on bits, shifts and unsigned numbers, to paste: each family out of a closed proof of our own, whole with what it rests on; each by itself clean at Lean in its own claim (generation 39, form 5). Take a family whole -/
/-! ===== Int32 by its bits: bt x i ===== -/
def bt (x : Int32) (i : Nat) : Bool := x.toBitVec.getLsbD i
theorem b_ext {x y : Int32} (h : ∀ i, i < 32 → bt x i = bt y i) : x = y := Int32.toBitVec_inj.mp (BitVec.eq_of_getLsbD_eq (fun i hi => h i hi))
theorem b_or (x y : Int32) (i : Nat) : bt (x ||| y) i = (bt x i || bt y i) := by unfold bt; rw [Int32.toBitVec_or, BitVec.getLsbD_or]
theorem b_and (x y : Int32) (i : Nat) : bt (x &&& y) i = (bt x i && bt y i) := by unfold bt; rw [Int32.toBitVec_and, BitVec.getLsbD_and]
theorem b_xor (x y : Int32) (i : Nat) : bt (x ^^^ y) i = (bt x i ^^ bt y i) := by unfold bt; rw [Int32.toBitVec_xor, BitVec.getLsbD_xor]
theorem b_big {x : Int32} {i : Nat} (h : 32 ≤ i) : bt x i = false := BitVec.getLsbD_of_ge _ _ h
theorem b_255 (i : Nat) : bt 255 i = decide (i < 8) := by
  rcases Nat.lt_or_ge i 32 with h | h
  · exact (by decide +kernel : ∀ i, i < 32 → bt 255 i = decide (i < 8)) i h
  · rw [b_big h, decide_eq_false (by omega)]
theorem b_65535 (i : Nat) : bt 65535 i = decide (i < 16) := by
  rcases Nat.lt_or_ge i 32 with h | h
  · exact (by decide +kernel : ∀ i, i < 32 → bt 65535 i = decide (i < 16)) i h
  · rw [b_big h, decide_eq_false (by omega)]
theorem b_m1 : ∀ i, i < 32 → bt (-1) i = true := by decide +kernel
theorem b_0 (i : Nat) : bt 0 i = false := BitVec.getLsbD_zero
theorem s_l : ∀ n, n < 32 → ((nI n &&& 31).toBitVec.smod 32).toNat = n := by decide +kernel
theorem s_u : ∀ n, n < 32 → (((nI n).toUInt32 &&& Int32.toUInt32 31).toBitVec % 32).toNat = n := by decide +kernel
theorem b_shl (n : Nat) (hn : n < 32) (x : Int32) {i : Nat} (hi : i < 32) : bt (x <<< (nI n &&& 31)) i = (decide (n ≤ i) && bt x (i - n)) := by
  unfold bt
  rw [Int32.toBitVec_shiftLeft]
  show (x.toBitVec <<< ((nI n &&& 31).toBitVec.smod 32).toNat).getLsbD i = _
  rw [s_l n hn, BitVec.getLsbD_shiftLeft]
  rcases Nat.lt_or_ge i n with h | h
  · simp [h, Nat.not_le.mpr h]
  · simp [hi, h, Nat.not_lt.mpr h]
theorem b_ushr (n : Nat) (hn : n < 32) (x : Int32) (i : Nat) : bt ((x.toUInt32 >>> ((nI n).toUInt32 &&& Int32.toUInt32 31)).toInt32) i = bt x (n + i) := by
  show (x.toUInt32 >>> ((nI n).toUInt32 &&& Int32.toUInt32 31)).toBitVec.getLsbD i = x.toUInt32.toBitVec.getLsbD (n + i)
  rw [UInt32.toBitVec_shiftRight]
  show (x.toUInt32.toBitVec >>> (((nI n).toUInt32 &&& Int32.toUInt32 31).toBitVec % 32).toNat).getLsbD i = _
  rw [s_u n hn, BitVec.getLsbD_ushiftRight]
theorem b_sshr (n : Nat) (hn : n < 32) (x : Int32) {i : Nat} (hi : i < 32) : bt (x >>> (nI n &&& 31)) i = if n + i < 32 then bt x (n + i) else bt x 31 := by
  unfold bt
  rw [Int32.toBitVec_shiftRight]
  show (x.toBitVec.sshiftRight ((nI n &&& 31).toBitVec.smod 32).toNat).getLsbD i = _
  rw [s_l n hn, BitVec.getLsbD_sshiftRight, BitVec.msb_eq_getLsbD_last]
  simp [hi]
theorem b_shl8 (x : Int32) {i : Nat} (hi : i < 32) : bt (x <<< ((8 : Int32) &&& 31)) i = (decide (8 ≤ i) && bt x (i - 8)) := b_shl 8 (by omega) x hi
theorem b_shl16 (x : Int32) {i : Nat} (hi : i < 32) : bt (x <<< ((16 : Int32) &&& 31)) i = (decide (16 ≤ i) && bt x (i - 16)) := b_shl 16 (by omega) x hi
theorem b_shl24 (x : Int32) {i : Nat} (hi : i < 32) : bt (x <<< ((24 : Int32) &&& 31)) i = (decide (24 ≤ i) && bt x (i - 24)) := b_shl 24 (by omega) x hi
theorem b_sshr8 (x : Int32) {i : Nat} (hi : i < 32) : bt (x >>> ((8 : Int32) &&& 31)) i = if 8 + i < 32 then bt x (8 + i) else bt x 31 := b_sshr 8 (by omega) x hi
/-! ===== nI under and, xor, >>>, one bit, 65535 ===== -/
theorem nx_and (a b : Nat) : nI a &&& nI b = nI (a &&& b) := by
  apply Int32.toBitVec_inj.1
  show BitVec.ofNat 32 a &&& BitVec.ofNat 32 b = BitVec.ofNat 32 (a &&& b)
  apply BitVec.eq_of_getLsbD_eq
  intro i hi
  simp [hi]
theorem nx_xor (a b : Nat) : nI a ^^^ nI b = nI (a ^^^ b) := by
  apply Int32.toBitVec_inj.1
  show BitVec.ofNat 32 a ^^^ BitVec.ofNat 32 b = BitVec.ofNat 32 (a ^^^ b)
  apply BitVec.eq_of_getLsbD_eq
  intro i hi
  simp [hi]
theorem nx_cnt : ∀ j : Fin 32, (UInt32.ofNat j.val &&& Int32.toUInt32 31).toNat % 32 = j.val := by decide +kernel
theorem nx_ush {k j : Nat} (hk : k < 65536) (hj : j < 32) : ((nI k).toUInt32 >>> ((nI j).toUInt32 &&& Int32.toUInt32 31)).toInt32 = nI (k >>> j) := by
  have hs : k >>> j ≤ k := by
    rw [Nat.shiftRight_eq_div_pow]
    exact Nat.div_le_self _ _
  have e2 : UInt32.ofNat k >>> (UInt32.ofNat j &&& Int32.toUInt32 31) = UInt32.ofNat (k >>> j) := by
    apply UInt32.toNat_inj.1
    have h1 : (UInt32.ofNat k).toNat = k := Nat.mod_eq_of_lt (by omega)
    have h2 : (UInt32.ofNat (k >>> j)).toNat = k >>> j := Nat.mod_eq_of_lt (by omega)
    rw [UInt32.toNat_shiftRight, nx_cnt ⟨j, hj⟩, h1, h2]
  show (UInt32.ofNat k >>> (UInt32.ofNat j &&& Int32.toUInt32 31)).toInt32 = _
  rw [e2]
  rfl
theorem nx_bit {k j : Nat} (hk : k < 65536) (hj : j < 16) : (((nI k).toUInt32 >>> ((nI j).toUInt32 &&& Int32.toUInt32 31)).toInt32 &&& 1) = 0 ↔ k.testBit j = false := by
  rw [nx_ush hk (by omega)]
  show nI (k >>> j) &&& nI 1 = 0 ↔ _
  rw [nx_and, Nat.and_one_is_mod, ← nI_0, nI_eq (by omega) (by omega), Nat.testBit_eq_decide_div_mod_eq, Nat.shiftRight_eq_div_pow, decide_eq_false_iff_not]
  generalize k / 2 ^ j = z
  omega
theorem nx_mod (k : Nat) : nI k &&& 65535 = nI (k % 65536) := by
  show nI k &&& nI 65535 = _
  rw [nx_and, show (65535 : Nat) = 2 ^ 16 - 1 from rfl, Nat.and_two_pow_sub_one_eq_mod]
theorem nx_m16 {k : Nat} (h : k < 65536) : nI k &&& 65535 = nI k := by rw [nx_mod, Nat.mod_eq_of_lt h]
theorem nx_mask (x : Int32) : ∃ k, k < 65536 ∧ x &&& 65535 = nI k := by
  have e : x = nI x.toBitVec.toNat := by
    apply Int32.toBitVec_inj.1
    show x.toBitVec = BitVec.ofNat 32 x.toBitVec.toNat
    simp
  refine ⟨x.toBitVec.toNat % 65536, Nat.mod_lt _ (by omega), ?_⟩
  rw [← nx_mod, ← e]
/-! ===== Int32 as a set of bits: test, set ===== -/
def nf_M (m : Int32) : Nat := 4294967296 - m.toBitVec.toNat
theorem nf_sh : ∀ l, l < 32 → ((1 : Int32) <<< (nI l &&& 31)).toBitVec = BitVec.twoPow 32 l := by decide +kernel
theorem nf_sl : ∀ l, l < 32 → (((nI l).toUInt32 &&& Int32.toUInt32 31).toBitVec % 32).toNat = l := by decide +kernel
theorem nf_tp : ∀ l, l < 32 → BitVec.twoPow 32 l ≠ 0#32 := by decide +kernel
theorem nf_bit (m : Int32) (l : Nat) (hl : l < 32) : ((m.toUInt32 >>> ((nI l).toUInt32 &&& Int32.toUInt32 31)).toInt32 &&& 1) = 0 ↔ (m &&& ((1 : Int32) <<< (nI l &&& 31))) = 0 := by
  have e : ((m.toUInt32 >>> ((nI l).toUInt32 &&& Int32.toUInt32 31)).toInt32).toBitVec = m.toBitVec >>> l := by
    show m.toBitVec >>> (((nI l).toUInt32 &&& Int32.toUInt32 31).toBitVec % 32) = m.toBitVec >>> l
    rw [BitVec.ushiftRight_eq', nf_sl l hl]
  rw [← Int32.toBitVec_inj, ← Int32.toBitVec_inj, Int32.toBitVec_and, Int32.toBitVec_and, nf_sh l hl, e, BitVec.and_twoPow]
  show (m.toBitVec >>> l &&& 1#32) = 0#32 ↔ _ = 0#32
  rw [BitVec.and_one_eq_setWidth_ofBool_getLsbD, BitVec.getLsbD_ushiftRight, Nat.add_zero]
  cases hb : m.toBitVec.getLsbD l
  · exact ⟨fun _ => by simp, fun _ => by decide⟩
  · exact ⟨fun z => absurd z (by decide), fun z => absurd ((if_pos rfl).symm.trans z) (nf_tp l hl)⟩
theorem nf_gr (m k : Int32) (h : m &&& k = 0) (hk : k ≠ 0) : nf_M (m ||| k) < nf_M m := by
  have hm := m.toBitVec.isLt
  have hm' := (m ||| k).toBitVec.isLt
  have h1 : m.toBitVec.toNat ≤ (m ||| k).toBitVec.toNat := by
    rw [Int32.toBitVec_or, BitVec.toNat_or]
    exact Nat.left_le_or
  have h2 : m.toBitVec.toNat ≠ (m ||| k).toBitVec.toNat := by
    intro e
    have e2 : m = m ||| k := Int32.toBitVec_inj.mp (BitVec.eq_of_toNat_eq e)
    apply hk
    apply Int32.toBitVec_inj.mp
    show k.toBitVec = 0#32
    apply BitVec.eq_of_getLsbD_eq
    intro i hi
    have a : m.toBitVec.getLsbD i = (m.toBitVec.getLsbD i || k.toBitVec.getLsbD i) := by rw [← BitVec.getLsbD_or, ← Int32.toBitVec_or, ← e2]
    have b : (m.toBitVec.getLsbD i && k.toBitVec.getLsbD i) = false := by
      rw [← BitVec.getLsbD_and, ← Int32.toBitVec_and, h]
      exact BitVec.getLsbD_zero
    rw [BitVec.getLsbD_zero]
    revert a b
    cases m.toBitVec.getLsbD i <;> cases k.toBitVec.getLsbD i <;> simp
  unfold nf_M
  omega
/-! ===== a byte read unsigned ===== -/
theorem bp_b (x : Int32) : x.toInt8.toInt32 &&& 255 = x &&& 255 := by
  apply Int32.toBitVec_inj.mp
  rw [Int32.toBitVec_and, Int32.toBitVec_and, Int8.toBitVec_toInt32, Int32.toBitVec_toInt8]
  apply BitVec.eq_of_getLsbD_eq
  intro i hi
  rw [BitVec.getLsbD_and, BitVec.getLsbD_and]
  have hm : ∀ i < 32, 8 ≤ i → (255 : Int32).toBitVec.getLsbD i = false := by decide
  rcases Nat.lt_or_ge i 8 with z | z
  · rw [BitVec.getLsbD_signExtend, BitVec.getLsbD_signExtend, if_pos z, if_pos hi]
    simp only [z, hi, decide_true, Bool.true_and]
  · rw [hm i hi z]; simp
/-! ===== the char cast and 65535 ===== -/
theorem em_w (v : Int32) : ∃ w : Nat, w < 65536 ∧ (v.toUInt32 % 65536).toInt32 = nI w ∧ v &&& 65535 = nI w := by
  have hr := lw_u16_r v
  have h0 : (0 : Int32).toInt = 0 := by decide
  obtain ⟨w, h1, h2⟩ := nI_of (x := lw_u16 v) (by rw [Int32.lt_iff_toInt_lt]; omega)
  have h3 : (v.toUInt32 % 65536).toInt32 = nI w := h2
  rw [h2, nI_toInt h1] at hr
  exact ⟨w, by omega, h3, by rw [← lg_i2c_mask, ← lg_i2c_nf, h3]⟩
/-! ===== Int64 as a set of bits: test, set, clear ===== -/
theorem ts_nf {x : Bool} (h : ¬ x = false) : x = true := by cases x <;> first | rfl | exact absurd rfl h
theorem ts_nt {x : Bool} (h : ¬ x = true) : x = false := by cases x <;> first | rfl | exact absurd rfl h
theorem ts_bit {w : Int64} {s : UInt64} {j : Nat} (hj : j < 64) (hs : s.toNat = j) : ((w.toUInt64 >>> s).toInt64 &&& 1) = 0 ↔ w.toBitVec.getLsbD j = false := by
  have e : (w.toUInt64 >>> s).toInt64.toBitVec = w.toBitVec >>> j := by
    apply BitVec.eq_of_toNat_eq
    show (w.toUInt64 >>> s).toNat = _
    rw [UInt64.toNat_shiftRight, hs, Nat.mod_eq_of_lt hj, BitVec.toNat_ushiftRight]
    rfl
  rw [← Int64.toBitVec_inj, Int64.toBitVec_and, e]
  show w.toBitVec >>> j &&& 1#64 = 0#64 ↔ _
  constructor
  · intro h
    have t := congrArg (fun x => x.getLsbD 0) h
    simpa using t
  · intro h
    apply BitVec.eq_of_getLsbD_eq
    intro i hi
    cases i with
    | zero => simp [h]
    | succ i => simp
theorem ts_or {w m : Int64} {j : Nat} (hj : j < 64) (hm : m.toBitVec = BitVec.twoPow 64 j) : (w ||| m) = w ↔ w.toBitVec.getLsbD j = true := by
  rw [← Int64.toBitVec_inj, Int64.toBitVec_or, hm]
  constructor
  · intro h
    have t := congrArg (fun x => x.getLsbD j) h
    simp only [BitVec.getLsbD_or, BitVec.getLsbD_twoPow] at t
    simpa [hj] using t.symm
  · intro h
    apply BitVec.eq_of_getLsbD_eq
    intro i hi
    rw [BitVec.getLsbD_or, BitVec.getLsbD_twoPow]
    by_cases e : j = i
    · subst e; rw [h, Bool.true_or]
    · simp [e]
theorem ts_and {w m : Int64} {j : Nat} (hj : j < 64) (hm : m.toBitVec = BitVec.twoPow 64 j) : (w &&& (m ^^^ (-1))) = w ↔ w.toBitVec.getLsbD j = false := by
  have ha : (-1 : Int64).toBitVec = BitVec.allOnes 64 := by decide
  rw [← Int64.toBitVec_inj, Int64.toBitVec_and, Int64.toBitVec_xor, hm, ha]
  constructor
  · intro h
    have t := congrArg (fun x => x.getLsbD j) h
    simp only [BitVec.getLsbD_and, BitVec.getLsbD_xor, BitVec.getLsbD_twoPow, BitVec.getLsbD_allOnes] at t
    simpa [hj] using t.symm
  · intro h
    apply BitVec.eq_of_getLsbD_eq
    intro i hi
    rw [BitVec.getLsbD_and, BitVec.getLsbD_xor, BitVec.getLsbD_twoPow, BitVec.getLsbD_allOnes]
    by_cases e : j = i
    · subst e; rw [h, Bool.false_and]
    · simp [e, hi]
/-! ===== lN n to 2^64: shifts, and, or, masks, one bit ===== -/
theorem wb_tb (n : Nat) : (lN n).toBitVec = BitVec.ofNat 64 n := rfl
theorem wb_inj {a b : Int64} (h : a.toBitVec = b.toBitVec) : a = b := Int64.toBitVec_inj.mp h
theorem wb_tn {n : Nat} (h : n < 2 ^ 64) : (lN n).toBitVec.toNat = n := by rw [wb_tb, BitVec.toNat_ofNat, Nat.mod_eq_of_lt h]
theorem wb_of (x : Int64) : ∃ n, n < 2 ^ 64 ∧ x = lN n := ⟨x.toBitVec.toNat, x.toBitVec.isLt, wb_inj (by rw [wb_tb]; simp)⟩
theorem wb_of32 (x : Int32) : ∃ n, n < 2 ^ 32 ∧ x = nI n := ⟨x.toBitVec.toNat, x.toBitVec.isLt, Int32.toBitVec_inj.mp (by show _ = BitVec.ofNat 32 _; simp)⟩
theorem wb_c : ∀ k, k < 64 → ((nI k).toInt64 &&& 63) = lN k := by decide +kernel
theorem wb_cu : ∀ k, k < 64 → ((nI k).toInt64.toUInt64 &&& Int64.toUInt64 63) = UInt64.ofNat k := by decide +kernel
theorem wb_sm : ∀ k, k < 64 → (BitVec.ofNat 64 k).smod 64 = BitVec.ofNat 64 k := by decide +kernel
theorem wb_pw {a b : Nat} (h : a ≤ b) : 2 ^ b = 2 ^ a * 2 ^ (b - a) := by rw [← Nat.pow_add]; congr 1; omega
theorem wb_lt2 {a b : Nat} (h : a < b) : 2 ^ a < 2 ^ b := Nat.pow_lt_pow_right (by decide) h
theorem wb_mod (n : Nat) : lN n = lN (n % 2 ^ 64) := wb_inj (by rw [wb_tb, wb_tb]; apply BitVec.eq_of_toNat_eq; rw [BitVec.toNat_ofNat, BitVec.toNat_ofNat, Nat.mod_mod])
theorem wb_shr {n k : Nat} (hn : n < 2 ^ 64) (hk : k < 64) : ((lN n).toUInt64 >>> ((nI k).toInt64.toUInt64 &&& Int64.toUInt64 63)).toInt64 = lN (n / 2 ^ k) := by
  rw [wb_cu k hk]
  apply wb_inj
  apply BitVec.eq_of_toNat_eq
  show ((lN n).toUInt64 >>> UInt64.ofNat k).toNat = (BitVec.ofNat 64 _).toNat
  have h1 : (UInt64.ofNat k).toNat = k := by
    show (BitVec.ofNat 64 k).toNat = k
    rw [BitVec.toNat_ofNat, Nat.mod_eq_of_lt (by omega)]
  have h2 : (lN n).toUInt64.toNat = n := wb_tn hn
  rw [UInt64.toNat_shiftRight, h1, h2, Nat.mod_eq_of_lt hk, Nat.shiftRight_eq_div_pow, BitVec.toNat_ofNat, Nat.mod_eq_of_lt (Nat.lt_of_le_of_lt (Nat.div_le_self _ _) hn)]
theorem wb_shl (n : Nat) {k : Nat} (hk : k < 64) : lN n <<< ((nI k).toInt64 &&& 63) = lN (n * 2 ^ k) := by
  rw [wb_c k hk]
  apply wb_inj
  rw [Int64.toBitVec_shiftLeft, wb_tb, wb_tb, wb_tb, wb_sm k hk]
  apply BitVec.eq_of_toNat_eq
  rw [BitVec.shiftLeft_eq', BitVec.toNat_shiftLeft, BitVec.toNat_ofNat, BitVec.toNat_ofNat, BitVec.toNat_ofNat, Nat.mod_eq_of_lt (show k < 2 ^ 64 by omega), Nat.shiftLeft_eq, Nat.mul_mod, Nat.mod_mod, ← Nat.mul_mod]
theorem wb_and {a b : Nat} (ha : a < 2 ^ 64) (hb : b < 2 ^ 64) : lN a &&& lN b = lN (a &&& b) := by
  apply wb_inj
  rw [Int64.toBitVec_and, wb_tb, wb_tb, wb_tb]
  apply BitVec.eq_of_toNat_eq
  rw [BitVec.toNat_and, BitVec.toNat_ofNat, BitVec.toNat_ofNat, BitVec.toNat_ofNat, Nat.mod_eq_of_lt ha, Nat.mod_eq_of_lt hb, Nat.mod_eq_of_lt (Nat.and_lt_two_pow _ hb)]
theorem wb_or {a b : Nat} (ha : a < 2 ^ 64) (hb : b < 2 ^ 64) : lN a ||| lN b = lN (a ||| b) := by
  apply wb_inj
  rw [Int64.toBitVec_or, wb_tb, wb_tb, wb_tb]
  apply BitVec.eq_of_toNat_eq
  rw [BitVec.toNat_or, BitVec.toNat_ofNat, BitVec.toNat_ofNat, BitVec.toNat_ofNat, Nat.mod_eq_of_lt ha, Nat.mod_eq_of_lt hb, Nat.mod_eq_of_lt (Nat.or_lt_two_pow ha hb)]
theorem wb_mask {n k : Nat} (hn : n < 2 ^ 64) (hk : k < 64) : lN n &&& lN (2 ^ k - 1) = lN (n % 2 ^ k) := by
  rw [wb_and hn (by have := wb_lt2 hk; omega), Nat.and_two_pow_sub_one_eq_mod]
theorem wb_a1 {n : Nat} (hn : n < 2 ^ 64) : lN n &&& 1 = lN (n % 2) := wb_mask (k := 1) hn (by decide)
theorem wb_bit {n k : Nat} (hn : n < 2 ^ 64) (hk : k < 64) : ((lN n).toUInt64 >>> ((nI k).toInt64.toUInt64 &&& Int64.toUInt64 63)).toInt64 &&& 1 = lN (n / 2 ^ k % 2) := by
  rw [wb_shr hn hk, wb_a1 (Nat.lt_of_le_of_lt (Nat.div_le_self _ _) hn)]
theorem wb_xor {q k : Nat} (hk : k < 63) (h : 2 ^ k ≤ q) (h2 : q < 2 ^ (k + 1)) : lN q ^^^ lN (2 ^ k) = lN (q - 2 ^ k) := by
  obtain ⟨r, rfl⟩ : ∃ r, q = 2 ^ k + r := ⟨q - 2 ^ k, by omega⟩
  have hr : r < 2 ^ k := by rw [Nat.pow_succ] at h2; omega
  have hx : (2 ^ k + r) ^^^ 2 ^ k = r := by
    apply Nat.eq_of_testBit_eq
    intro i
    rw [Nat.testBit_xor, Nat.testBit_two_pow]
    rcases Nat.lt_trichotomy i k with h | h | h
    · rw [Nat.testBit_two_pow_add_gt h]
      simp [show ¬ k = i by omega]
    · subst h
      rw [Nat.testBit_two_pow_add_eq]
      simp
    · have a1 : 2 ^ (k + 1) ≤ 2 ^ i := Nat.pow_le_pow_right (by decide) h
      rw [Nat.testBit_lt_two_pow (show 2 ^ k + r < 2 ^ i by omega), Nat.testBit_lt_two_pow (show r < 2 ^ i by omega)]
      simp [show ¬ k = i by omega]
  have b1 := wb_lt2 (show k + 1 < 64 by omega)
  have b2 := wb_lt2 (show k < 64 by omega)
  apply wb_inj
  rw [Int64.toBitVec_xor, wb_tb, wb_tb, wb_tb]
  apply BitVec.eq_of_toNat_eq
  rw [BitVec.toNat_xor, BitVec.toNat_ofNat, BitVec.toNat_ofNat, BitVec.toNat_ofNat, Nat.mod_eq_of_lt (by omega : 2 ^ k + r < 2 ^ 64), Nat.mod_eq_of_lt b2, hx, Nat.add_sub_cancel_left, Nat.mod_eq_of_lt (by omega)]
/-! ===== lN: masks, 'or' of parts that don't overlap is a sum ===== -/
theorem u_tn {n : Nat} (h : n < 2 ^ 64) : (UInt64.ofNat n).toNat = n := Nat.mod_eq_of_lt h
theorem g_and {a b c : Nat} (ha : a < 2 ^ 64) (hb : b < 2 ^ 64) (hc : a &&& b = c) : lN a &&& lN b = lN c := by
  subst hc
  have h : UInt64.ofNat a &&& UInt64.ofNat b = UInt64.ofNat (a &&& b) := UInt64.toNat_inj.mp (by rw [UInt64.toNat_and, u_tn ha, u_tn hb, u_tn (Nat.and_lt_two_pow a hb)])
  have h2 := congrArg UInt64.toInt64 h
  exact h2
theorem g_and1 {a : Nat} (ha : a < 2 ^ 64) : lN a &&& 1 = lN (a % 2) := g_and (b := 1) ha (by decide) (Nat.and_two_pow_sub_one_eq_mod a 1)
theorem g_mask {a s p : Nat} (hp : 2 ^ s = p) (hs : s < 64) (ha : a < 2 ^ 64) : lN a &&& lN (p - 1) = lN (a % p) := by
  subst hp
  have := Nat.pow_lt_pow_right (show 1 < 2 by decide) hs
  exact g_and ha (by omega) (Nat.and_two_pow_sub_one_eq_mod a s)
theorem g_or {k p a b : Nat} (hp : 2 ^ k = p) (ha : a < p) (h : b * p + a < 2 ^ 64) : lN (b * p) ||| lN a = lN (b * p + a) := by
  subst hp
  have h1 : b * 2 ^ k ||| a = b * 2 ^ k + a := by rw [← Nat.shiftLeft_eq, Nat.shiftLeft_add_eq_or_of_lt ha]
  have h3 : UInt64.ofNat (b * 2 ^ k) ||| UInt64.ofNat a = UInt64.ofNat (b * 2 ^ k + a) := UInt64.toNat_inj.mp (by rw [UInt64.toNat_or, u_tn (by omega), u_tn (by omega), u_tn h, h1])
  have h2 := congrArg UInt64.toInt64 h3
  exact h2
theorem g_or' {k p a b : Nat} (hp : 2 ^ k = p) (ha : a < p) (h : a + b * p < 2 ^ 64) : lN a ||| lN (b * p) = lN (a + b * p) := by
  rw [Int64.or_comm, g_or hp ha (by omega), Nat.add_comm]
theorem g_ushr {a k p : Nat} {y : UInt64} (hy : y = UInt64.ofNat k) (hk : k < 64) (hp : 2 ^ k = p) (ha : a < 2 ^ 64) : ((lN a).toUInt64 >>> y).toInt64 = lN (a / p) := by
  subst hy hp
  have h : UInt64.ofNat a >>> UInt64.ofNat k = UInt64.ofNat (a / 2 ^ k) := UInt64.toNat_inj.mp (by rw [UInt64.toNat_shiftRight, u_tn ha, u_tn (by omega), u_tn (Nat.lt_of_le_of_lt (Nat.div_le_self _ _) ha), Nat.mod_eq_of_lt hk, Nat.shiftRight_eq_div_pow])
  have h2 := congrArg UInt64.toInt64 h
  exact h2
theorem g_shl {a k p : Nat} {y : Int64} (hy : y.toBitVec.smod 64 = BitVec.ofNat 64 k) (hk : k < 64) (hp : 2 ^ k = p) (ha : a < 2 ^ 64) : lN a <<< y = lN (a * p) := by
  subst hp
  apply Int64.toBitVec_inj.mp
  rw [Int64.toBitVec_shiftLeft, hy]
  apply BitVec.eq_of_toNat_eq
  have hb : (lN a).toBitVec.toNat = a := Nat.mod_eq_of_lt ha
  have hk' : (BitVec.ofNat 64 k).toNat = k := Nat.mod_eq_of_lt (by omega)
  have h : ((lN a).toBitVec <<< BitVec.ofNat 64 k).toNat = (a * 2 ^ k) % 2 ^ 64 := by simp only [BitVec.shiftLeft_eq', BitVec.toNat_shiftLeft, hb, hk', Nat.shiftLeft_eq]
  exact h
/-! ===== lN to 2^62 under >> and >>> ===== -/
theorem pf_lI {a : Nat} (h : a < 2 ^ 63) : (lN a).toInt = (a : Int) := lg_ofNat_toInt h
theorem pf_shr {a d : Nat} {D : Int64} (hD : (D.toBitVec.smod 64).toNat = d) (h : a < 2 ^ 62) : lN a >>> D = lN (a / 2 ^ d) := by
  have hd : a / 2 ^ d ≤ a := Nat.div_le_self _ _
  apply Int64.toInt_inj.mp
  have e : (lN a >>> D).toInt = (lN a).toInt >>> d := by
    rw [← hD]
    exact BitVec.toInt_sshiftRight ..
  rw [e, Int.shiftRight_eq_div_pow, pf_lI (by omega), pf_lI (by omega)]
  rfl
theorem pf_ushr {a d : Nat} {D : UInt64} (hD : D.toNat % 64 = d) (h : a < 2 ^ 62) : ((lN a).toUInt64 >>> D).toInt64 = lN (a / 2 ^ d) := by
  have hd : a / 2 ^ d ≤ a := Nat.div_le_self _ _
  have e : (lN a).toUInt64 >>> D = UInt64.ofNat (a / 2 ^ d) := UInt64.toNat_inj.mp (by
    rw [UInt64.toNat_shiftRight, hD, Nat.shiftRight_eq_div_pow, UInt64.toNat_ofNat']
    show (UInt64.ofNat a).toNat / 2 ^ d = _
    rw [UInt64.toNat_ofNat', Nat.mod_eq_of_lt (by omega), Nat.mod_eq_of_lt (by omega)])
  rw [e]
  rfl
theorem pf_andw (x : Int64) : ∃ m, m < 2 ^ 32 ∧ x &&& 4294967295 = lN m := ⟨x.toBitVec.toNat % 2 ^ 32, Nat.mod_lt _ (by decide), Int64.toBitVec_inj.mp (BitVec.eq_of_toNat_eq (by
  show (x.toBitVec &&& 4294967295#64).toNat = (BitVec.ofNat 64 (x.toBitVec.toNat % 2 ^ 32)).toNat
  rw [BitVec.toNat_and, show (4294967295#64).toNat = 2 ^ 32 - 1 from by decide, Nat.and_two_pow_sub_one_eq_mod, BitVec.toNat_ofNat]
  omega))⟩
/-! ===== Int64 as an unsigned number: uN x ===== -/
def uN (x : Int64) : Nat := x.toUInt64.toNat
theorem uN_lt (x : Int64) : uN x < 18446744073709551616 := x.toUInt64.toNat_lt
theorem uN_inj {x y : Int64} (h : uN x = uN y) : x = y := congrArg UInt64.toInt64 (UInt64.toNat_inj.mp h)
theorem uN_add (x y : Int64) : uN (x + y) = (uN x + uN y) % 18446744073709551616 := by
  show (x.toUInt64 + y.toUInt64).toNat = _
  exact UInt64.toNat_add _ _
theorem uN_mul (x y : Int64) : uN (x * y) = (uN x * uN y) % 18446744073709551616 := by
  show (x.toUInt64 * y.toUInt64).toNat = _
  exact UInt64.toNat_mul _ _
theorem uN_shl (x : Int64) : uN (x <<< ((1 : Int32).toInt64 &&& 63)) = (2 * uN x) % 18446744073709551616 := by
  have h : (((1 : Int32).toInt64 &&& 63).toBitVec.smod 64).toNat = 1 := by decide
  show (x.toBitVec <<< (((1 : Int32).toInt64 &&& 63).toBitVec.smod 64).toNat).toNat = _
  rw [h, BitVec.toNat_shiftLeft, Nat.shiftLeft_eq, Nat.mul_comm]
  rfl
theorem uN_shr (x : Int64) (s : UInt64) : uN (x.toUInt64 >>> s).toInt64 = uN x / 2 ^ (s.toNat % 64) := by
  show (x.toUInt64 >>> s).toNat = _
  rw [UInt64.toNat_shiftRight, Nat.shiftRight_eq_div_pow]
  rfl
theorem uN_s32 (x : Int64) : uN (x.toUInt64 >>> ((32 : Int32).toInt64.toUInt64 &&& Int64.toUInt64 63)).toInt64 = uN x / 4294967296 := by
  have h : ((32 : Int32).toInt64.toUInt64 &&& Int64.toUInt64 63).toNat % 64 = 32 := by decide
  rw [uN_shr, h]
theorem uN_s63 (x : Int64) : uN (x.toUInt64 >>> ((63 : Int32).toInt64.toUInt64 &&& Int64.toUInt64 63)).toInt64 = uN x / 9223372036854775808 := by
  have h : ((63 : Int32).toInt64.toUInt64 &&& Int64.toUInt64 63).toNat % 64 = 63 := by decide
  rw [uN_shr, h]
theorem uN_lo (x : Int64) : uN (x &&& 4294967295) = uN x % 4294967296 := by
  show (x.toUInt64 &&& Int64.toUInt64 4294967295).toNat = _
  rw [UInt64.toNat_and]
  exact Nat.and_two_pow_sub_one_eq_mod _ 32
theorem uN_bit (x : Int64) : (x &&& 1) = 0 ↔ uN x % 2 = 0 := by
  have h : uN (x &&& 1) = uN x % 2 := by
    show (x.toUInt64 &&& Int64.toUInt64 1).toNat = _
    rw [UInt64.toNat_and]
    exact Nat.and_two_pow_sub_one_eq_mod _ 1
  rw [← h]
  exact ⟨fun z => by rw [z]; rfl, fun z => uN_inj (z.trans rfl)⟩
theorem uN_or {x y : Int64} (hy : uN y < 2) : uN ((x <<< ((1 : Int32).toInt64 &&& 63)) ||| y) = (2 * uN x) % 18446744073709551616 + uN y := by
  have h1 : uN ((x <<< ((1 : Int32).toInt64 &&& 63)) ||| y) = uN (x <<< ((1 : Int32).toInt64 &&& 63)) ||| uN y := UInt64.toNat_or _ _
  have h2 : (2 * uN x) % 18446744073709551616 = 2 ^ 1 * (uN x % 9223372036854775808) := by omega
  rw [h1, uN_shl, h2]
  exact (Nat.two_pow_add_eq_or_of_lt (i := 1) hy _).symm
theorem nat_xor {a : Nat} (h : a < 18446744073709551616) : a ^^^ 2 ^ 63 = (a + 9223372036854775808) % 18446744073709551616 := by
  have h1 : (a ^^^ 2 ^ 63) % 2 ^ 63 = a % 2 ^ 63 := by rw [Nat.xor_mod_two_pow, Nat.mod_self, Nat.xor_zero]
  have h2 : (a ^^^ 2 ^ 63) / 2 ^ 63 = (a / 2 ^ 63) ^^^ 1 := by rw [Nat.xor_div_two_pow, Nat.div_self (Nat.two_pow_pos 63)]
  have h3 : a / 2 ^ 63 = 0 ∨ a / 2 ^ 63 = 1 := by omega
  generalize a ^^^ 2 ^ 63 = t at h1 h2
  rcases h3 with h3 | h3
  · rw [h3] at h2
    have h2 : t / 2 ^ 63 = 1 := h2
    omega
  · rw [h3] at h2
    have h2 : t / 2 ^ 63 = 0 := h2
    omega
theorem uN_xor (x : Int64) : uN (x ^^^ (-9223372036854775808)) = (uN x + 9223372036854775808) % 18446744073709551616 := by
  rw [← nat_xor (uN_lt x)]
  exact UInt64.toNat_xor _ _
theorem uN_int (x : Int64) : x.toInt = if 2 * uN x < 18446744073709551616 then (uN x : Int) else (uN x : Int) - 18446744073709551616 := BitVec.toInt_eq_toNat_cond _
theorem uN_le (x y : Int64) : (x ^^^ (-9223372036854775808)) ≤ (y ^^^ (-9223372036854775808)) ↔ uN x ≤ uN y := by
  have hx := uN_lt x
  have hy := uN_lt y
  rw [Int64.le_iff_toInt_le, uN_int, uN_int, uN_xor, uN_xor]
  omega
theorem uN_sk (x : Int64) {k : Nat} (hk : k < 64) : uN (x.toUInt64 >>> ((nI k).toInt64.toUInt64 &&& Int64.toUInt64 63)).toInt64 = uN x / 2 ^ k := by
  have h : ((nI k).toInt64.toUInt64 &&& Int64.toUInt64 63).toNat % 64 = k := by
    rw [nI_l (by omega), UInt64.toNat_and]
    have e : (lN k).toUInt64.toNat = k % 2 ^ 64 := rfl
    have e2 : (Int64.toUInt64 63).toNat = 2 ^ 6 - 1 := by decide
    rw [e, e2, Nat.and_two_pow_sub_one_eq_mod]
    omega
  rw [uN_shr, h]
/-! ===== unsigned comparison by xor with the least ===== -/
theorem lN_bv (n : Nat) : (lN n).toBitVec = BitVec.ofNat 64 n := rfl
theorem lN_nat {n : Nat} (h : n < 2 ^ 64) : (lN n).toBitVec.toNat = n := by rw [lN_bv, BitVec.toNat_ofNat]; exact Nat.mod_eq_of_lt h
theorem lN_xor (a b : Nat) : lN a ^^^ lN b = lN (a ^^^ b) := by
  apply Int64.toBitVec_inj.mp; rw [Int64.toBitVec_xor, lN_bv, lN_bv, lN_bv]; apply BitVec.eq_of_getLsbD_eq; intro i hi; simp [BitVec.getLsbD_ofNat, Nat.testBit_xor, hi]
theorem lN_ti {m : Nat} (h : m < 2 ^ 64) : (lN m).toInt = if m < 2 ^ 63 then (m : Int) else (m : Int) - 2 ^ 64 := by
  have c := BitVec.toInt_eq_toNat_cond (lN m).toBitVec
  rw [lN_nat h] at c
  show (lN m).toBitVec.toInt = _
  rw [c]
  split <;> split <;> omega
theorem xor63 {x : Nat} (h : x < 2 ^ 63) : x ^^^ 2 ^ 63 = 2 ^ 63 + x := by
  apply Nat.eq_of_testBit_eq
  intro i
  rw [Nat.testBit_xor, Nat.testBit_two_pow]
  rcases Nat.lt_trichotomy i 63 with z | z | z
  · rw [Nat.testBit_two_pow_add_gt z, decide_eq_false (by omega)]; simp
  · subst z; rw [Nat.testBit_two_pow_add_eq]; simp
  · have hp : 2 ^ 64 ≤ 2 ^ i := Nat.pow_le_pow_right (by decide) z
    rw [Nat.testBit_lt_two_pow (show x < 2 ^ i by omega), Nat.testBit_lt_two_pow (show 2 ^ 63 + x < 2 ^ i by omega), decide_eq_false (by omega)]; rfl
theorem xorS {a : Nat} (h : a < 2 ^ 64) : (lN a ^^^ (-9223372036854775808)).toInt = (a : Int) - 2 ^ 63 := by
  rw [show (-9223372036854775808 : Int64) = lN (2 ^ 63) from by decide +kernel, lN_xor]
  rcases Nat.lt_or_ge a (2 ^ 63) with z | z
  · rw [xor63 z, lN_ti (by omega), if_neg (by omega)]; omega
  · obtain ⟨x, rfl⟩ : ∃ x, a = 2 ^ 63 + x := ⟨a - 2 ^ 63, by omega⟩
    rw [← xor63 (by omega), Nat.xor_assoc, Nat.xor_self, Nat.xor_zero, lN_ti (by omega), if_pos (by omega), xor63 (by omega)]; omega
theorem ultL {a b : Nat} (ha : a < 2 ^ 64) (hb : b < 2 ^ 64) : ((lN b ^^^ (-9223372036854775808)) ≤ (lN a ^^^ (-9223372036854775808))) ↔ b ≤ a := by
  rw [Int64.le_iff_toInt_le, xorS ha, xorS hb]; omega
/-! ===== Int64 masks of n low bits ===== -/
theorem cr_bits (W U M : BitVec 64) : ((W &&& U) &&& (U &&& (M ^^^ BitVec.allOnes 64))) = 0#64 ↔ (W &&& U) &&& M = W &&& U := by
  constructor
  · intro h
    apply BitVec.eq_of_getLsbD_eq
    intro i hi
    have e := congrArg (fun x => BitVec.getLsbD x i) h
    simp only [BitVec.getLsbD_and, BitVec.getLsbD_xor, BitVec.getLsbD_allOnes, BitVec.getLsbD_zero, hi, decide_true] at e ⊢
    revert e
    cases W.getLsbD i <;> cases U.getLsbD i <;> cases M.getLsbD i <;> decide
  · intro h
    apply BitVec.eq_of_getLsbD_eq
    intro i hi
    have e := congrArg (fun x => BitVec.getLsbD x i) h
    simp only [BitVec.getLsbD_and, BitVec.getLsbD_xor, BitVec.getLsbD_allOnes, BitVec.getLsbD_zero, hi, decide_true] at e ⊢
    revert e
    cases W.getLsbD i <;> cases U.getLsbD i <;> cases M.getLsbD i <;> decide
theorem cr_mask (w U m : Int64) (n : Nat) (hm : m.toBitVec.toNat = 2 ^ n - 1) : ((w &&& U) &&& (U &&& (m ^^^ (-1)))) = 0 ↔ (w &&& U).toBitVec.toNat < 2 ^ n := by
  have e0 : (-1 : Int64).toBitVec = BitVec.allOnes 64 := by decide
  have z0 : (0 : Int64).toBitVec = 0#64 := by decide
  rw [← Int64.toBitVec_inj, z0, Int64.toBitVec_and, Int64.toBitVec_and, Int64.toBitVec_and, Int64.toBitVec_xor, e0, cr_bits]
  generalize w.toBitVec &&& U.toBitVec = T
  rw [← BitVec.toNat_inj, BitVec.toNat_and, hm, Nat.and_two_pow_sub_one_eq_mod]
  constructor
  · intro h
    have t := Nat.mod_lt T.toNat (Nat.two_pow_pos n)
    rw [h] at t
    exact t
  · exact Nat.mod_eq_of_lt
theorem cr_shr (t : Int64) (x : UInt64) (n : Nat) (hx : x.toNat % 64 = n) : (t.toUInt64 >>> x).toInt64 = 0 ↔ t.toBitVec.toNat < 2 ^ n := by
  rw [← Int64.toBitVec_inj, ← BitVec.toNat_inj]
  show (t.toUInt64 >>> x).toNat = 0 ↔ t.toUInt64.toNat < 2 ^ n
  rw [UInt64.toNat_shiftRight, hx, Nat.shiftRight_eq_div_pow]
  constructor
  · intro h
    have d : t.toUInt64.toNat / 2 ^ n < 1 := by
      rw [h]
      decide
    have e := (Nat.div_lt_iff_lt_mul (Nat.two_pow_pos n)).mp d
    rw [Nat.one_mul] at e
    exact e
  · exact Nat.div_eq_of_lt
theorem cr_amt (s : Int64) : ∃ n, n < 64 ∧ s &&& 63 = lN n ∧ (s.toUInt64 &&& Int64.toUInt64 63).toNat % 64 = n := by
  have e : (s.toUInt64 &&& Int64.toUInt64 63).toNat = s.toUInt64.toNat % 2 ^ 6 := by
    rw [UInt64.toNat_and, show (Int64.toUInt64 63).toNat = 2 ^ 6 - 1 from by decide, Nat.and_two_pow_sub_one_eq_mod]
  refine ⟨s.toUInt64.toNat % 2 ^ 6, by omega, ?_, by omega⟩
  rw [← Int64.toBitVec_inj, ← BitVec.toNat_inj]
  show (s.toUInt64 &&& Int64.toUInt64 63).toNat = (BitVec.ofNat 64 (s.toUInt64.toNat % 2 ^ 6)).toNat
  rw [e, BitVec.toNat_ofNat]
  omega
end
section
section GA
variable {E E' : Nat → Nat → Prop} {P P' : Nat → Prop} {a b c d n r x y : Nat}
/-! ways: b is come to from a, all nodes behind a satisfying P (a least set) -/
def gr_c (E : Nat → Nat → Prop) (P : Nat → Prop) (a b : Nat) : Prop := ∀ S : Nat → Prop, S a → (∀ x y, S x → E x y → P y → S y) → S b
theorem gr_rf : gr_c E P a a := fun _ h _ => h
theorem gr_st (h : gr_c E P a b) (e : E b c) (p : P c) : gr_c E P a c := fun S h0 hs => hs b c (h S h0 hs) e p
theorem gr_in {Q : Nat → Prop} (h : gr_c E P a b) (h0 : Q a) (hs : ∀ x y, gr_c E P a x → Q x → E x y → P y → Q y) : Q b :=
  (h (fun x => gr_c E P a x ∧ Q x) ⟨gr_rf, h0⟩ (fun x y hx e p => ⟨gr_st hx.1 e p, hs x y hx.1 hx.2 e p⟩)).2
theorem gr_tr (h : gr_c E P a b) (h2 : gr_c E P b c) : gr_c E P a c := gr_in h2 h (fun _ _ _ q e p => gr_st q e p)
theorem gr_hd (e : E a b) (p : P b) (h : gr_c E P b c) : gr_c E P a c := gr_tr (gr_st gr_rf e p) h
theorem gr_mo (h : gr_c E P a b) (m : ∀ x y, gr_c E P a x → E x y → P y → E' x y ∧ P' y) : gr_c E' P' a b :=
  gr_in h gr_rf (fun x y hx q e p => gr_st q (m x y hx e p).1 (m x y hx e p).2)
theorem gr_mp (h : gr_c E P a b) (m : ∀ y, P y → P' y) : gr_c E P' a b := gr_mo h (fun _ y _ e p => ⟨e, m y p⟩)
theorem gr_P (h : gr_c E P a b) : b = a ∨ P b := gr_in (Q := fun b => b = a ∨ P b) h (Or.inl rfl) (fun _ _ _ _ _ p => Or.inr p)
theorem gr_T (h : gr_c E P a b) : gr_c E (fun _ => True) a b := gr_mp h (fun _ _ => trivial)
/-! the way turned: from b back to a; here the condition is on all nodes of the way -/
theorem gr_rv (h : gr_c E P a b) (ha : P a) : gr_c (fun x y => E y x) P b a :=
  gr_in (Q := fun b => gr_c (fun x y => E y x) P b a) h gr_rf (fun x y hx q e _ => gr_hd e (by
    rcases gr_P hx with h | h
    · rw [h]; exact ha
    · exact h) q)
/-! chiefs of all kinds: n is come to from r without d -/
def dm_A (E : Nat → Nat → Prop) (r d n : Nat) : Prop := r ≠ d ∧ gr_c E (fun y => y ≠ d) r n
def dm_R (E : Nat → Nat → Prop) (r n : Nat) : Prop := gr_c E (fun _ => True) r n
def dm_D (E : Nat → Nat → Prop) (r d n : Nat) : Prop := ¬ dm_A E r d n
def dm_I (E : Nat → Nat → Prop) (r d n : Nat) : Prop := d ≠ n ∧ dm_D E r d n ∧ ∀ e, e ≠ n → dm_D E r e n → dm_D E r e d
theorem dm_ne (h : dm_A E r d n) : n ≠ d := by
  rcases gr_P h.2 with e | e
  · rw [e]; exact h.1
  · exact e
theorem dm_rf : dm_D E r a a := fun h => dm_ne h rfl
theorem dm_As (h : dm_A E r d x) (e : E x y) (hy : y ≠ d) : dm_A E r d y := ⟨h.1, gr_st h.2 e hy⟩
theorem dm_pr (h : dm_D E r d n) (hd : d ≠ n) (e : E x n) : dm_D E r d x := fun hx => h (dm_As hx e (Ne.symm hd))
theorem dm_rt (h : dm_D E r d r) : d = r := Classical.byContradiction (fun hn => h ⟨Ne.symm hn, gr_rf⟩)
theorem dm_r0 : dm_D E r r n := fun h => h.1 rfl
theorem dm_AR (h : dm_A E r d n) : dm_R E r n := gr_T h.2
theorem dm_tr (h1 : dm_D E r a b) (h2 : dm_D E r b c) : dm_D E r a c := by
  intro h
  apply h2
  have hb : r ≠ b := by
    intro e
    subst e
    exact h.1 (dm_rt h1).symm
  refine ⟨hb, ?_⟩
  refine gr_mo h.2 (fun x y hx e p => ⟨e, ?_⟩)
  intro ey
  subst ey
  exact h1 ⟨h.1, gr_st hx e p⟩
theorem dm_ln (hc : dm_R E r c) (h1 : dm_D E r a c) (h2 : dm_D E r b c) : dm_D E r a b ∨ dm_D E r b a := by
  apply Classical.byContradiction
  intro hn
  have ha : dm_A E r a b := Classical.byContradiction (fun h => hn (Or.inl h))
  have hb : dm_A E r b a := Classical.byContradiction (fun h => hn (Or.inr h))
  have key : dm_A E r a c ∨ dm_A E r b c := by
    refine gr_in (Q := fun y => dm_A E r a y ∨ dm_A E r b y) hc (Or.inl ⟨ha.1, gr_rf⟩) ?_
    intro x y _ q e _
    rcases q with q | q
    · by_cases hy : y = a
      · rw [hy]; exact Or.inr hb
      · exact Or.inl (dm_As q e hy)
    · by_cases hy : y = b
      · rw [hy]; exact Or.inl ha
      · exact Or.inr (dm_As q e hy)
  rcases key with k | k
  · exact h1 k
  · exact h2 k
theorem dm_an (ha : dm_R E r a) (h1 : dm_D E r a b) (h2 : dm_D E r b a) : a = b := by
  apply Classical.byContradiction
  intro hn
  have hra : r ≠ a := by
    intro e
    subst e
    exact hn (dm_rt h2).symm
  have hrb : r ≠ b := by
    intro e
    subst e
    exact hn (dm_rt h1)
  have key : gr_c E (fun y => y ≠ a ∧ y ≠ b) r a := by
    refine gr_in (Q := fun y => gr_c E (fun y => y ≠ a ∧ y ≠ b) r y) ha gr_rf ?_
    intro x y _ q e _
    by_cases hya : y = a
    · exfalso
      subst hya
      exact h2 ⟨hrb, gr_st (gr_mp q (fun _ h => h.2)) e hn⟩
    · by_cases hyb : y = b
      · exfalso
        subst hyb
        exact h1 ⟨hra, gr_st (gr_mp q (fun _ h => h.1)) e (Ne.symm hn)⟩
      · exact gr_st q e ⟨hya, hyb⟩
  rcases gr_P key with e | e
  · exact hra e.symm
  · exact e.1 rfl
theorem dm_re (hn : dm_R E r n) (h : dm_D E r d n) : dm_R E r d := by
  apply Classical.byContradiction
  intro hd
  apply h
  refine ⟨?_, gr_mo hn (fun x y hx e p => ⟨e, ?_⟩)⟩
  · intro e
    subst e
    exact hd gr_rf
  · intro e2
    subst e2
    exact hd (gr_st hx e p)
theorem dm_un (hn : dm_R E r n) (h1 : dm_I E r a n) (h2 : dm_I E r b n) : a = b :=
  dm_an (dm_re hn h1.2.1) (h2.2.2 a h1.1 h1.2.1) (h1.2.2 b h2.1 h2.2.1)
theorem dm_Ii (h : dm_I E r d n) (e : Nat) : dm_D E r e n ↔ e = n ∨ dm_D E r e d := by
  constructor
  · intro he
    by_cases hen : e = n
    · exact Or.inl hen
    · exact Or.inr (h.2.2 e hen he)
  · intro he
    rcases he with he | he
    · rw [he]; exact dm_rf
    · exact dm_tr he h.2.1
theorem dm_In (hn : dm_R E r n) (h : dm_I E r d n) : ¬ dm_D E r n d := fun h2 => h.1 (dm_an (dm_re hn h.2.1) h.2.1 h2)
end GA
section GB
/-! chiefs by an order of going deep: nodes are their numbers, root 0, par the one come from -/
variable {N : Nat} {e : Nat → Nat → Prop} {par sm : Nat → Nat}
def ln_T (N : Nat) (e : Nat → Nat → Prop) (par : Nat → Nat) : Prop :=
  (∀ k, 0 < k → k < N → par k < k ∧ e (par k) k) ∧ (∀ u v, e u v → u < N ∧ v < N) ∧ (∀ u v, e u v → u < v → ∀ z, u < z → z ≤ v → u ≤ par z)
def ln_A (par : Nat → Nat) (c y : Nat) : Prop := c ≤ y ∧ ∀ z, c < z → z ≤ y → c ≤ par z
theorem ln_Ar (c : Nat) : ln_A par c c := ⟨Nat.le_refl c, fun z h1 h2 => by omega⟩
theorem ln_At {a b c : Nat} (h1 : ln_A par a b) (h2 : ln_A par b c) : ln_A par a c := by
  refine ⟨Nat.le_trans h1.1 h2.1, fun z hz1 hz2 => ?_⟩
  by_cases h : z ≤ b
  · exact h1.2 z hz1 h
  · exact Nat.le_trans h1.1 (h2.2 z (by omega) hz2)
theorem ln_Ad {c y z : Nat} (h : ln_A par c z) (h1 : c ≤ y) (h2 : y ≤ z) : ln_A par c y := ⟨h1, fun w hw1 hw2 => h.2 w hw1 (by omega)⟩
theorem ln_Ap (T : ln_T N e par) {c y : Nat} (h : ln_A par c y) (hc : c < y) (hy : y < N) : ln_A par c (par y) :=
  ln_Ad h (h.2 y hc (Nat.le_refl y)) (Nat.le_of_lt (T.1 y (by omega) hy).1)
theorem ln_A0 (y : Nat) : ln_A par 0 y := ⟨Nat.zero_le y, fun _ _ _ => Nat.zero_le _⟩
theorem ln_pa (T : ln_T N e par) {c w : Nat} (h : gr_c e (fun y => c ≤ y) c w) : ln_A par c w := by
  refine gr_in (Q := fun w => ln_A par c w) h (ln_Ar c) ?_
  intro q q' _ hq he hc
  by_cases hl : q' ≤ q
  · exact ln_Ad hq hc hl
  · exact ln_At hq ⟨by omega, fun z h1 h2 => T.2.2 q q' he (by omega) z h1 h2⟩
theorem ln_tr (T : ln_T N e par) {z : Nat} : ∀ m p : Nat, p < m → p < N → ln_A par z p → gr_c e (fun y => z ≤ y ∧ y ≤ p) z p := by
  intro m
  induction m with
  | zero => intro p hp; omega
  | succ m ih =>
    intro p hp hN hA
    by_cases hz : z = p
    · subst hz; exact gr_rf
    · have h1 : z < p := by have := hA.1; omega
      have hp' := T.1 p (by omega) hN
      have h2 := ih (par p) (by omega) (by omega) (ln_Ap T hA h1 hN)
      exact gr_st (gr_mp h2 (fun y hy => ⟨hy.1, by omega⟩)) hp'.2 ⟨by omega, Nat.le_refl p⟩
theorem ln_tz (T : ln_T N e par) {z p : Nat} (hN : p < N) (h : ln_A par z p) : gr_c e (fun y => z ≤ y ∧ y ≤ p) z p := ln_tr T (p + 1) p (by omega) hN h
theorem ln_t0 (T : ln_T N e par) {p : Nat} (hN : p < N) : gr_c e (fun y => y ≤ p) 0 p := gr_mp (ln_tz T hN (ln_A0 p)) (fun _ h => h.2)
def ln_S (e : Nat → Nat → Prop) (x k : Nat) : Prop := x < k ∧ ∃ p, gr_c e (fun y => k < y) x p ∧ e p k
theorem ln_L {x k p : Nat} (hx : x < k) (h : gr_c e (fun y => k < y) x p) : p = x ∨ ∃ z, k < z ∧ ln_S e x z ∧ gr_c e (fun y => z ≤ y) z p := by
  refine gr_in (Q := fun p => p = x ∨ ∃ z, k < z ∧ ln_S e x z ∧ gr_c e (fun y => z ≤ y) z p) h (Or.inl rfl) ?_
  intro q p _ hq he hp
  rcases hq with hq | ⟨z, hz, hS, hr⟩
  · subst hq
    exact Or.inr ⟨p, hp, ⟨by omega, q, gr_rf, he⟩, gr_rf⟩
  · by_cases hzp : z ≤ p
    · exact Or.inr ⟨z, hz, hS, gr_st hr he hzp⟩
    · obtain ⟨_, p0, h0, e0⟩ := hS
      refine Or.inr ⟨p, hp, ⟨by omega, q, ?_, he⟩, gr_rf⟩
      refine gr_tr (gr_st (gr_mp h0 (fun y hy => ?_)) e0 ?_) (gr_mp hr (fun y hy => ?_))
      · omega
      · omega
      · omega
/-! the semi-chief of k, reckoned out of those above k -/
def ln_V (e : Nat → Nat → Prop) (par sm : Nat → Nat) (k : Nat) : Prop :=
  (∀ p, e p k → p < k → sm k ≤ p) ∧ (∀ p z, e p k → k < p → k < z → ln_A par z p → sm k ≤ sm z) ∧
  ((∃ p, e p k ∧ p < k ∧ sm k = p) ∨ (∃ p z, e p k ∧ k < p ∧ k < z ∧ ln_A par z p ∧ sm k = sm z))
theorem ln_lo (T : ln_T N e par) (V : ∀ k, 0 < k → k < N → ln_V e par sm k) : ∀ m k x : Nat, N - k < m → 0 < k → k < N → ln_S e x k → sm k ≤ x := by
  intro m
  induction m with
  | zero => intro k x h; omega
  | succ m ih =>
    intro k x hm h0 hN hS
    obtain ⟨hx, p, hp, he⟩ := hS
    rcases ln_L hx hp with h | ⟨z, hz, hSz, hr⟩
    · subst h
      exact (V k h0 hN).1 p he hx
    · have hA := ln_pa T hr
      have hpN := (T.2.1 p k he).1
      have h1 := ih z x (by have := hA.1; omega) (by omega) (by have := hA.1; omega) hSz
      have h2 := (V k h0 hN).2.1 p z he (by have := hA.1; omega) hz hA
      omega
theorem ln_up (T : ln_T N e par) (V : ∀ k, 0 < k → k < N → ln_V e par sm k) : ∀ m k : Nat, N - k < m → 0 < k → k < N → ln_S e (sm k) k := by
  intro m
  induction m with
  | zero => intro k h; omega
  | succ m ih =>
    intro k hm h0 hN
    have hk := V k h0 hN
    have hp := T.1 k h0 hN
    have hlt : sm k < k := by have := hk.1 _ hp.2 hp.1; omega
    rcases hk.2.2 with ⟨p, he, hpk, hs⟩ | ⟨p, z, he, hpk, hzk, hA, hs⟩
    · rw [hs]; exact ⟨hpk, p, gr_rf, he⟩
    · have hpN := (T.2.1 p k he).1
      obtain ⟨_, q, hq, eq⟩ := ih z (by have := hA.1; omega) (by omega) (by have := hA.1; omega)
      refine ⟨hlt, p, ?_, he⟩
      rw [hs]
      refine gr_tr (gr_st (gr_mp hq (fun y hy => ?_)) eq hzk) (gr_mp (ln_tz T hpN hA) (fun y hy => ?_))
      · omega
      · have := hy.1; omega
theorem ln_le (T : ln_T N e par) : ∀ m k d : Nat, k < m → k < N → dm_D e 0 d k → d ≤ k := by
  intro m
  induction m with
  | zero => intro k d h; omega
  | succ m ih =>
    intro k d hm hN hD
    by_cases hk : k = 0
    · subst hk
      have := dm_rt hD
      omega
    · by_cases hd : d = k
      · omega
      · have hp := T.1 k (by omega) hN
        have := ih (par k) d (by omega) (by omega) (dm_pr hD hd hp.2)
        omega
theorem ln_lx {d y : Nat} (h0 : 0 < d) (h : gr_c e (fun y => y ≠ d) 0 y) : y < d ∨ ∃ x, x < d ∧ d < y ∧ gr_c e (fun y => d < y) x y := by
  refine gr_in (Q := fun y => y < d ∨ ∃ x, x < d ∧ d < y ∧ gr_c e (fun y => d < y) x y) h (Or.inl h0) ?_
  intro q y _ hq he hy
  by_cases hyd : y < d
  · exact Or.inl hyd
  · have hyd' : d < y := by omega
    rcases hq with hq | ⟨x, hx, _, hr⟩
    · exact Or.inr ⟨q, hq, hyd', gr_st gr_rf he hyd'⟩
    · exact Or.inr ⟨x, hx, hyd', gr_st hr he hyd'⟩
/-- the one on the way up from par k that is the first not behind the semi-chief is the chief -/
theorem ln_id (T : ln_T N e par) (V : ∀ k, 0 < k → k < N → ln_V e par sm k) {k d : Nat} (h0 : 0 < k) (hN : k < N) (hd : dm_D e 0 d (par k)) (hs : d ≤ sm k)
    (hm : ∀ d', dm_D e 0 d' (par k) → d' ≤ sm k → dm_D e 0 d' d) : dm_I e 0 d k := by
  have hp := T.1 k h0 hN
  have hlt : sm k < k := by have := (V k h0 hN).1 _ hp.2 hp.1; omega
  refine ⟨by omega, ?_, ?_⟩
  · intro hA
    rcases ln_lx (by have := hA.1; omega) hA.2 with h | ⟨x, hx, _, hr⟩
    · omega
    · rcases ln_L hx hr with h | ⟨z, hz, hS, hr2⟩
      · omega
      · have hAn := ln_pa T hr2
        by_cases hzk : z = k
        · subst hzk
          have := ln_lo T V (N - z + 1) z x (by omega) h0 hN hS
          omega
        · have hzk2 : z < k := by have := hAn.1; omega
          have hAp := ln_Ap T hAn hzk2 hN
          obtain ⟨_, q, hq, eq⟩ := hS
          apply hd
          refine ⟨hA.1, ?_⟩
          refine gr_tr (gr_tr (gr_mp (ln_t0 T (by omega)) (fun y hy => ?_)) (gr_st (gr_mp hq (fun y hy => ?_)) eq ?_)) (gr_mp (ln_tz T (by omega) hAp) (fun y hy => ?_))
          · omega
          · omega
          · omega
          · have := hy.1; omega
  · intro d' hd' hD'
    refine hm d' (dm_pr hD' hd' hp.2) ?_
    apply Classical.byContradiction
    intro hgt
    have hle := ln_le T (k + 1) k d' (by omega) hN hD'
    obtain ⟨_, q, hq, eq⟩ := ln_up T V (N - k + 1) k (by omega) h0 hN
    apply hD'
    refine ⟨by omega, ?_⟩
    refine gr_st (gr_tr (gr_mp (ln_t0 T (by omega)) (fun y hy => ?_)) (gr_mp hq (fun y hy => ?_))) eq ?_
    · omega
    · omega
    · omega
end GB
end
section
section BA
/-! small numbers in bytes, shorts, booleans -/
theorem bs_b : ∀ k, k < 128 → (nI k).toInt8.toInt32 = nI k := by decide +kernel
theorem bs_vb {k : Nat} (h : k < 128) : vp_nar .byte (nI k) = nI k := by rw [vp_nar_byte, bs_b k h]
theorem bs_vbb {k : Nat} (h : k < 128) : vp_nar .byte ((nI k).toInt8.toInt32) = nI k := by rw [bs_b k h, bs_vb h]
theorem bs_vm : vp_nar .byte (-1) = -1 := by rw [vp_nar_byte]; decide
theorem bs_v0 : vp_nar .byte 0 = 0 := by rw [vp_nar_byte]; decide
theorem bs_s : ∀ k, k < 1024 → (nI k).toInt16.toInt32 = nI k := by decide +kernel
theorem bs_vs {k : Nat} (h : k < 1024) : vp_nar .short (nI k) = nI k := by rw [vp_nar_short, bs_s k h]
theorem bs_vss {k : Nat} (h : k < 1024) : vp_nar .short ((nI k).toInt16.toInt32) = nI k := by rw [bs_s k h, bs_vs h]
theorem bs_z0 : vp_nar .boolean 0 = 0 := by decide
theorem bs_z1 : vp_nar .boolean 1 = 1 := by decide
theorem bs_sub1 {n : Nat} (h : 0 < n) : nI n - 1 = nI (n - 1) := by
  obtain ⟨m, rfl⟩ : ∃ m, n = m + 1 := ⟨n - 1, by omega⟩
  exact nI_pred m
theorem bs_m1 {n : Nat} (h : 0 < n) : nI n + (-1) = nI (n - 1) := by
  obtain ⟨m, rfl⟩ : ∃ m, n = m + 1 := ⟨n - 1, by omega⟩
  exact pk_m1 m
theorem bs_n1 : (-1 : Int32) < 0 := by decide
theorem bs_n1' : ¬ (0 : Int32) ≤ -1 := by decide
theorem bs_ne {k : Nat} (h : k < 2 ^ 31) : ¬ nI k = -1 := by
  intro e
  have := nI_pos (n := k) h
  rw [e] at this
  exact this bs_n1
theorem bs_ne' {k : Nat} (h : k < 2 ^ 31) : ¬ -1 = nI k := fun e => bs_ne h e.symm
theorem bs_inj {a b : Nat} (h : nI a = nI b) (ha : a < 2 ^ 31) (hb : b < 2 ^ 31) : a = b := (nI_eq ha hb).mp h
/-! bits -/
theorem bs_1 (i : Nat) : bt 1 i = decide (i = 0) := by
  rcases Nat.lt_or_ge i 32 with h | h
  · exact (by decide +kernel : ∀ i, i < 32 → bt 1 i = decide (i = 0)) i h
  · rw [b_big h, decide_eq_false (by omega)]
theorem bs_oh {n : Nat} (hn : n < 32) (i : Nat) : bt ((1 : Int32) <<< (nI n &&& 31)) i = decide (i = n) := by
  rcases Nat.lt_or_ge i 32 with h | h
  · rw [b_shl n hn 1 h, bs_1]
    by_cases e : i = n
    · subst e; simp
    · by_cases h2 : n ≤ i
      · have : i - n ≠ 0 := by omega
        simp [this, e]
      · simp [h2, e]
  · rw [b_big h, decide_eq_false (by omega)]
theorem bs_g (x : Int32) {n : Nat} (hn : n < 32) (i : Nat) : bt ((x >>> (nI n &&& 31)) &&& 1) i = (decide (i = 0) && bt x n) := by
  rw [b_and, bs_1]
  by_cases h : i = 0
  · subst h
    rw [b_sshr n hn x (by omega)]
    simp [hn]
  · simp [h]
theorem bs_g0 (x : Int32) {n : Nat} (hn : n < 32) : ((x >>> (nI n &&& 31)) &&& 1) = 0 ↔ bt x n = false := by
  constructor
  · intro h
    have := bs_g x hn 0
    rw [h, b_0] at this
    simpa using this.symm
  · intro h
    apply b_ext
    intro i _
    rw [bs_g x hn, h, b_0]
    simp
theorem bs_g1 (x : Int32) {n : Nat} (hn : n < 32) : ((x >>> (nI n &&& 31)) &&& 1) = 1 ↔ bt x n = true := by
  constructor
  · intro h
    have := bs_g x hn 0
    rw [h, bs_1] at this
    simpa using this.symm
  · intro h
    apply b_ext
    intro i _
    rw [bs_g x hn, h, bs_1]
    simp
theorem bs_gv (x : Int32) {n : Nat} (hn : n < 32) : ((x >>> (nI n &&& 31)) &&& 1) = if bt x n = true then 1 else 0 := by
  by_cases h : bt x n = true
  · rw [if_pos h, (bs_g1 x hn).mpr h]
  · rw [if_neg h, (bs_g0 x hn).mpr (ts_nt h)]
theorem bs_nt (x y : Int32) (i : Nat) : bt (x &&& (y ^^^ (-1))) i = (bt x i && !bt y i) := by
  rw [b_and, b_xor]
  rcases Nat.lt_or_ge i 32 with h | h
  · rw [b_m1 i h]; simp
  · rw [b_big h]; simp
theorem bs_z {x : Int32} (h : ∀ i, i < 32 → bt x i = false) : x = 0 := b_ext (fun i hi => by rw [h i hi, b_0])
theorem bs_nz {x : Int32} {i : Nat} (h : bt x i = true) : ¬ x = 0 := by
  intro e
  rw [e, b_0] at h
  exact Bool.noConfusion h
theorem bs_cn {m l : Nat} (hl : m.testBit l = true) (hm : ∀ j, j < l → m.testBit j = false) (i : Nat) : (m.testBit i && (m - 1).testBit i) = (m.testBit i && decide (i ≠ l)) := by
  have h0 : m % 2 ^ l = 0 := by
    apply Nat.eq_of_testBit_eq
    intro j
    rw [Nat.testBit_mod_two_pow, Nat.zero_testBit]
    by_cases h : j < l
    · rw [hm j h]; simp
    · simp [h]
  obtain ⟨q, hq⟩ : ∃ q, m = 2 ^ l * q := ⟨m / 2 ^ l, by have := Nat.div_add_mod m (2 ^ l); omega⟩
  have hp : 0 < 2 ^ l := Nat.two_pow_pos l
  have hm2 : ∀ j, m.testBit j = if j < l then (0 : Nat).testBit j else q.testBit (j - l) := by
    intro j
    rw [hq, ← Nat.testBit_two_pow_mul_add q hp j, Nat.add_zero]
  have hodd : q.testBit 0 = true := by
    have := hm2 l
    rw [hl, if_neg (by omega), Nat.sub_self] at this
    exact this.symm
  obtain ⟨r, hr⟩ : ∃ r, q = 2 * r + 1 := by
    rw [Nat.testBit_zero] at hodd
    exact ⟨q / 2, by have := of_decide_eq_true hodd; omega⟩
  have hm1 : m - 1 = 2 ^ l * (2 * r) + (2 ^ l - 1) := by
    rw [hq, hr, Nat.mul_add, Nat.mul_one]
    omega
  rw [hm1, Nat.testBit_two_pow_mul_add (2 * r) (by omega) i, hm2 i]
  by_cases h : i < l
  · rw [if_pos h, if_pos h]; simp
  · rw [if_neg h, if_neg h, hr]
    by_cases h2 : i = l
    · subst h2
      rw [Nat.sub_self, Nat.testBit_zero, Nat.testBit_zero]
      simp
    · obtain ⟨j, hj⟩ : ∃ j, i - l = j + 1 := ⟨i - l - 1, by omega⟩
      rw [hj, Nat.testBit_succ, Nat.testBit_succ]
      have e1 : (2 * r + 1) / 2 = r := by omega
      have e2 : 2 * r / 2 = r := by omega
      rw [e1, e2]
      simp [h2]
theorem bs_cl {s : Int32} {l : Nat} (hl : bt s l = true) (hm : ∀ j, j < l → bt s j = false) (i : Nat) : bt (s &&& (s - 1)) i = (bt s i && decide (i ≠ l)) := by
  rw [b_and]
  have hn : 0 < s.toBitVec.toNat := by
    rcases Nat.eq_zero_or_pos s.toBitVec.toNat with h | h
    · exfalso
      have : s.toBitVec.toNat.testBit l = true := hl
      rw [h, Nat.zero_testBit] at this
      exact Bool.noConfusion this
    · exact h
  have e : bt (s - 1) i = (s.toBitVec.toNat - 1).testBit i := by
    show (s - 1).toBitVec.toNat.testBit i = _
    have : (s - 1).toBitVec.toNat = s.toBitVec.toNat - 1 := by
      rw [Int32.toBitVec_sub, BitVec.toNat_sub]
      have h1 : (1 : Int32).toBitVec.toNat = 1 := by decide
      have h2 := s.toBitVec.isLt
      rw [h1]
      omega
    rw [this]
  rw [e]
  exact bs_cn (m := s.toBitVec.toNat) hl hm i
theorem bs_fst {s : Int32} (h : ¬ s = 0) : ∃ l, l < 32 ∧ bt s l = true ∧ ∀ j, j < l → bt s j = false := by
  have hex : ∃ k, bt s k = true := by
    apply Classical.byContradiction
    intro hn
    exact h (bs_z (fun i _ => ts_nt (fun hi => hn ⟨i, hi⟩)))
  obtain ⟨l, hl, hmin⟩ := pk_least (fun k => bt s k = true) hex
  refine ⟨l, ?_, hl, fun j hj => ts_nt (hmin j hj)⟩
  apply Classical.byContradiction
  intro hge
  rw [b_big (by omega)] at hl
  exact Bool.noConfusion hl
theorem bs_lw {s : Int32} {post : Int32 → Prop} {l : Nat} (hl : bt s l = true) (hm : ∀ j, j < l → bt s j = false) (h : post (nI l)) : wpX_lowest post s := by
  have hl32 : l < 32 := by
    apply Classical.byContradiction
    intro hge
    rw [b_big (by omega)] at hl
    exact Bool.noConfusion hl
  have key : ∀ d j, j + d = l → wX_lowest_2 post s (d + 1) (nI j) := by
    intro d
    induction d with
    | zero =>
      intro j hj
      have e : j = l := by omega
      subst e
      exact br_f (fun z => by rw [(bs_g0 s (by omega))] at z; rw [z] at hl; exact Bool.noConfusion hl) h
    | succ d ih =>
      intro j hj
      exact br_t ((bs_g0 s (by omega)).mpr (hm j (by omega))) (nm_r (nI_1 j) (ih (j + 1) (by omega)))
  exact ⟨l + 1, key l 0 (by omega)⟩
/-- the members of a set, the least first: s = x, s != 0, s &= s - 1 -/
theorem bs_lp {σ : Type} (W : Nat → Int32 → σ → Prop) (x : Int32) (B : Nat) (hx : ∀ i, B ≤ i → bt x i = false) (I : Nat → σ → Prop)
    (he : ∀ n t, I B t → W (n + 1) 0 t) (hk : ∀ i t, i < B → bt x i = false → I i t → I (i + 1) t)
    (hs : ∀ n s i t, i < B → bt x i = true → ¬ s = 0 → bt s i = true → (∀ j, j < i → bt s j = false) → I i t → (∀ t', I (i + 1) t' → W n (s &&& (s - 1)) t') → W (n + 1) s t) :
    ∀ t, I 0 t → ∀ n, B < n → W n x t := by
  have key : ∀ d i s t n, i + d = B → (∀ j, bt s j = (bt x j && decide (i ≤ j))) → I i t → d < n → W n s t := by
    intro d
    induction d with
    | zero =>
      intro i s t n hi hb hI hn
      obtain ⟨n, rfl⟩ : ∃ m, n = m + 1 := ⟨n - 1, by omega⟩
      have : s = 0 := by
        apply bs_z
        intro j _
        rw [hb j]
        by_cases h : i ≤ j
        · rw [hx j (by omega)]; simp
        · simp [h]
      rw [this]
      have : i = B := by omega
      subst this
      exact he n t hI
    | succ d ih =>
      intro i s t n hi hb hI hn
      by_cases hxi : bt x i = true
      · obtain ⟨n, rfl⟩ : ∃ m, n = m + 1 := ⟨n - 1, by omega⟩
        have h1 : bt s i = true := by rw [hb i, hxi]; simp
        have h2 : ∀ j, j < i → bt s j = false := by
          intro j hj
          rw [hb j]
          have : ¬ i ≤ j := by omega
          simp [this]
        refine hs n s i t (by omega) hxi (bs_nz h1) h1 h2 hI ?_
        intro t' hI'
        refine ih (i + 1) _ t' n (by omega) ?_ hI' (by omega)
        intro j
        rw [bs_cl h1 h2 j, hb j]
        by_cases e1 : j = i
        · subst e1
          have : ¬ j + 1 ≤ j := by omega
          simp [this]
        · have e2 : (i + 1 ≤ j) = (i ≤ j) := by apply propext; omega
          simp [e1, e2]
      · have hxi : bt x i = false := ts_nt hxi
        refine ih (i + 1) s t n (by omega) ?_ (hk i t (by omega) hxi hI) (by omega)
        intro j
        rw [hb j]
        by_cases e1 : j = i
        · subst e1
          rw [hxi]; simp
        · have e2 : (i + 1 ≤ j) = (i ≤ j) := by apply propext; omega
          simp [e2]
  intro t h0 n hn
  exact key B 0 x t n (by omega) (fun j => by simp) h0 hn
end BA
section BB
/-! counting -/
def ct_c (p : Nat → Bool) : Nat → Nat
  | 0 => 0
  | n + 1 => ct_c p n + (if p n = true then 1 else 0)
theorem ct_le (p : Nat → Bool) : ∀ n, ct_c p n ≤ n
  | 0 => Nat.le_refl 0
  | n + 1 => by
    have := ct_le p n
    show ct_c p n + (if p n = true then 1 else 0) ≤ n + 1
    split <;> omega
theorem ct_eq {p q : Nat → Bool} : ∀ n, (∀ i, i < n → p i = q i) → ct_c p n = ct_c q n
  | 0, _ => rfl
  | n + 1, h => by
    show ct_c p n + (if p n = true then 1 else 0) = ct_c q n + (if q n = true then 1 else 0)
    rw [ct_eq n (fun i hi => h i (by omega)), h n (by omega)]
theorem ct_mo {p q : Nat → Bool} : ∀ n, (∀ i, i < n → p i = true → q i = true) → ct_c p n ≤ ct_c q n
  | 0, _ => Nat.le_refl 0
  | n + 1, h => by
    show ct_c p n + (if p n = true then 1 else 0) ≤ ct_c q n + (if q n = true then 1 else 0)
    have h1 := ct_mo n (fun i hi => h i (by omega))
    by_cases hp : p n = true
    · rw [if_pos hp, if_pos (h n (by omega) hp)]; omega
    · rw [if_neg hp]; omega
theorem ct_lt {p q : Nat → Bool} : ∀ n k, k < n → (∀ i, i < n → p i = true → q i = true) → p k = false → q k = true → ct_c p n + 1 ≤ ct_c q n
  | 0, _, hk, _, _, _ => by omega
  | n + 1, k, hk, h, hp, hq => by
    show ct_c p n + (if p n = true then 1 else 0) + 1 ≤ ct_c q n + (if q n = true then 1 else 0)
    by_cases e : k = n
    · subst e
      rw [if_neg (by rw [hp]; exact Bool.noConfusion), if_pos hq]
      have := ct_mo (p := p) (q := q) k (fun i hi => h i (by omega))
      omega
    · have h1 := ct_lt n k (by omega) (fun i hi => h i (by omega)) hp hq
      by_cases hpn : p n = true
      · rw [if_pos hpn, if_pos (h n (by omega) hpn)]; omega
      · rw [if_neg hpn]; omega
/-- one taken away -/
theorem ct_rm {p q : Nat → Bool} : ∀ n k, k < n → (∀ i, i < n → i ≠ k → p i = q i) → p k = false → q k = true → ct_c p n + 1 = ct_c q n
  | 0, _, hk, _, _, _ => by omega
  | n + 1, k, hk, h, hp, hq => by
    show ct_c p n + (if p n = true then 1 else 0) + 1 = ct_c q n + (if q n = true then 1 else 0)
    by_cases e : k = n
    · subst e
      rw [if_neg (by rw [hp]; exact Bool.noConfusion), if_pos hq]
      have := ct_eq (p := p) (q := q) k (fun i hi => h i (by omega) (by omega))
      omega
    · have h1 := ct_rm n k (by omega) (fun i hi hne => h i (by omega) hne) hp hq
      rw [h n (by omega) (by omega)]
      omega
theorem ct_f : ∀ n, ct_c (fun _ => false) n = 0
  | 0 => rfl
  | n + 1 => by show ct_c (fun _ => false) n + (if false = true then 1 else 0) = 0; rw [ct_f n]; rfl
/-- sums -/
def ct_s (f : Nat → Nat) : Nat → Nat
  | 0 => 0
  | n + 1 => ct_s f n + f n
theorem ct_sle {f g : Nat → Nat} : ∀ n, (∀ i, i < n → f i ≤ g i) → ct_s f n ≤ ct_s g n
  | 0, _ => Nat.le_refl 0
  | n + 1, h => by
    show ct_s f n + f n ≤ ct_s g n + g n
    have := ct_sle n (fun i hi => h i (by omega))
    have := h n (by omega)
    omega
theorem ct_seq {f g : Nat → Nat} : ∀ n, (∀ i, i < n → f i = g i) → ct_s f n = ct_s g n
  | 0, _ => rfl
  | n + 1, h => by
    show ct_s f n + f n = ct_s g n + g n
    rw [ct_seq n (fun i hi => h i (by omega)), h n (by omega)]
theorem ct_sad (f g : Nat → Nat) : ∀ n, ct_s (fun i => f i + g i) n = ct_s f n + ct_s g n
  | 0 => rfl
  | n + 1 => by
    show ct_s (fun i => f i + g i) n + (f n + g n) = ct_s f n + f n + (ct_s g n + g n)
    rw [ct_sad f g n]
    omega
theorem ct_s0 : ∀ n, ct_s (fun _ => 0) n = 0
  | 0 => rfl
  | n + 1 => by show ct_s (fun _ => 0) n + 0 = 0; rw [ct_s0 n]
theorem ct_sc (c : Nat) : ∀ n, ct_s (fun _ => c) n = n * c
  | 0 => (Nat.zero_mul c).symm
  | n + 1 => by show ct_s (fun _ => c) n + c = _; rw [ct_sc c n, Nat.succ_mul]
theorem ct_sw (f : Nat → Nat → Nat) (m : Nat) : ∀ n, ct_s (fun i => ct_s (fun j => f i j) m) n = ct_s (fun j => ct_s (fun i => f i j) n) m
  | 0 => (ct_s0 m).symm
  | n + 1 => by
    show ct_s (fun i => ct_s (fun j => f i j) m) n + ct_s (fun j => f n j) m = ct_s (fun j => ct_s (fun i => f i j) n + f n j) m
    rw [ct_sad, ct_sw f m n]
theorem ct_cs (p : Nat → Bool) : ∀ n, ct_c p n = ct_s (fun i => if p i = true then 1 else 0) n
  | 0 => rfl
  | n + 1 => by
    show ct_c p n + _ = ct_s _ n + _
    rw [ct_cs p n]
/-- a term of a sum changed -/
theorem ct_sup {f g : Nat → Nat} : ∀ n k, k < n → (∀ i, i < n → i ≠ k → f i = g i) → ct_s f n + g k = ct_s g n + f k
  | 0, _, hk, _ => by omega
  | n + 1, k, hk, h => by
    show ct_s f n + f n + g k = ct_s g n + g n + f k
    by_cases e : k = n
    · subst e
      have := ct_seq (f := f) (g := g) k (fun i hi => h i (by omega) (by omega))
      omega
    · have h1 := ct_sup n k (by omega) (fun i hi hne => h i (by omega) hne)
      have := h n (by omega) (by omega)
      omega
end BB
end
section
section DA
/-! the graph: g 0 end kind, 1 endV, 2 endX, 3 endY, 4 act kind, 5 actV, 6 actC -/
def gg_W (g : Nat → Nat → Nat) : Prop := ∀ i, g 0 i ≤ 2 ∧ g 1 i < 4 ∧ g 2 i < 16 ∧ g 3 i < 16 ∧ g 4 i ≤ 5 ∧ g 5 i < 4 ∧ g 6 i < 16 ∧ (g 4 i = 3 → g 6 i < 4)
def gg_E (g : Nat → Nat → Nat) (n s : Nat) : Prop := (1 ≤ g 0 n ∧ g 2 n = s) ∨ (g 0 n = 2 ∧ g 3 n = s)
def gg_s (g : Nat → Nat → Nat) (n k : Nat) : Option Nat := if k = 0 ∧ 1 ≤ g 0 n then some (g 2 n) else if k = 1 ∧ g 0 n = 2 then some (g 3 n) else none
theorem gg_sE {g : Nat → Nat → Nat} {n k m : Nat} (h : gg_s g n k = some m) : gg_E g n m := by
  unfold gg_s at h
  by_cases h1 : k = 0 ∧ 1 ≤ g 0 n
  · rw [if_pos h1] at h
    exact Or.inl ⟨h1.2, Option.some.inj h⟩
  · rw [if_neg h1] at h
    by_cases h2 : k = 1 ∧ g 0 n = 2
    · rw [if_pos h2] at h
      exact Or.inr ⟨h2.2, Option.some.inj h⟩
    · rw [if_neg h2] at h
      cases h
theorem gg_Es {g : Nat → Nat → Nat} {n m : Nat} (h : gg_E g n m) : ∃ k, k < 2 ∧ gg_s g n k = some m := by
  rcases h with ⟨h1, h2⟩ | ⟨h1, h2⟩
  · exact ⟨0, by omega, by unfold gg_s; rw [if_pos ⟨rfl, h1⟩, h2]⟩
  · refine ⟨1, by omega, ?_⟩
    unfold gg_s
    rw [if_neg (by omega), if_pos ⟨rfl, h1⟩, h2]
theorem gg_E16 {g : Nat → Nat → Nat} (W : gg_W g) {n m : Nat} (h : gg_E g n m) : m < 16 := by
  rcases h with ⟨_, h2⟩ | ⟨_, h2⟩
  · rw [← h2]; exact (W n).2.2.1
  · rw [← h2]; exact (W n).2.2.2.1
def df_m (sn : Nat → Bool) (m : Nat) : Nat → Bool := fun i => if i = m then true else sn i
theorem df_mm {sn : Nat → Bool} {m : Nat} : df_m sn m m = true := if_pos rfl
theorem df_mn {sn : Nat → Bool} {m i : Nat} (h : i ≠ m) : df_m sn m i = sn i := if_neg h
theorem df_mt {sn : Nat → Bool} {m i : Nat} (h : sn i = true) : df_m sn m i = true := by
  unfold df_m
  split
  · rfl
  · exact h
/-- going deep: the way (the last first, with how many of its successors were looked at), who was seen, who is done (the last first) -/
def df_r (g : Nat → Nat → Nat) : Nat → List (Nat × Nat) → (Nat → Bool) → List Nat → Option (List Nat × (Nat → Bool))
  | 0, _, _, _ => none
  | _ + 1, [], sn, o => some (o, sn)
  | f + 1, p :: s, sn, o => if p.2 = 2 then df_r g f s sn (p.1 :: o) else
      match gg_s g p.1 p.2 with
      | none => df_r g f ((p.1, p.2 + 1) :: s) sn o
      | some m => if sn m = true then df_r g f ((p.1, p.2 + 1) :: s) sn o else df_r g f ((m, 0) :: (p.1, p.2 + 1) :: s) (df_m sn m) o
theorem df_r0 {g : Nat → Nat → Nat} {f : Nat} {sn : Nat → Bool} {o : List Nat} : df_r g (f + 1) [] sn o = some (o, sn) := rfl
theorem df_r2 {g : Nat → Nat → Nat} {f n : Nat} {s : List (Nat × Nat)} {sn : Nat → Bool} {o : List Nat} : df_r g (f + 1) ((n, 2) :: s) sn o = df_r g f s sn (n :: o) := rfl
theorem df_rn {g : Nat → Nat → Nat} {f n k : Nat} {s : List (Nat × Nat)} {sn : Nat → Bool} {o : List Nat} (hk : k ≠ 2) (h : gg_s g n k = none) : df_r g (f + 1) ((n, k) :: s) sn o = df_r g f ((n, k + 1) :: s) sn o := by
  rw [df_r, if_neg hk, h]
theorem df_rs {g : Nat → Nat → Nat} {f n k m : Nat} {s : List (Nat × Nat)} {sn : Nat → Bool} {o : List Nat} (hk : k ≠ 2) (h : gg_s g n k = some m) (hm : sn m = true) : df_r g (f + 1) ((n, k) :: s) sn o = df_r g f ((n, k + 1) :: s) sn o := by
  rw [df_r, if_neg hk, h]
  show (if sn m = true then _ else _) = _
  rw [if_pos hm]
theorem df_rp {g : Nat → Nat → Nat} {f n k m : Nat} {s : List (Nat × Nat)} {sn : Nat → Bool} {o : List Nat} (hk : k ≠ 2) (h : gg_s g n k = some m) (hm : sn m = false) : df_r g (f + 1) ((n, k) :: s) sn o = df_r g f ((m, 0) :: (n, k + 1) :: s) (df_m sn m) o := by
  rw [df_r, if_neg hk, h]
  show (if sn m = true then _ else _) = _
  rw [if_neg (by rw [hm]; exact Bool.noConfusion)]
def df_w : List (Nat × Nat) → Nat
  | [] => 0
  | p :: s => (3 - p.2) + df_w s
def df_u (sn : Nat → Bool) : Nat := ct_c (fun i => !sn i) 16
theorem df_um {sn : Nat → Bool} {m : Nat} (hm : m < 16) (h : sn m = false) : df_u (df_m sn m) + 1 = df_u sn := by
  unfold df_u
  refine ct_rm 16 m hm (fun i _ hi => ?_) ?_ ?_
  · show (!df_m sn m i) = !sn i
    rw [df_mn hi]
  · show (!df_m sn m m) = false
    rw [df_mm]; rfl
  · show (!sn m) = true
    rw [h]; rfl
def df_P (g : Nat → Nat → Nat) : List (Nat × Nat) → Prop
  | [] => True
  | p :: s => match s with
    | [] => p.1 = 0
    | q :: _ => gg_E g q.1 p.1 ∧ df_P g s
theorem df_P1 {g : Nat → Nat → Nat} {n k j : Nat} {s : List (Nat × Nat)} (h : df_P g ((n, k) :: s)) : df_P g ((n, j) :: s) := by
  cases s with
  | nil => exact h
  | cons q s => exact h
theorem df_Pt {g : Nat → Nat → Nat} {p : Nat × Nat} {s : List (Nat × Nat)} (h : df_P g (p :: s)) : df_P g s := by
  cases s with
  | nil => trivial
  | cons q s => exact h.2
theorem df_PA {g : Nat → Nat → Nat} {d : Nat} : ∀ (s : List (Nat × Nat)) (p : Nat × Nat), df_P g (p :: s) → (∀ q, q ∈ p :: s → q.1 ≠ d) → dm_A (gg_E g) 0 d p.1 := by
  intro s
  induction s with
  | nil =>
    intro p h hd
    have h1 := hd p (List.mem_cons_self)
    have h2 : p.1 = 0 := h
    rw [h2] at h1 ⊢
    exact ⟨h1, gr_rf⟩
  | cons q s ih =>
    intro p h hd
    have h1 := ih q h.2 (fun x hx => hd x (List.mem_cons_of_mem _ hx))
    exact dm_As h1 h.1 (hd p (List.mem_cons_self))
theorem df_PR {g : Nat → Nat → Nat} : ∀ (s : List (Nat × Nat)) (p : Nat × Nat), df_P g (p :: s) → dm_R (gg_E g) 0 p.1 := by
  intro s
  induction s with
  | nil =>
    intro p h
    have h2 : p.1 = 0 := h
    rw [h2]
    exact gr_rf
  | cons q s ih =>
    intro p h
    exact gr_st (ih q h.2) h.1 trivial
def df_Pr (d n : Nat) (l : List Nat) : Prop := ∃ A B, l = A ++ B ∧ d ∈ A ∧ n ∈ B
/-- what holds all along -/
def df_J (g : Nat → Nat → Nat) (s : List (Nat × Nat)) (sn : Nat → Bool) (o : List Nat) : Prop :=
  df_P g s ∧ (∀ p, p ∈ s → p.1 < 16 ∧ p.2 ≤ 2 ∧ sn p.1 = true ∧ ∀ j m, j < p.2 → gg_s g p.1 j = some m → sn m = true) ∧
  (∀ m, m ∈ o → m < 16 ∧ sn m = true ∧ dm_R (gg_E g) 0 m ∧ ∀ m', gg_E g m m' → sn m' = true) ∧
  (∀ m, sn m = true → (∃ k, (m, k) ∈ s) ∨ m ∈ o) ∧ (s.map Prod.fst ++ o).Nodup ∧
  (∀ n d, n ∈ o → dm_D (gg_E g) 0 d n → d ≠ n → (∃ k, (d, k) ∈ s) ∨ df_Pr d n o) ∧ sn 0 = true ∧ s.length + o.length + df_u sn = 16
theorem df_J2 {g : Nat → Nat → Nat} {n : Nat} {s : List (Nat × Nat)} {sn : Nat → Bool} {o : List Nat} (h : df_J g ((n, 2) :: s) sn o) : df_J g s sn (n :: o) := by
  obtain ⟨h1, h2, h3, h4, h5, h6, h7, h8⟩ := h
  have hn := h2 (n, 2) List.mem_cons_self
  refine ⟨df_Pt h1, fun p hp => h2 p (List.mem_cons_of_mem _ hp), ?_, ?_, ?_, ?_, h7, ?_⟩
  · intro m hm
    rcases List.mem_cons.mp hm with e | e
    · subst e
      refine ⟨hn.1, hn.2.2.1, df_PR s (m, 2) h1, ?_⟩
      intro m' hE
      obtain ⟨k, hk, hs⟩ := gg_Es hE
      exact hn.2.2.2 k m' hk hs
    · exact h3 m e
  · intro m hm
    rcases h4 m hm with ⟨k, hk⟩ | hk
    · rcases List.mem_cons.mp hk with e | e
      · refine Or.inr ?_
        have : m = n := congrArg Prod.fst e
        rw [this]; exact List.mem_cons_self
      · exact Or.inl ⟨k, e⟩
    · exact Or.inr (List.mem_cons_of_mem _ hk)
  · rw [List.map_cons, List.cons_append] at h5
    exact (List.perm_middle.nodup_iff).mpr h5
  · intro m d hm hD hd
    rcases List.mem_cons.mp hm with e | e
    · subst e
      refine Or.inl ?_
      apply Classical.byContradiction
      intro hno
      apply hD
      refine df_PA s (m, 2) h1 ?_
      intro q hq
      rcases List.mem_cons.mp hq with e | e
      · rw [e]; exact Ne.symm hd
      · intro e2
        exact hno ⟨q.2, by rw [← e2]; exact e⟩
    · rcases h6 m d e hD hd with ⟨k, hk⟩ | ⟨A, B, hAB, hA, hB⟩
      · rcases List.mem_cons.mp hk with e2 | e2
        · refine Or.inr ⟨[n], o, rfl, ?_, e⟩
          have : d = n := congrArg Prod.fst e2
          rw [this]; exact List.mem_cons_self
        · exact Or.inl ⟨k, e2⟩
      · exact Or.inr ⟨n :: A, B, by rw [hAB]; rfl, List.mem_cons_of_mem _ hA, hB⟩
  · rw [List.length_cons] at h8 ⊢
    omega
theorem df_Js {g : Nat → Nat → Nat} {n k : Nat} {s : List (Nat × Nat)} {sn : Nat → Bool} {o : List Nat} (h : df_J g ((n, k) :: s) sn o) (hk : k ≠ 2) (hs : ∀ m, gg_s g n k = some m → sn m = true) : df_J g ((n, k + 1) :: s) sn o := by
  obtain ⟨h1, h2, h3, h4, h5, h6, h7, h8⟩ := h
  have hn := h2 (n, k) List.mem_cons_self
  refine ⟨df_P1 h1, ?_, h3, ?_, h5, ?_, h7, h8⟩
  · intro p hp
    rcases List.mem_cons.mp hp with e | e
    · subst e
      refine ⟨hn.1, ?_, hn.2.2.1, ?_⟩
      · have h : k ≤ 2 := hn.2.1
        show k + 1 ≤ 2
        omega
      · intro j m hj hm
        have hj' : j < k + 1 := hj
        by_cases e : j = k
        · subst e; exact hs m hm
        · exact hn.2.2.2 j m (show j < k by omega) hm
    · exact h2 p (List.mem_cons_of_mem _ e)
  · intro m hm
    rcases h4 m hm with ⟨j, hj⟩ | hj
    · rcases List.mem_cons.mp hj with e | e
      · have : m = n := congrArg Prod.fst e
        exact Or.inl ⟨k + 1, by rw [this]; exact List.mem_cons_self⟩
      · exact Or.inl ⟨j, List.mem_cons_of_mem _ e⟩
    · exact Or.inr hj
  · intro m d hm hD hd
    rcases h6 m d hm hD hd with ⟨j, hj⟩ | hj
    · rcases List.mem_cons.mp hj with e | e
      · have : d = n := congrArg Prod.fst e
        exact Or.inl ⟨k + 1, by rw [this]; exact List.mem_cons_self⟩
      · exact Or.inl ⟨j, List.mem_cons_of_mem _ e⟩
    · exact Or.inr hj
theorem df_Jp {g : Nat → Nat → Nat} (W : gg_W g) {n k m : Nat} {s : List (Nat × Nat)} {sn : Nat → Bool} {o : List Nat} (h : df_J g ((n, k) :: s) sn o) (hk : k ≠ 2) (hs : gg_s g n k = some m) (hm : sn m = false) : df_J g ((m, 0) :: (n, k + 1) :: s) (df_m sn m) o := by
  obtain ⟨h1, h2, h3, h4, h5, h6, h7, h8⟩ := h
  have hn := h2 (n, k) List.mem_cons_self
  have hm16 : m < 16 := gg_E16 W (gg_sE hs)
  refine ⟨⟨gg_sE hs, df_P1 h1⟩, ?_, ?_, ?_, ?_, ?_, df_mt h7, ?_⟩
  · intro p hp
    rcases List.mem_cons.mp hp with e | e
    · subst e
      exact ⟨hm16, by show 0 ≤ 2; omega, df_mm, fun j m' hj => absurd hj (Nat.not_lt_zero j)⟩
    · rcases List.mem_cons.mp e with e | e
      · subst e
        refine ⟨hn.1, ?_, df_mt hn.2.2.1, ?_⟩
        · have h : k ≤ 2 := hn.2.1
          show k + 1 ≤ 2
          omega
        · intro j m' hj hm'
          have hj' : j < k + 1 := hj
          by_cases e : j = k
          · subst e
            rw [hs] at hm'
            rw [← Option.some.inj hm']
            exact df_mm
          · exact df_mt (hn.2.2.2 j m' (show j < k by omega) hm')
      · have h := h2 p (List.mem_cons_of_mem _ e)
        exact ⟨h.1, h.2.1, df_mt h.2.2.1, fun j m' hj hm' => df_mt (h.2.2.2 j m' hj hm')⟩
  · intro q hq
    have h := h3 q hq
    exact ⟨h.1, df_mt h.2.1, h.2.2.1, fun m' hE => df_mt (h.2.2.2 m' hE)⟩
  · intro q hq
    by_cases e : q = m
    · subst e
      exact Or.inl ⟨0, List.mem_cons_self⟩
    · rw [df_mn e] at hq
      rcases h4 q hq with ⟨j, hj⟩ | hj
      · rcases List.mem_cons.mp hj with e | e
        · have : q = n := congrArg Prod.fst e
          exact Or.inl ⟨k + 1, by rw [this]; exact List.mem_cons_of_mem _ List.mem_cons_self⟩
        · exact Or.inl ⟨j, List.mem_cons_of_mem _ (List.mem_cons_of_mem _ e)⟩
      · exact Or.inr hj
  · show (m :: (n :: s.map Prod.fst) ++ o).Nodup
    rw [List.cons_append, List.nodup_cons]
    refine ⟨?_, h5⟩
    intro hmem
    rcases List.mem_append.mp hmem with e | e
    · have : m ∈ ((n, k) :: s).map Prod.fst := e
      obtain ⟨p, hp, hpe⟩ := List.mem_map.mp this
      have := (h2 p hp).2.2.1
      rw [hpe, hm] at this
      exact Bool.noConfusion this
    · have := (h3 m e).2.1
      rw [hm] at this
      exact Bool.noConfusion this
  · intro q d hq hD hd
    rcases h6 q d hq hD hd with ⟨j, hj⟩ | hj
    · rcases List.mem_cons.mp hj with e | e
      · have : d = n := congrArg Prod.fst e
        exact Or.inl ⟨k + 1, by rw [this]; exact List.mem_cons_of_mem _ List.mem_cons_self⟩
      · exact Or.inl ⟨j, List.mem_cons_of_mem _ (List.mem_cons_of_mem _ e)⟩
    · exact Or.inr hj
  · have := df_um hm16 hm
    rw [List.length_cons] at h8 ⊢
    rw [List.length_cons]
    omega
/-- it ends -/
theorem df_to {g : Nat → Nat → Nat} (W : gg_W g) : ∀ (f : Nat) (s : List (Nat × Nat)) (sn : Nat → Bool) (o : List Nat), df_J g s sn o → df_w s + 4 * df_u sn < f → ∃ r : List Nat × (Nat → Bool), df_r g f s sn o = some r ∧ df_J g [] r.2 r.1 := by
  intro f
  induction f with
  | zero => intro s sn o _ h; omega
  | succ f ih =>
    intro s sn o hJ hw
    cases s with
    | nil => exact ⟨(o, sn), rfl, hJ⟩
    | cons p s =>
      obtain ⟨n, k⟩ := p
      have hk2 : k ≤ 2 := (hJ.2.1 (n, k) List.mem_cons_self).2.1
      have hw' : (3 - k) + df_w s + 4 * df_u sn < f + 1 := hw
      by_cases hk : k = 2
      · subst hk
        rw [df_r2]
        exact ih s sn (n :: o) (df_J2 hJ) (by omega)
      · cases hs : gg_s g n k with
        | none =>
          rw [df_rn hk hs]
          refine ih _ sn o (df_Js hJ hk (fun m hm => ?_)) ?_
          · rw [hs] at hm; cases hm
          · show (3 - (k + 1)) + df_w s + 4 * df_u sn < f
            omega
        | some m =>
          by_cases hm : sn m = true
          · rw [df_rs hk hs hm]
            refine ih _ sn o (df_Js hJ hk (fun m' hm' => ?_)) ?_
            · rw [hs] at hm'
              rw [← Option.some.inj hm']; exact hm
            · show (3 - (k + 1)) + df_w s + 4 * df_u sn < f
              omega
          · have hm : sn m = false := ts_nt hm
            rw [df_rp hk hs hm]
            refine ih _ _ o (df_Jp W hJ hk hs hm) ?_
            have := df_um (gg_E16 W (gg_sE hs)) hm
            show (3 - 0) + ((3 - (k + 1)) + df_w s) + 4 * df_u (df_m sn m) < f
            omega
def df_0 : Nat → Bool := fun i => decide (i = 0)
theorem df_J0 {g : Nat → Nat → Nat} : df_J g [(0, 0)] df_0 [] := by
  refine ⟨rfl, ?_, ?_, ?_, ?_, ?_, rfl, rfl⟩
  · intro p hp
    rw [List.mem_singleton] at hp
    subst hp
    exact ⟨by show 0 < 16; omega, by show 0 ≤ 2; omega, rfl, fun j m hj => absurd hj (Nat.not_lt_zero j)⟩
  · intro m hm; cases hm
  · intro m hm
    have : m = 0 := of_decide_eq_true hm
    subst this
    exact Or.inl ⟨0, List.mem_cons_self⟩
  · show [0].Nodup
    exact List.nodup_cons.mpr ⟨List.not_mem_nil, List.nodup_nil⟩
  · intro n d hn; cases hn
def df_q (g : Nat → Nat → Nat) : List Nat × (Nat → Bool) := match df_r g 100 [(0, 0)] df_0 [] with
  | some r => r
  | none => ([], df_0)
def df_o (g : Nat → Nat → Nat) : List Nat := (df_q g).1
theorem df_qe {g : Nat → Nat → Nat} (W : gg_W g) : df_r g 100 [(0, 0)] df_0 [] = some (df_q g) ∧ df_J g [] (df_q g).2 (df_q g).1 := by
  obtain ⟨r, hr, hJ⟩ := df_to W 100 [(0, 0)] df_0 [] df_J0 (by decide)
  have : df_q g = r := by unfold df_q; rw [hr]
  rw [this]
  exact ⟨hr, hJ⟩
/-! a list's places -/
def ps_i (n : Nat) : List Nat → Nat
  | [] => 0
  | a :: l => if a = n then 0 else ps_i n l + 1
theorem ps_in {n : Nat} : ∀ l : List Nat, n ∈ l → ps_i n l < l.length ∧ l.getD (ps_i n l) 0 = n
  | [], h => by cases h
  | a :: l, h => by
    unfold ps_i
    by_cases e : a = n
    · rw [if_pos e]; exact ⟨by rw [List.length_cons]; omega, e⟩
    · rw [if_neg e]
      have h1 := ps_in l (by
        rcases List.mem_cons.mp h with h | h
        · exact absurd h.symm e
        · exact h)
      exact ⟨by rw [List.length_cons]; omega, h1.2⟩
theorem ps_mem : ∀ (l : List Nat) (j : Nat), j < l.length → l.getD j 0 ∈ l
  | [], j, h => by cases h
  | a :: l, 0, _ => List.mem_cons_self
  | a :: l, j + 1, h => List.mem_cons_of_mem _ (ps_mem l j (by rw [List.length_cons] at h; omega))
theorem ps_gi : ∀ (l : List Nat) (j : Nat), l.Nodup → j < l.length → ps_i (l.getD j 0) l = j
  | [], j, _, h => by cases h
  | a :: l, 0, _, _ => if_pos rfl
  | a :: l, j + 1, hn, h => by
    have h1 := List.nodup_cons.mp hn
    have hj : j < l.length := by rw [List.length_cons] at h; omega
    show (if a = l.getD j 0 then 0 else ps_i (l.getD j 0) l + 1) = j + 1
    rw [if_neg, ps_gi l j h1.2 hj]
    intro e
    exact h1.1 (by rw [e]; exact ps_mem l j hj)
theorem ps_aL {n : Nat} : ∀ A B : List Nat, n ∈ A → ps_i n (A ++ B) < A.length
  | [], _, h => by cases h
  | a :: A, B, h => by
    show (if a = n then 0 else ps_i n (A ++ B) + 1) < (a :: A).length
    rw [List.length_cons]
    split
    · omega
    · rename_i e
      have := ps_aL A B (by
        rcases List.mem_cons.mp h with h | h
        · exact absurd h.symm e
        · exact h)
      omega
theorem ps_aR {n : Nat} : ∀ A B : List Nat, n ∉ A → A.length ≤ ps_i n (A ++ B)
  | [], _, _ => Nat.zero_le _
  | a :: A, B, h => by
    show (a :: A).length ≤ (if a = n then 0 else ps_i n (A ++ B) + 1)
    rw [List.length_cons, if_neg (fun e => h (by rw [e]; exact List.mem_cons_self))]
    have := ps_aR A B (fun hm => h (List.mem_cons_of_mem _ hm))
    omega
theorem ps_Pr {d n : Nat} {l : List Nat} (hl : l.Nodup) (h : df_Pr d n l) : ps_i d l < ps_i n l := by
  obtain ⟨A, B, e, hd, hn⟩ := h
  subst e
  have h1 := ps_aL A B hd
  have h2 := ps_aR (n := n) A B (fun hm => (List.nodup_append.mp hl).2.2 n hm n hn rfl)
  omega
/-- numbers -/
def gg_n (g : Nat → Nat → Nat) (n : Nat) : Nat := ps_i n (df_o g)
def gg_R (g : Nat → Nat → Nat) (n : Nat) : Prop := dm_R (gg_E g) 0 n
def gg_D (g : Nat → Nat → Nat) (d n : Nat) : Prop := dm_D (gg_E g) 0 d n
theorem df_nd {g : Nat → Nat → Nat} (W : gg_W g) : (df_o g).Nodup := (df_qe W).2.2.2.2.2.1
theorem df_mR {g : Nat → Nat → Nat} (W : gg_W g) (n : Nat) : n ∈ df_o g ↔ gg_R g n := by
  have hJ := (df_qe W).2
  constructor
  · intro h
    exact (hJ.2.2.1 n h).2.2.1
  · intro h
    have hin : ∀ m, (df_q g).2 m = true → m ∈ df_o g := by
      intro m hm
      rcases hJ.2.2.2.1 m hm with ⟨k, hk⟩ | hk
      · cases hk
      · exact hk
    refine gr_in (Q := fun n => n ∈ df_o g) h (hin 0 hJ.2.2.2.2.2.2.1) ?_
    intro x y _ hx hE _
    exact hin y ((hJ.2.2.1 x hx).2.2.2 y hE)
theorem df_sn {g : Nat → Nat → Nat} (W : gg_W g) (n : Nat) : (df_q g).2 n = true ↔ gg_R g n := by
  have hJ := (df_qe W).2
  rw [← df_mR W n]
  constructor
  · intro h
    rcases hJ.2.2.2.1 n h with ⟨k, hk⟩ | hk
    · cases hk
    · exact hk
  · intro h
    exact (hJ.2.2.1 n h).2.1
theorem gg_R16 {g : Nat → Nat → Nat} (W : gg_W g) {n : Nat} (h : gg_R g n) : n < 16 := ((df_qe W).2.2.2.1 n ((df_mR W n).mpr h)).1
theorem df_ln {g : Nat → Nat → Nat} (W : gg_W g) : (df_o g).length ≤ 16 := by
  have := (df_qe W).2.2.2.2.2.2.2.2
  unfold df_o
  omega
theorem gg_nD {g : Nat → Nat → Nat} (W : gg_W g) {d n : Nat} (h : gg_R g n) (hD : gg_D g d n) (hd : d ≠ n) : gg_n g d < gg_n g n := by
  rcases (df_qe W).2.2.2.2.2.2.1 n d ((df_mR W n).mpr h) hD hd with ⟨k, hk⟩ | hk
  · cases hk
  · exact ps_Pr (df_nd W) hk
theorem gg_nl {g : Nat → Nat → Nat} (W : gg_W g) {n : Nat} (h : gg_R g n) : gg_n g n < (df_o g).length ∧ (df_o g).getD (gg_n g n) 0 = n := ps_in _ ((df_mR W n).mpr h)
theorem gg_ng {g : Nat → Nat → Nat} (W : gg_W g) {j : Nat} (h : j < (df_o g).length) : gg_R g ((df_o g).getD j 0) ∧ gg_n g ((df_o g).getD j 0) = j :=
  ⟨(df_mR W _).mp (ps_mem _ j h), ps_gi _ j (df_nd W) h⟩
theorem gg_ni {g : Nat → Nat → Nat} (W : gg_W g) {a b : Nat} (ha : gg_R g a) (hb : gg_R g b) (h : gg_n g a = gg_n g b) : a = b := by
  rw [← (gg_nl W ha).2, ← (gg_nl W hb).2, h]
end DA
end
section
section XA
variable {f_known f_seen f_many f_ordered f_isStraight f_entered f_todo f_length f_waiting f_tellings f_last f_stopped f_steps f_ran : Int32} {f_left : Int64} {a_acts a_actV a_actC a_ends a_endV a_endX a_endY a_numbers a_byNumber a_before a_forward a_backward a_orderOf a_at a_from a_semi a_label a_up a_found a_stack a_place a_chiefs a_tails a_edges a_rulers a_loops a_innermost a_outer a_deep a_alive a_values a_present a_code a_target a_pending a_pendingOf a_begins a_openAt a_vars a_told : Nat → Int32} {g : Nat → Nat → Nat}
/-! X: the graph as it is kept; successors -/
def xg_G (g : Nat → Nat → Nat) (a_acts a_actV a_actC a_ends a_endV a_endX a_endY : Nat → Int32) : Prop :=
  ∀ i, i < 16 → a_ends i = nI (g 0 i) ∧ a_endV i = nI (g 1 i) ∧ a_endX i = nI (g 2 i) ∧ a_endY i = nI (g 3 i) ∧ a_acts i = nI (g 4 i) ∧ a_actV i = nI (g 5 i) ∧ a_actC i = nI (g 6 i)
theorem xg_i {n : Nat} (hn : n < 16) : vp_in (nI n) 16 := vp_in_nI hn (by omega)
theorem xg_i7 {n : Nat} (hn : n < 17) : vp_in (nI n) 17 := vp_in_nI hn (by omega)
theorem xg_c {n : Nat} (hn : n < 65536) (f : Nat → Int32) : f (nI n).toNatClampNeg = f n := by rw [nI_clamp (by omega)]
theorem xg_u {n : Nat} (hn : n < 65536) (f : Nat → Int32) (x : Int32) : upd f (nI n).toNatClampNeg x = upd f n x := by rw [nI_clamp (by omega)]
theorem xg_oi {n m : Nat} (hn : n < 32) (i : Nat) : bt ((1 : Int32) <<< (nI n &&& 31)) i = true ↔ n = i := by
  rw [bs_oh hn, decide_eq_true_iff]
  exact eq_comm
theorem xg_sc (W : gg_W g) (G : (xg_G g a_acts a_actV a_actC a_ends a_endV a_endX a_endY)) {n : Nat} (hn : n < 16) {post : Int32 → Prop} (h : ∀ r, (∀ i, bt r i = true ↔ gg_E g n i) → post r) : (wpX_successors post (f_known, f_seen, f_many, f_ordered, f_isStraight, f_entered, f_todo, f_length, f_waiting, f_tellings, f_last, f_stopped, f_steps, f_left, f_ran, a_acts, a_actV, a_actC, a_ends, a_endV, a_endX, a_endY, a_numbers, a_byNumber, a_before, a_forward, a_backward, a_orderOf, a_at, a_from, a_semi, a_label, a_up, a_found, a_stack, a_place, a_chiefs, a_tails, a_edges, a_rulers, a_loops, a_innermost, a_outer, a_deep, a_alive, a_values, a_present, a_code, a_target, a_pending, a_pendingOf, a_begins, a_openAt, a_vars, a_told) (nI n)) := by
  have hw := W n
  have e0 : a_ends (nI n).toNatClampNeg = nI (g 0 n) := by rw [nI_clamp (by omega), (G n hn).1]
  have e2 : a_endX (nI n).toNatClampNeg = nI (g 2 n) := by rw [nI_clamp (by omega), (G n hn).2.2.1]
  have e3 : a_endY (nI n).toNatClampNeg = nI (g 3 n) := by rw [nI_clamp (by omega), (G n hn).2.2.2.1]
  refine And.intro (xg_i hn) ?_
  by_cases h0 : g 0 n = 0
  · refine br_t (by rw [e0, h0]; rfl) (h 0 (fun i => ?_))
    rw [b_0]
    constructor
    · intro h; cases h
    · intro h
      rcases h with h | h
      · omega
      · omega
  · refine br_f (by rw [e0]; exact nI_ne0 (by omega) (by omega)) (And.intro (xg_i hn) ?_)
    by_cases h1 : g 0 n = 1
    · refine br_t (by rw [e0, h1]; rfl) (And.intro (xg_i hn) ?_)
      rw [e2]
      refine h _ (fun i => ?_)
      rw [xg_oi (m := 0) (by omega)]
      constructor
      · intro h; exact Or.inl ⟨by omega, h⟩
      · intro h
        rcases h with h | h
        · exact h.2
        · omega
    · refine br_f (by rw [e0]; intro e; exact h1 (bs_inj e (by omega) (by omega))) (And.intro (xg_i hn) (And.intro (xg_i hn) ?_))
      rw [e2, e3]
      refine h _ (fun i => ?_)
      rw [b_or, Bool.or_eq_true, xg_oi (m := 0) (by omega), xg_oi (m := 0) (by omega)]
      constructor
      · intro h
        rcases h with h | h
        · exact Or.inl ⟨by omega, h⟩
        · exact Or.inr ⟨by omega, h⟩
      · intro h
        rcases h with h | h
        · exact Or.inl h.2
        · exact Or.inr h.2
theorem xg_s1 (W : gg_W g) (G : (xg_G g a_acts a_actV a_actC a_ends a_endV a_endX a_endY)) {n k : Nat} (hn : n < 16) (hk : k < 2) {post : Int32 → Prop} (h1 : ∀ m, gg_s g n k = some m → post (nI m)) (h0 : gg_s g n k = none → post (-1)) : (wpX_successor post (f_known, f_seen, f_many, f_ordered, f_isStraight, f_entered, f_todo, f_length, f_waiting, f_tellings, f_last, f_stopped, f_steps, f_left, f_ran, a_acts, a_actV, a_actC, a_ends, a_endV, a_endX, a_endY, a_numbers, a_byNumber, a_before, a_forward, a_backward, a_orderOf, a_at, a_from, a_semi, a_label, a_up, a_found, a_stack, a_place, a_chiefs, a_tails, a_edges, a_rulers, a_loops, a_innermost, a_outer, a_deep, a_alive, a_values, a_present, a_code, a_target, a_pending, a_pendingOf, a_begins, a_openAt, a_vars, a_told) (nI n) (nI k)) := by
  have hw := W n
  have e0 : a_ends (nI n).toNatClampNeg = nI (g 0 n) := by rw [nI_clamp (by omega), (G n hn).1]
  have e2 : a_endX (nI n).toNatClampNeg = nI (g 2 n) := by rw [nI_clamp (by omega), (G n hn).2.2.1]
  have e3 : a_endY (nI n).toNatClampNeg = nI (g 3 n) := by rw [nI_clamp (by omega), (G n hn).2.2.2.1]
  by_cases hk0 : k = 0
  · subst hk0
    refine br_t rfl (And.intro (xg_i hn) ?_)
    by_cases hg : g 0 n = 0
    · refine br_t (by rw [e0, hg]; decide) ?_
      refine br_f (by decide) (h0 ?_)
      unfold gg_s
      rw [if_neg (by omega), if_neg (by omega)]
    · refine br_f (by rw [e0]; exact nI_nle (by omega) (by omega)) (And.intro (xg_i hn) ?_)
      rw [e2]
      refine h1 _ ?_
      unfold gg_s
      rw [if_pos (by omega)]
  · have hk1 : k = 1 := by omega
    subst hk1
    refine br_f (by decide) ?_
    refine br_t rfl (And.intro (xg_i hn) ?_)
    by_cases hg : g 0 n = 2
    · refine br_t (by rw [e0, hg]; rfl) (And.intro (xg_i hn) ?_)
      rw [e3]
      refine h1 _ ?_
      unfold gg_s
      rw [if_neg (by omega), if_pos (by omega)]
    · refine br_f (by rw [e0]; intro e; exact hg (bs_inj e (by omega) (by omega))) (h0 ?_)
      unfold gg_s
      rw [if_neg (by omega), if_neg (by omega)]
/-! X: walk -/
def xs_S : List (Nat × Nat) → (Nat → Int32) → (Nat → Int32) → Prop
  | [], _, _ => True
  | p :: s, st, pl => st s.length = nI p.1 ∧ pl s.length = nI p.2 ∧ xs_S s st pl
theorem xs_Sk {st pl st' pl' : Nat → Int32} : ∀ s : List (Nat × Nat), xs_S s st pl → (∀ i, i < s.length → st' i = st i ∧ pl' i = pl i) → xs_S s st' pl'
  | [], _, _ => trivial
  | p :: s, h, hk => by
    have h1 := hk s.length (by rw [List.length_cons]; omega)
    refine ⟨h1.1.trans h.1, h1.2.trans h.2.1, xs_Sk s h.2.2 (fun i hi => hk i (by rw [List.length_cons]; omega))⟩
def xs_O : List Nat → (Nat → Int32) → Prop
  | [], _ => True
  | n :: o, bn => bn (15 - o.length) = nI n ∧ xs_O o bn
theorem xs_Ok {bn bn' : Nat → Int32} : ∀ o : List Nat, o.length ≤ 16 → xs_O o bn → (∀ i, 16 - o.length ≤ i → bn' i = bn i) → xs_O o bn'
  | [], _, _, _ => trivial
  | n :: o, hl, h, hk => by
    rw [List.length_cons] at hl hk
    exact ⟨(hk _ (by omega)).trans h.1, xs_Ok o (by omega) h.2 (fun i hi => hk i (by omega))⟩
theorem xs_Og {bn : Nat → Int32} : ∀ (o : List Nat) (j : Nat), o.length ≤ 16 → xs_O o bn → j < o.length → bn (16 - o.length + j) = nI (o.getD j 0)
  | [], j, _, _, h => by cases h
  | n :: o, 0, hl, h, _ => by
    rw [List.length_cons] at hl ⊢
    have : 16 - (o.length + 1) + 0 = 15 - o.length := by omega
    rw [this]
    exact h.1
  | n :: o, j + 1, hl, h, hj => by
    rw [List.length_cons] at hl hj ⊢
    have := xs_Og o j (by omega) h.2 (by omega)
    have e : 16 - (o.length + 1) + (j + 1) = 16 - o.length + j := by omega
    rw [e]
    exact this
theorem xw_29 (W : gg_W g) (G : (xg_G g a_acts a_actV a_actC a_ends a_endV a_endX a_endY)) {r : List Nat × (Nat → Bool)} {post : SX → Prop}
    (K : ∀ (fs : Int32) (bn st pl : Nat → Int32), (∀ i, bt fs i = r.2 i) → xs_O r.1 bn → r.1.length ≤ 16 → ∃ n164 : Nat, (wX_walk_164 post (nI (16 - r.1.length)) f_known fs (nI r.1.length) f_ordered f_isStraight f_entered f_todo f_length f_waiting f_tellings f_last f_stopped f_steps f_left f_ran n164 0 a_acts a_actV a_actC a_ends a_endV a_endX a_endY a_numbers bn a_before a_forward a_backward a_orderOf a_at a_from a_semi a_label a_up a_found st pl a_chiefs a_tails a_edges a_rulers a_loops a_innermost a_outer a_deep a_alive a_values a_present a_code a_target a_pending a_pendingOf a_begins a_openAt a_vars a_told)) :
    ∀ (f : Nat) (s : List (Nat × Nat)) (sn : Nat → Bool) (o : List Nat), df_r g f s sn o = some r → df_J g s sn o → ∀ (fs : Int32) (st pl bn : Nat → Int32), (∀ i, bt fs i = sn i) → xs_S s st pl → xs_O o bn →
      (wX_walk_29 post f_known f_ordered f_isStraight f_entered f_todo f_length f_waiting f_tellings f_last f_stopped f_steps f_left f_ran f (nI s.length) (nI (16 - o.length)) fs (nI o.length) a_acts a_actV a_actC a_ends a_endV a_endX a_endY a_numbers bn a_before a_forward a_backward a_orderOf a_at a_from a_semi a_label a_up a_found st pl a_chiefs a_tails a_edges a_rulers a_loops a_innermost a_outer a_deep a_alive a_values a_present a_code a_target a_pending a_pendingOf a_begins a_openAt a_vars a_told) := by
  intro f
  induction f with
  | zero => intro s sn o h; cases h
  | succ f ih =>
    intro s sn o hr hJ fs st pl bn hfs hS hO
    cases s with
    | nil =>
      rw [df_r0] at hr
      have hr := Option.some.inj hr
      subst hr
      have hl := hJ.2.2.2.2.2.2.2
      exact br_t (by decide) (K fs bn st pl hfs hO (by show o.length ≤ 16; omega))
    | cons p s =>
      obtain ⟨n, k⟩ := p
      have hp := hJ.2.1 (n, k) List.mem_cons_self
      have hn : n < 16 := hp.1
      have hk2 : k ≤ 2 := hp.2.1
      have hl : s.length + 1 + o.length ≤ 16 := by
        have := hJ.2.2.2.2.2.2.2
        rw [List.length_cons] at this
        omega
      have ex : nI (s.length + 1) - 1 = nI s.length := nI_pred _
      have hin : vp_in (nI (s.length + 1) - 1) 40 := by rw [ex]; exact vp_in_nI (by omega) (by omega)
      have hst : st (nI (s.length + 1) - 1).toNatClampNeg = nI n := by rw [ex, nI_clamp (by omega)]; exact hS.1
      have hpl : pl (nI (s.length + 1) - 1).toNatClampNeg = nI k := by rw [ex, nI_clamp (by omega)]; exact hS.2.1
      have hpl' : upd pl (nI (s.length + 1) - 1).toNatClampNeg (vp_nar .byte (((pl (nI (s.length + 1) - 1).toNatClampNeg) + 1).toInt8.toInt32)) = upd pl s.length (nI (k + 1)) := by
        rw [hpl, nI_1, bs_vbb (by omega), ex, xg_u (by omega)]
      have hS1 : xs_S ((n, k + 1) :: s) st (upd pl s.length (nI (k + 1))) :=
        ⟨hS.1, pk_us, xs_Sk s hS.2.2 (fun i hi => ⟨rfl, pk_un (by omega)⟩)⟩
      refine br_f (nI_nle (by rw [List.length_cons]; omega) (by rw [List.length_cons]; omega)) (And.intro hin (nm_r hst (And.intro hin (And.intro hin (nm_r hpl' (nm_r hpl ?_))))))
      by_cases hk : k = 2
      · subst hk
        rw [df_r2] at hr
        refine br_t (by decide) ?_
        have e2 : nI (16 - o.length) + (-1) = nI (16 - (n :: o).length) := by
          rw [bs_m1 (by omega), List.length_cons]
          exact congrArg nI (by omega)
        have hin2 : vp_in (nI (16 - (n :: o).length)) 16 := vp_in_nI (by rw [List.length_cons]; omega) (by omega)
        have hu : upd bn (nI (16 - (n :: o).length)).toNatClampNeg (vp_nar .byte (nI n).toInt8.toInt32) = upd bn (15 - o.length) (nI n) := by
          rw [bs_vbb (by omega), xg_u (by omega), List.length_cons]
          exact congrArg (fun i => upd bn i (nI n)) (by omega)
        have e3 : nI (s.length + 1) + (-1) = nI s.length := pk_m1 _
        refine br_t rfl (nm_r e2 (And.intro hin2 (nm_r hu (nm_r (nI_1 _) (nm_r e3 ?_)))))
        refine ih s sn (n :: o) hr (df_J2 hJ) fs st _ _ hfs hS1.2.2 ⟨pk_us, xs_Ok o (by omega) hO (fun i hi => pk_un (by omega))⟩
      · have hk1 : k < 2 := by omega
        refine br_f (nI_ge (b := 2) hk1 (by omega)) ?_
        refine xg_s1 W G hn hk1 ?_ ?_
        · intro m hm
          have hm16 : m < 16 := gg_E16 W (gg_sE hm)
          refine br_f (fun e => hk (bs_inj e (by omega) (by omega))) (br_f (nI_pos (by omega)) ?_)
          by_cases hsm : sn m = true
          · rw [df_rs hk hm hsm] at hr
            refine br_f (fun e => ?_) ?_
            · rw [bs_g0 fs (by omega), hfs m, hsm] at e
              cases e
            · exact ih _ sn o hr (df_Js hJ hk (fun m' hm' => by rw [hm] at hm'; rw [← Option.some.inj hm']; exact hsm)) fs st _ bn hfs hS1 hO
          · have hsm : sn m = false := ts_nt hsm
            rw [df_rp hk hm hsm] at hr
            refine br_t ((bs_g0 fs (by omega)).mpr (by rw [hfs m, hsm])) ?_
            have hin3 : vp_in (nI (s.length + 1)) 40 := vp_in_nI (by omega) (by omega)
            have hu1 : upd st (nI (s.length + 1)).toNatClampNeg (vp_nar .byte (nI m).toInt8.toInt32) = upd st (s.length + 1) (nI m) := by
              rw [bs_vbb (by omega), xg_u (by omega)]
            have hu2 : upd (upd pl s.length (nI (k + 1))) (nI (s.length + 1)).toNatClampNeg (vp_nar .byte 0) = upd (upd pl s.length (nI (k + 1))) (s.length + 1) 0 := by
              rw [bs_v0, xg_u (by omega)]
            refine nm_e (And.intro hin3 (nm_r hu1 (nm_r (nI_1 _) (And.intro hin3 (nm_r hu2 ?_)))))
            refine ih _ _ o hr (df_Jp W hJ hk hm hsm) _ _ _ bn ?_ ?_ hO
            · intro i
              rw [b_or, hfs i, bs_oh (by omega)]
              by_cases e : i = m
              · subst e; rw [df_mm]; simp
              · rw [df_mn e]; simp [e]
            · refine ⟨pk_us, pk_us, xs_Sk ((n, k + 1) :: s) hS1 (fun i hi => ?_)⟩
              rw [List.length_cons] at hi
              exact ⟨pk_un (by omega), pk_un (by omega)⟩
        · intro hm
          rw [df_rn hk hm] at hr
          refine br_f (fun e => hk (bs_inj e (by omega) (by omega))) (br_t bs_n1 ?_)
          exact ih _ sn o hr (df_Js hJ hk (fun m' hm' => by rw [hm] at hm'; cases hm')) fs st _ bn hfs hS1 hO
/-- nodes by number, and numbers -/
theorem xw_164 {o : List Nat} (hl : o.length ≤ 16) (ho : o.Nodup) (h16 : ∀ n, n ∈ o → n < 16) {post : SX → Prop} {bn0 : Nat → Int32} (hO : xs_O o bn0)
    (K : ∀ (bn nu : Nat → Int32), (∀ j, j < o.length → bn j = nI (o.getD j 0) ∧ nu (o.getD j 0) = nI j) → post (f_known, f_seen, nI o.length, f_ordered, f_isStraight, f_entered, f_todo, f_length, f_waiting, f_tellings, f_last, f_stopped, f_steps, f_left, f_ran, a_acts, a_actV, a_actC, a_ends, a_endV, a_endX, a_endY, nu, bn, a_before, a_forward, a_backward, a_orderOf, a_at, a_from, a_semi, a_label, a_up, a_found, a_stack, a_place, a_chiefs, a_tails, a_edges, a_rulers, a_loops, a_innermost, a_outer, a_deep, a_alive, a_values, a_present, a_code, a_target, a_pending, a_pendingOf, a_begins, a_openAt, a_vars, a_told)) :
    ∃ n164 : Nat, (wX_walk_164 post (nI (16 - o.length)) f_known f_seen (nI o.length) f_ordered f_isStraight f_entered f_todo f_length f_waiting f_tellings f_last f_stopped f_steps f_left f_ran n164 0 a_acts a_actV a_actC a_ends a_endV a_endX a_endY a_numbers bn0 a_before a_forward a_backward a_orderOf a_at a_from a_semi a_label a_up a_found a_stack a_place a_chiefs a_tails a_edges a_rulers a_loops a_innermost a_outer a_deep a_alive a_values a_present a_code a_target a_pending a_pendingOf a_begins a_openAt a_vars a_told) := by
  refine loop_0 (σ := (Nat → Int32) × (Nat → Int32)) (fun n i s => (wX_walk_164 post (nI (16 - o.length)) f_known f_seen (nI o.length) f_ordered f_isStraight f_entered f_todo f_length f_waiting f_tellings f_last f_stopped f_steps f_left f_ran n (nI i) a_acts a_actV a_actC a_ends a_endV a_endX a_endY s.2 s.1 a_before a_forward a_backward a_orderOf a_at a_from a_semi a_label a_up a_found a_stack a_place a_chiefs a_tails a_edges a_rulers a_loops a_innermost a_outer a_deep a_alive a_values a_present a_code a_target a_pending a_pendingOf a_begins a_openAt a_vars a_told))
    (fun i s => (∀ j, j < i → s.1 j = nI (o.getD j 0) ∧ s.2 (o.getD j 0) = nI j) ∧ ∀ j, i ≤ j → j < o.length → s.1 (16 - o.length + j) = nI (o.getD j 0)) o.length (bn0, a_numbers)
    ⟨fun j hj => by omega, fun j _ hj => xs_Og o j hl hO hj⟩ ?_ ?_
  · intro n s hI
    exact br_t (nI_le (Nat.le_refl _) (by omega)) (K s.1 s.2 hI.1)
  · intro n i s hi hI ih
    have hg := hI.2 i (Nat.le_refl i) hi
    have hm := ps_mem o i hi
    have hm16 := h16 _ hm
    have ea : nI (16 - o.length) + nI i = nI (16 - o.length + i) := nI_add _ _
    have h1 : vp_in (nI (16 - o.length) + nI i) 16 := by rw [ea]; exact vp_in_nI (by omega) (by omega)
    have h2 : vp_in (nI i) 16 := vp_in_nI (by omega) (by omega)
    have hu : upd s.1 (nI i).toNatClampNeg (vp_nar .byte (s.1 (nI (16 - o.length) + nI i).toNatClampNeg)) = upd s.1 i (nI (o.getD i 0)) := by
      rw [ea, nI_clamp (by omega), nI_clamp (by omega), hg, bs_vb (by omega)]
    have hc : upd s.1 i (nI (o.getD i 0)) (nI i).toNatClampNeg = nI (o.getD i 0) := by rw [nI_clamp (by omega)]; exact pk_us
    have h3 : vp_in (upd s.1 i (nI (o.getD i 0)) (nI i).toNatClampNeg) 16 := by rw [hc]; exact vp_in_nI hm16 (by omega)
    have hu2 : upd s.2 (upd s.1 i (nI (o.getD i 0)) (nI i).toNatClampNeg).toNatClampNeg (vp_nar .byte (nI i).toInt8.toInt32) = upd s.2 (o.getD i 0) (nI i) := by
      rw [hc, bs_vbb (by omega), xg_u (by omega)]
    refine br_f (nI_ge hi (by omega)) (And.intro h1 (And.intro h2 (nm_r hu (And.intro h2 (And.intro h3 (nm_r hu2 (nm_r (nI_1 i) ?_)))))))
    refine ih (upd s.1 i (nI (o.getD i 0)), upd s.2 (o.getD i 0) (nI i)) ⟨?_, ?_⟩
    · intro j hj
      by_cases e : j = i
      · subst e; exact ⟨pk_us, pk_us⟩
      · have hj' : j < i := by omega
        have hne : o.getD j 0 ≠ o.getD i 0 := by
          intro e2
          have e3 := ps_gi o j ho (by omega)
          rw [e2, ps_gi o i ho hi] at e3
          omega
        have := hI.1 j hj'
        exact ⟨(pk_un e).trans this.1, (pk_un hne).trans this.2⟩
    · intro j hj hjl
      exact (pk_un (by omega)).trans (hI.2 j (by omega) hjl)
/-- what walk finds -/
def xn_N (g : Nat → Nat → Nat) (f_seen f_many : Int32) (a_byNumber a_numbers : Nat → Int32) : Prop :=
  (∀ i, bt f_seen i = true ↔ gg_R g i) ∧ f_many = nI (df_o g).length ∧ (∀ j, j < (df_o g).length → a_byNumber j = nI ((df_o g).getD j 0)) ∧ (∀ n, gg_R g n → a_numbers n = nI (gg_n g n))
theorem xw_w (W : gg_W g) (G : (xg_G g a_acts a_actV a_actC a_ends a_endV a_endX a_endY)) {post : SX → Prop}
    (K : ∀ (fs fm : Int32) (bn nu st pl : Nat → Int32), xn_N g fs fm bn nu → post (f_known, fs, fm, f_ordered, f_isStraight, f_entered, f_todo, f_length, f_waiting, f_tellings, f_last, f_stopped, f_steps, f_left, f_ran, a_acts, a_actV, a_actC, a_ends, a_endV, a_endX, a_endY, nu, bn, a_before, a_forward, a_backward, a_orderOf, a_at, a_from, a_semi, a_label, a_up, a_found, st, pl, a_chiefs, a_tails, a_edges, a_rulers, a_loops, a_innermost, a_outer, a_deep, a_alive, a_values, a_present, a_code, a_target, a_pending, a_pendingOf, a_begins, a_openAt, a_vars, a_told)) : (wpX_walk post (f_known, f_seen, f_many, f_ordered, f_isStraight, f_entered, f_todo, f_length, f_waiting, f_tellings, f_last, f_stopped, f_steps, f_left, f_ran, a_acts, a_actV, a_actC, a_ends, a_endV, a_endX, a_endY, a_numbers, a_byNumber, a_before, a_forward, a_backward, a_orderOf, a_at, a_from, a_semi, a_label, a_up, a_found, a_stack, a_place, a_chiefs, a_tails, a_edges, a_rulers, a_loops, a_innermost, a_outer, a_deep, a_alive, a_values, a_present, a_code, a_target, a_pending, a_pendingOf, a_begins, a_openAt, a_vars, a_told)) := by
  have hq := df_qe W
  have hlen := df_ln W
  refine nm_r (e' := upd a_stack 0 0) (by rw [bs_v0]) (nm_r (e' := upd a_place 0 0) (by rw [bs_v0]) ⟨100, ?_⟩)
  refine xw_29 (r := df_q g) W G ?_ 100 [(0, 0)] df_0 [] hq.1 df_J0 1 _ _ a_byNumber bs_1 ⟨pk_us, pk_us, trivial⟩ trivial
  intro fs bn st pl hfs hO hl
  refine xw_164 hl (df_nd W) (fun n hn => gg_R16 W ((df_mR W n).mp hn)) hO ?_
  intro bn' nu' hbn
  refine K fs _ bn' nu' st pl ⟨?_, rfl, fun j hj => (hbn j hj).1, ?_⟩
  · intro i
    rw [hfs i]
    exact df_sn W i
  · intro n hn
    have h := gg_nl W hn
    have := (hbn (gg_n g n) h.1).2
    rw [show (df_q g).1 = df_o g from rfl, h.2] at this
    exact this
end XA
end
section
section XB
/-! X: the order of going deep from a root, on nodes 0 .. 16; pure -/
variable {fw oo oo' : Nat → Int32} {N top j : Nat} {at' fr sk sp : Nat → Nat} {root n k : Nat}
def or_W (fw : Nat → Int32) : Prop := ∀ n, n < 17 → ∀ m, bt (fw n) m = true → m < 17
def or_d (fw : Nat → Int32) (n : Nat) : Nat := ct_c (fun m => bt (fw n) m) 17
def or_u (fw oo : Nat → Int32) : Nat := ct_s (fun n => if oo n = -1 then or_d fw n else 0) 17
def or_I (fw oo : Nat → Int32) (N : Nat) (at' fr : Nat → Nat) (root : Nat) : Prop :=
  ct_c (fun n => decide (oo n = -1)) 17 + N = 17 ∧ (∀ k, k < N → at' k < 17 ∧ oo (at' k) = nI k) ∧ (∀ n, n < 17 → (∀ k, k < N → at' k ≠ n) → oo n = -1) ∧
  (∀ k, 0 < k → k < N → fr k < k ∧ bt (fw (at' (fr k))) (at' k) = true) ∧ (0 < N → at' 0 = root) ∧
  (∀ u v, u < v → v < N → bt (fw (at' u)) (at' v) = true → ∀ z, u < z → z ≤ v → u ≤ fr z)
def or_K (fw oo : Nat → Int32) (N : Nat) (at' fr : Nat → Nat) (top : Nat) (sk sp : Nat → Nat) (j : Nat) : Prop :=
  (∀ i, i < top → sk i < 17 ∧ sp i < N) ∧ (∀ i i', i ≤ i' → i' < top → sp i ≤ sp i') ∧ (∀ i, i < top → bt (fw (at' (sp i))) (sk i) = true) ∧
  (∀ i, i < top → ∀ z, sp i < z → z < N → sp i ≤ fr z) ∧
  (∀ u, u < N → ∀ m, bt (fw (at' u)) m = true → oo m = -1 → (u + 1 = N → m < j) → ∃ i, i < top ∧ sk i = m ∧ sp i = u)
theorem or_lt (I : or_I fw oo N at' fr root) (hn : n < 17) (h : oo n = -1) : N < 17 := by
  have h1 := I.1
  have h2 : ct_c (fun _ => false) 17 + 1 ≤ ct_c (fun n => decide (oo n = -1)) 17 :=
    ct_lt 17 n hn (fun i _ hi => by cases hi) rfl (by show decide (oo n = -1) = true; rw [h]; rfl)
  omega
theorem or_nd (I : or_I fw oo N at' fr root) (hn : n < 17) : oo n = -1 ∨ ∃ k, k < N ∧ at' k = n ∧ oo n = nI k := by
  by_cases h : ∃ k, k < N ∧ at' k = n
  · obtain ⟨k, hk, e⟩ := h
    refine Or.inr ⟨k, hk, e, ?_⟩
    rw [← e]
    exact (I.2.1 k hk).2
  · exact Or.inl (I.2.2.1 n hn (fun k hk e => h ⟨k, hk, e⟩))
theorem or_N (I : or_I fw oo N at' fr root) : N ≤ 17 := by have := I.1; omega
def or_p (f : Nat → Nat) (N x : Nat) : Nat → Nat := fun i => if i = N then x else f i
theorem or_ps {f : Nat → Nat} {N x : Nat} : or_p f N x N = x := if_pos rfl
theorem or_pn {f : Nat → Nat} {N x i : Nat} (h : i ≠ N) : or_p f N x i = f i := if_neg h
/-- a node gets the next number -/
theorem or_I1 (I : or_I fw oo N at' fr root) (hn : n < 17) (h : oo n = -1) {q : Nat}
    (hq : 0 < N → q < N ∧ bt (fw (at' q)) n = true) (hr : N = 0 → n = root)
    (hT : ∀ u, u < N → bt (fw (at' u)) n = true → u ≤ q ∧ ∀ z, u < z → z < N → u ≤ fr z) :
    or_I fw (upd oo n (nI N)) (N + 1) (or_p at' N n) (or_p fr N q) root := by
  have hN := or_lt I hn h
  obtain ⟨h1, h2, h3, h4, h5, h6⟩ := I
  have hne : ∀ k, k < N → at' k ≠ n := by
    intro k hk e
    have := (h2 k hk).2
    rw [e, h] at this
    exact bs_ne' (by omega) this
  refine ⟨?_, ?_, ?_, ?_, ?_, ?_⟩
  · have := ct_rm (p := fun i => decide (upd oo n (nI N) i = -1)) (q := fun i => decide (oo i = -1)) 17 n hn (fun i _ hi => by show decide (upd oo n (nI N) i = -1) = _; rw [pk_un hi])
      (by show decide (upd oo n (nI N) n = -1) = false; rw [pk_us]; exact decide_eq_false (bs_ne (by omega))) (by show decide (oo n = -1) = true; rw [h]; rfl)
    omega
  · intro k hk
    by_cases e : k = N
    · subst e
      rw [or_ps, pk_us]
      exact ⟨hn, rfl⟩
    · rw [or_pn e, pk_un (hne k (by omega))]
      exact h2 k (by omega)
  · intro m hm hk
    have hmn : m ≠ n := by
      intro e
      have := hk N (by omega)
      rw [or_ps] at this
      exact this e.symm
    rw [pk_un hmn]
    refine h3 m hm (fun k hk' => ?_)
    have := hk k (by omega)
    rw [or_pn (by omega)] at this
    exact this
  · intro k hk0 hk
    by_cases e : k = N
    · subst e
      have := hq hk0
      rw [or_ps, or_ps, or_pn (by omega)]
      exact this
    · have := h4 k hk0 (by omega)
      rw [or_pn e, or_pn e, or_pn (by omega)]
      exact this
  · intro _
    by_cases e : N = 0
    · rw [e, or_ps]
      exact hr e
    · rw [or_pn (by omega)]
      exact h5 (by omega)
  · intro u v huv hv hb z hz1 hz2
    rw [or_pn (show u ≠ N by omega)] at hb
    by_cases e : v = N
    · subst e
      rw [or_ps] at hb
      have := hT u huv hb
      by_cases e2 : z = v
      · subst e2
        rw [or_ps]
        exact this.1
      · rw [or_pn e2]
        exact this.2 z hz1 (by omega)
    · rw [or_pn e] at hb
      rw [or_pn (by omega)]
      exact h6 u v huv (by omega) hb z hz1 hz2
theorem or_K1 (I : or_I fw oo N at' fr root) (K : or_K fw oo N at' fr (top + 1) sk sp 17) (hW : or_W fw) (h : oo (sk top) = -1) :
    or_I fw (upd oo (sk top) (nI N)) (N + 1) (or_p at' N (sk top)) (or_p fr N (sp top)) root ∧ or_K fw (upd oo (sk top) (nI N)) (N + 1) (or_p at' N (sk top)) (or_p fr N (sp top)) top sk sp 0 := by
  obtain ⟨k1, k2, k3, k4, k5⟩ := K
  have ht := k1 top (by omega)
  refine ⟨or_I1 I ht.1 h (fun _ => ⟨ht.2, k3 top (by omega)⟩) (fun e => by omega) ?_, ?_, ?_, ?_, ?_, ?_⟩
  · intro u hu hb
    obtain ⟨i, hi, e1, e2⟩ := k5 u hu _ hb h (fun _ => ht.1)
    subst e2
    exact ⟨k2 i top (by omega) (by omega), fun z hz1 hz2 => k4 i hi z hz1 hz2⟩
  · intro i hi
    have := k1 i (by omega)
    exact ⟨this.1, by omega⟩
  · intro i i' hii hi
    exact k2 i i' hii (by omega)
  · intro i hi
    have := k1 i (by omega)
    rw [or_pn (by omega)]
    exact k3 i (by omega)
  · intro i hi z hz1 hz2
    by_cases e : z = N
    · subst e
      rw [or_ps]
      exact k2 i top (by omega) (by omega)
    · rw [or_pn e]
      exact k4 i (by omega) z hz1 (by omega)
  · intro u hu m hb hm hj
    have hmn : m ≠ sk top := by
      intro e
      rw [e, pk_us] at hm
      exact bs_ne (by have := or_N I; omega) hm
    rw [pk_un hmn] at hm
    have huN : u ≠ N := by
      intro e
      have := hj (by omega)
      omega
    rw [or_pn huN] at hb
    obtain ⟨i, hi, e1, e2⟩ := k5 u (by omega) m hb hm (fun _ => hW _ (I.2.1 u (by omega)).1 m hb)
    refine ⟨i, ?_, e1, e2⟩
    have : i ≠ top := by
      intro e
      rw [e] at e1
      exact hmn e1.symm
    omega
/-- one pushed -/
theorem or_K2 (K : or_K fw oo (N + 1) at' fr top sk sp j) (hj : j < 17) (hb : bt (fw (at' N)) j = true) : or_K fw oo (N + 1) at' fr (top + 1) (or_p sk top j) (or_p sp top N) (j + 1) := by
  obtain ⟨k1, k2, k3, k4, k5⟩ := K
  refine ⟨?_, ?_, ?_, ?_, ?_⟩
  · intro i hi
    by_cases e : i = top
    · subst e; rw [or_ps, or_ps]; exact ⟨hj, by omega⟩
    · rw [or_pn e, or_pn e]; exact k1 i (by omega)
  · intro i i' hii hi
    by_cases e : i' = top
    · subst e
      rw [or_ps]
      by_cases e2 : i = i'
      · subst e2; rw [or_ps]; omega
      · rw [or_pn e2]
        have := (k1 i (by omega)).2
        omega
    · rw [or_pn e, or_pn (by omega)]
      exact k2 i i' hii (by omega)
  · intro i hi
    by_cases e : i = top
    · subst e; rw [or_ps, or_ps]; exact hb
    · rw [or_pn e, or_pn e]; exact k3 i (by omega)
  · intro i hi z hz1 hz2
    by_cases e : i = top
    · subst e; rw [or_ps] at hz1; omega
    · rw [or_pn e] at hz1 ⊢
      exact k4 i (by omega) z hz1 hz2
  · intro u hu m hbm hm hu2
    by_cases e : u = N ∧ m = j
    · obtain ⟨e1, e2⟩ := e
      subst e1 e2
      exact ⟨top, by omega, or_ps, or_ps⟩
    · obtain ⟨i, hi, e1, e2⟩ := k5 u hu m hbm hm (fun h => by have := hu2 h; omega)
      exact ⟨i, by omega, by rw [or_pn (by omega)]; exact e1, by rw [or_pn (by omega)]; exact e2⟩
theorem or_K3 (K : or_K fw oo (N + 1) at' fr top sk sp j) (h : bt (fw (at' N)) j = true → ¬ oo j = -1) : or_K fw oo (N + 1) at' fr top sk sp (j + 1) := by
  obtain ⟨k1, k2, k3, k4, k5⟩ := K
  refine ⟨k1, k2, k3, k4, ?_⟩
  intro u hu m hbm hm hu2
  by_cases e : u = N ∧ m = j
  · obtain ⟨e1, e2⟩ := e
    subst e1 e2
    exact absurd hm (h hbm)
  · exact k5 u hu m hbm hm (fun h => by have := hu2 h; omega)
theorem or_u1 (hn : n < 17) (h : oo n = -1) {x : Int32} (hx : ¬ x = -1) : or_u fw (upd oo n x) + or_d fw n = or_u fw oo := by
  unfold or_u
  have := ct_sup (f := fun i => if upd oo n x i = -1 then or_d fw i else 0) (g := fun i => if oo i = -1 then or_d fw i else 0) 17 n hn (fun i _ hi => by show (if upd oo n x i = -1 then _ else _) = _; rw [pk_un hi])
  have e1 : (if upd oo n x n = -1 then or_d fw n else 0) = 0 := by rw [pk_us, if_neg hx]
  have e2 : (if oo n = -1 then or_d fw n else 0) = or_d fw n := by rw [if_pos h]
  have e3 : ct_s (fun i => if upd oo n x i = -1 then or_d fw i else 0) 17 + (if oo n = -1 then or_d fw n else 0) = ct_s (fun i => if oo i = -1 then or_d fw i else 0) 17 + (if upd oo n x n = -1 then or_d fw n else 0) := this
  rw [e1, e2] at e3
  omega
/-- what order finds -/
def or_F (fw oo : Nat → Int32) (N : Nat) (at' fr : Nat → Nat) (root : Nat) : Prop :=
  or_I fw oo N at' fr root ∧ 0 < N ∧ (∀ u, u < N → ∀ m, bt (fw (at' u)) m = true → ∃ v, v < N ∧ at' v = m)
def or_e (fw : Nat → Int32) (N : Nat) (at' : Nat → Nat) (u v : Nat) : Prop := u < N ∧ v < N ∧ bt (fw (at' u)) (at' v) = true
theorem or_T (F : or_F fw oo N at' fr root) : ln_T N (or_e fw N at') fr := by
  obtain ⟨⟨_, _, _, h4, _, h6⟩, _, _⟩ := F
  refine ⟨fun k h0 hN => ?_, fun u v h => ⟨h.1, h.2.1⟩, fun u v h huv z h1 h2 => h6 u v huv h.2.1 h.2.2 z h1 h2⟩
  have := h4 k h0 hN
  exact ⟨this.1, by omega, hN, this.2⟩
def or_E (fw : Nat → Int32) (n m : Nat) : Prop := n < 17 ∧ bt (fw n) m = true
theorem or_inj (I : or_I fw oo N at' fr root) {a b : Nat} (ha : a < N) (hb : b < N) (e : at' a = at' b) : a = b := by
  have h1 := (I.2.1 a ha).2
  have h2 := (I.2.1 b hb).2
  rw [e, h2] at h1
  have := or_N I
  exact (bs_inj h1 (by omega) (by omega)).symm
theorem or_R (F : or_F fw oo N at' fr root) (m : Nat) : dm_R (or_E fw) root m ↔ ∃ v, v < N ∧ at' v = m := by
  constructor
  · intro h
    refine gr_in (Q := fun m => ∃ v, v < N ∧ at' v = m) h ⟨0, F.2.1, F.1.2.2.2.2.1 F.2.1⟩ ?_
    intro x y _ hx he _
    obtain ⟨v, hv, e⟩ := hx
    subst e
    exact F.2.2 v hv y he.2
  · intro h
    obtain ⟨v, hv, e⟩ := h
    subst e
    have h1 := ln_t0 (or_T F) hv
    have key : ∀ v, gr_c (or_e fw N at') (fun y => y ≤ v) 0 v → dm_R (or_E fw) root (at' v) := by
      intro v hv
      refine gr_in (Q := fun v => dm_R (or_E fw) root (at' v)) hv ?_ ?_
      · rw [F.1.2.2.2.2.1 F.2.1]; exact gr_rf
      · intro x y _ hx he _
        exact gr_st hx ⟨(F.1.2.1 x he.1).1, he.2.2⟩ trivial
    exact key v h1
theorem or_A (F : or_F fw oo N at' fr root) {d v : Nat} (hd : d < N) (hv : v < N) : dm_A (or_E fw) root (at' d) (at' v) ↔ dm_A (or_e fw N at') 0 d v := by
  have h0 := F.1.2.2.2.2.1 F.2.1
  constructor
  · intro h
    refine ⟨fun e => h.1 (by rw [← h0, e]), ?_⟩
    have key : ∀ m, gr_c (or_E fw) (fun y => y ≠ at' d) root m → ∃ u, u < N ∧ at' u = m ∧ gr_c (or_e fw N at') (fun y => y ≠ d) 0 u := by
      intro m hm
      refine gr_in (Q := fun m => ∃ u, u < N ∧ at' u = m ∧ gr_c (or_e fw N at') (fun y => y ≠ d) 0 u) hm ⟨0, F.2.1, h0, gr_rf⟩ ?_
      intro x y _ hx he hy
      obtain ⟨u, hu, e, hc⟩ := hx
      subst e
      obtain ⟨w, hw, e2⟩ := F.2.2 u hu y he.2
      subst e2
      exact ⟨w, hw, rfl, gr_st hc ⟨hu, hw, he.2⟩ (fun e => hy (by rw [e]))⟩
    obtain ⟨u, hu, e, hc⟩ := key _ h.2
    have := or_inj F.1 hu hv e
    subst this
    exact hc
  · intro h
    refine ⟨fun e => h.1 (or_inj F.1 F.2.1 hd (by rw [h0, e])), ?_⟩
    refine gr_in (Q := fun v => gr_c (or_E fw) (fun y => y ≠ at' d) root (at' v)) h.2 (by rw [h0]; exact gr_rf) ?_
    intro x y _ hx he hy
    refine gr_st hx ⟨(F.1.2.1 x he.1).1, he.2.2⟩ (fun e => hy (or_inj F.1 he.2.1 hd e))
theorem or_D (F : or_F fw oo N at' fr root) {d v : Nat} (hd : d < N) (hv : v < N) : dm_D (or_E fw) root (at' d) (at' v) ↔ dm_D (or_e fw N at') 0 d v := by
  unfold dm_D
  rw [or_A F hd hv]
theorem or_i (F : or_F fw oo N at' fr root) {d v : Nat} (hd : d < N) (hv : v < N) (h : dm_I (or_e fw N at') 0 d v) : dm_I (or_E fw) root (at' d) (at' v) := by
  refine ⟨fun e => h.1 (or_inj F.1 hd hv e), (or_D F hd hv).mpr h.2.1, ?_⟩
  intro e hne hD
  have hR : dm_R (or_E fw) root (at' v) := (or_R F _).mpr ⟨v, hv, rfl⟩
  obtain ⟨w, hw, ew⟩ := (or_R F e).mp (dm_re hR hD)
  subst ew
  exact (or_D F hw hd).mpr (h.2.2 w (fun e => hne (by rw [e])) ((or_D F hw hv).mp hD))
end XB
section XC
variable {f_known f_seen f_many f_ordered f_isStraight f_entered f_todo f_length f_waiting f_tellings f_last f_stopped f_steps f_ran : Int32} {f_left : Int64} {a_acts a_actV a_actC a_ends a_endV a_endX a_endY a_numbers a_byNumber a_before a_forward a_backward a_orderOf a_at a_from a_semi a_label a_up a_found a_stack a_place a_chiefs a_tails a_edges a_rulers a_loops a_innermost a_outer a_deep a_alive a_values a_present a_code a_target a_pending a_pendingOf a_begins a_openAt a_vars a_told : Nat → Int32}
/-! X: the walk of order -/
def or_Ar (a_at a_from : Nat → Int32) (N : Nat) (at' fr : Nat → Nat) : Prop := (∀ k, k < N → a_at k = nI (at' k)) ∧ (∀ k, 0 < k → k < N → a_from k = nI (fr k))
def or_St (a_stack a_place : Nat → Int32) (top : Nat) (sk sp : Nat → Nat) : Prop := ∀ i, i < top → a_stack i = nI (sk i) ∧ a_place i = nI (sp i)
theorem or_Sk {a_stack a_place : Nat → Int32} {top : Nat} {sk sp : Nat → Nat} (h : or_St a_stack a_place top sk sp) (a b : Nat) : or_St (upd a_stack top (nI a)) (upd a_place top (nI b)) (top + 1) (or_p sk top a) (or_p sp top b) := by
  intro i hi
  by_cases e : i = top
  · subst e; rw [or_ps, or_ps, pk_us, pk_us]; exact ⟨rfl, rfl⟩
  · rw [or_pn e, or_pn e, pk_un e, pk_un e]; exact h i (by omega)
theorem or_121 (hW : or_W a_forward) {post : SX → Prop} {J : Int32 → Int32 → (Nat → Int32) → (Nat → Int32) → (Nat → Int32) → (Nat → Int32) → (Nat → Int32) → (Nat → Int32) → (Nat → Int32) → (Nat → Int32) → (Nat → Int32) → (Nat → Int32) → (Nat → Int32) → (Nat → Int32) → (Nat → Int32) → (Nat → Int32) → (Nat → Int32) → (Nat → Int32) → (Nat → Int32) → (Nat → Int32) → (Nat → Int32) → (Nat → Int32) → (Nat → Int32) → (Nat → Int32) → (Nat → Int32) → (Nat → Int32) → (Nat → Int32) → (Nat → Int32) → (Nat → Int32) → (Nat → Int32) → (Nat → Int32) → (Nat → Int32) → (Nat → Int32) → (Nat → Int32) → (Nat → Int32) → (Nat → Int32) → (Nat → Int32) → (Nat → Int32) → (Nat → Int32) → (Nat → Int32) → (Nat → Int32) → (Nat → Int32) → Prop}
    {N t0 : Nat} {at' fr sk0 sp0 : Nat → Nat} {root : Nat} (I : or_I a_forward a_orderOf (N + 1) at' fr root) (K0 : or_K a_forward a_orderOf (N + 1) at' fr t0 sk0 sp0 0) (S0 : or_St a_stack a_place t0 sk0 sp0)
    (hb : t0 + or_d a_forward (at' N) ≤ 33)
    (C : ∀ (top : Nat) (sk sp : Nat → Nat) (st pl : Nat → Int32), top ≤ t0 + or_d a_forward (at' N) → or_K a_forward a_orderOf (N + 1) at' fr top sk sp 17 → or_St st pl top sk sp → (J (nI top) f_ordered a_acts a_actV a_actC a_ends a_endV a_endX a_endY a_numbers a_byNumber a_before a_forward a_backward a_orderOf a_at a_from a_semi a_label a_up a_found st pl a_chiefs a_tails a_edges a_rulers a_loops a_innermost a_outer a_deep a_alive a_values a_present a_code a_target a_pending a_pendingOf a_begins a_openAt a_vars a_told)) :
    ∃ n : Nat, (wX_order_121 post J (nI N) f_known f_seen f_many f_ordered f_isStraight f_entered f_todo f_length f_waiting f_tellings f_last f_stopped f_steps f_left f_ran n (nI t0) (a_forward (at' N)) a_acts a_actV a_actC a_ends a_endV a_endX a_endY a_numbers a_byNumber a_before a_forward a_backward a_orderOf a_at a_from a_semi a_label a_up a_found a_stack a_place a_chiefs a_tails a_edges a_rulers a_loops a_innermost a_outer a_deep a_alive a_values a_present a_code a_target a_pending a_pendingOf a_begins a_openAt a_vars a_told) := by
  refine ⟨18, ?_⟩
  have hN := or_N I
  have hbx : ∀ i, 17 ≤ i → bt (a_forward (at' N)) i = false := fun i hi => ts_nt (fun h => by have := hW _ (I.2.1 N (by omega)).1 i h; omega)
  refine bs_lp (σ := Nat × (Nat → Int32) × (Nat → Int32)) (fun n s t => (wX_order_121 post J (nI N) f_known f_seen f_many f_ordered f_isStraight f_entered f_todo f_length f_waiting f_tellings f_last f_stopped f_steps f_left f_ran n (nI t.1) s a_acts a_actV a_actC a_ends a_endV a_endX a_endY a_numbers a_byNumber a_before a_forward a_backward a_orderOf a_at a_from a_semi a_label a_up a_found t.2.1 t.2.2 a_chiefs a_tails a_edges a_rulers a_loops a_innermost a_outer a_deep a_alive a_values a_present a_code a_target a_pending a_pendingOf a_begins a_openAt a_vars a_told)) (a_forward (at' N)) 17 hbx
    (fun j t => ∃ sk sp, t.1 ≤ t0 + ct_c (fun m => bt (a_forward (at' N)) m) j ∧ or_K a_forward a_orderOf (N + 1) at' fr t.1 sk sp j ∧ or_St t.2.1 t.2.2 t.1 sk sp) ?_ ?_ ?_ (t0, a_stack, a_place) ⟨sk0, sp0, Nat.le_refl _, K0, S0⟩ 18 (by omega)
  · intro n t ht
    obtain ⟨sk, sp, h1, h2, h3⟩ := ht
    exact br_t rfl (C t.1 sk sp t.2.1 t.2.2 h1 h2 h3)
  · intro i t hi hbi ht
    obtain ⟨sk, sp, h1, h2, h3⟩ := ht
    refine ⟨sk, sp, ?_, or_K3 h2 (fun h => by rw [hbi] at h; cases h), h3⟩
    show t.1 ≤ t0 + (ct_c (fun m => bt (a_forward (at' N)) m) i + _)
    omega
  · intro n s i t hi hbi hs hsi hsm ht ih
    obtain ⟨sk, sp, h1, h2, h3⟩ := ht
    have hct : ct_c (fun m => bt (a_forward (at' N)) m) (i + 1) = ct_c (fun m => bt (a_forward (at' N)) m) i + 1 := by
      show _ + (if bt (a_forward (at' N)) i = true then 1 else 0) = _
      rw [if_pos hbi]
    have hcl : ct_c (fun m => bt (a_forward (at' N)) m) (i + 1) ≤ or_d a_forward (at' N) := by
      have key : ∀ (p : Nat → Bool) (d a : Nat), ct_c p a ≤ ct_c p (a + d) := by
        intro p d
        induction d with
        | zero => intro a; exact Nat.le_refl _
        | succ d ih =>
          intro a
          have := ih a
          show _ ≤ ct_c p (a + d) + _
          omega
      have := key (fun m => bt (a_forward (at' N)) m) (17 - (i + 1)) (i + 1)
      rw [show i + 1 + (17 - (i + 1)) = 17 from by omega] at this
      exact this
    have h40 : vp_in (nI t.1) 40 := vp_in_nI (by omega) (by omega)
    refine br_f hs (bs_lw hsi hsm (And.intro (xg_i7 hi) ?_))
    by_cases ho : a_orderOf i = -1
    · refine br_t (by rw [nI_clamp (by omega), ho]; exact bs_n1) (And.intro h40 (nm_r (e' := upd t.2.1 t.1 (nI i)) (by rw [bs_vbb (by omega), xg_u (by omega)]) (nm_r (nI_1 _) (And.intro h40 (nm_r (e' := upd t.2.2 t.1 (nI N)) (by rw [bs_vbb (by omega), xg_u (by omega)]) (nm_e ?_))))))
      refine ih (t.1 + 1, _, _) ⟨or_p sk t.1 i, or_p sp t.1 N, ?_, or_K2 h2 hi hbi, or_Sk h3 i N⟩
      show t.1 + 1 ≤ _
      omega
    · rcases or_nd I hi with h | ⟨k, hk, _, e⟩
      · exact absurd h ho
      · refine br_f (by rw [nI_clamp (by omega), e]; exact nI_pos (by omega)) (nm_e ?_)
        refine ih t ⟨sk, sp, ?_, or_K3 h2 (fun _ => ho), h3⟩
        omega
/-- what order keeps -/
def or_Z (fw oo : Nat → Int32) (a_at a_from a_stack a_place : Nat → Int32) (root N top : Nat) : Prop :=
  ∃ at' fr sk sp : Nat → Nat, or_I fw oo N at' fr root ∧ 0 < N ∧ or_K fw oo N at' fr top sk sp 17 ∧ or_Ar a_at a_from N at' fr ∧ or_St a_stack a_place top sk sp ∧ top + or_u fw oo ≤ 33
theorem or_43 (hW : or_W a_forward) {post : SX → Prop} {root : Nat}
    (C : ∀ (N : Nat) (at' fr : Nat → Nat) (oo at2 fr2 st pl : Nat → Int32), or_F a_forward oo N at' fr root → or_Ar at2 fr2 N at' fr → post (f_known, f_seen, f_many, nI N, f_isStraight, f_entered, f_todo, f_length, f_waiting, f_tellings, f_last, f_stopped, f_steps, f_left, f_ran, a_acts, a_actV, a_actC, a_ends, a_endV, a_endX, a_endY, a_numbers, a_byNumber, a_before, a_forward, a_backward, oo, at2, fr2, a_semi, a_label, a_up, a_found, st, pl, a_chiefs, a_tails, a_edges, a_rulers, a_loops, a_innermost, a_outer, a_deep, a_alive, a_values, a_present, a_code, a_target, a_pending, a_pendingOf, a_begins, a_openAt, a_vars, a_told)) :
    ∀ (n N top : Nat) (oo at2 fr2 st pl : Nat → Int32), or_Z a_forward oo at2 fr2 st pl root N top → top + or_u a_forward oo < n →
      (wX_order_43 post f_known f_seen f_many f_isStraight f_entered f_todo f_length f_waiting f_tellings f_last f_stopped f_steps f_left f_ran n (nI top) (nI N) a_acts a_actV a_actC a_ends a_endV a_endX a_endY a_numbers a_byNumber a_before a_forward a_backward oo at2 fr2 a_semi a_label a_up a_found st pl a_chiefs a_tails a_edges a_rulers a_loops a_innermost a_outer a_deep a_alive a_values a_present a_code a_target a_pending a_pendingOf a_begins a_openAt a_vars a_told) := by
  intro n
  induction n with
  | zero => intro N top oo at2 fr2 st pl _ h; omega
  | succ n ih =>
    intro N top oo at2 fr2 st pl hZ hm
    obtain ⟨at', fr, sk, sp, I, h0, K, hA, hS, hu⟩ := hZ
    have hN := or_N I
    cases top with
    | zero =>
      refine br_t (by decide) (C N at' fr oo at2 fr2 st pl ⟨I, h0, ?_⟩ hA)
      intro u hu2 m hb
      have hm17 := hW _ (I.2.1 u hu2).1 m hb
      rcases or_nd I hm17 with h | ⟨k, hk, e, _⟩
      · obtain ⟨i, hi, _, _⟩ := K.2.2.2.2 u hu2 m hb h (fun _ => hm17)
        omega
      · exact ⟨k, hk, e⟩
    | succ top =>
      have ht := K.1 top (by omega)
      have hst := hS top (by omega)
      have h40 : vp_in (nI top) 40 := vp_in_nI (by omega) (by omega)
      refine br_f (nI_nle (by omega) (by omega)) (nm_r (pk_m1 top) (And.intro h40 (nm_r (e' := nI (sk top)) (by rw [nI_clamp (by omega)]; exact hst.1) (And.intro (xg_i7 ht.1) ?_))))
      by_cases ho : oo (sk top) = -1
      · have hN17 := or_lt I ht.1 ho
        have h1 := or_K1 I K hW ho
        have hu2 := or_u1 (fw := a_forward) ht.1 ho (x := nI N) (bs_ne (by omega))
        refine br_t (by rw [nI_clamp (by omega), ho]; exact bs_n1) (nm_r (nI_1 N) (And.intro (xg_i7 ht.1) (nm_r (e' := upd oo (sk top) (nI N)) (by rw [bs_vbb (by omega), xg_u (by omega)]) (And.intro (xg_i7 hN17) (nm_r (e' := upd at2 N (nI (sk top))) (by rw [bs_vbb (by omega), xg_u (by omega)]) (And.intro h40 (And.intro (xg_i7 hN17) (nm_r (e' := upd fr2 N (nI (sp top))) (by rw [nI_clamp (by omega), nI_clamp (by omega), hst.2, bs_vb (by omega)]) (And.intro (xg_i7 ht.1) (nm_r (e' := a_forward (or_p at' N (sk top) N)) (by rw [nI_clamp (by omega), or_ps]) ?_))))))))))
        refine or_121 hW h1.1 h1.2 (fun i hi => hS i (by omega)) (by rw [or_ps]; omega) ?_
        intro top' sk' sp' st' pl' ht' K' S'
        rw [or_ps] at ht'
        refine ih (N + 1) top' _ _ _ st' pl' ⟨_, _, sk', sp', h1.1, by omega, K', ⟨?_, ?_⟩, S', by omega⟩ (by omega)
        · intro k hk
          by_cases e : k = N
          · subst e; rw [or_ps, pk_us]
          · rw [or_pn e, pk_un e]; exact hA.1 k (by omega)
        · intro k hk0 hk
          by_cases e : k = N
          · subst e; rw [or_ps, pk_us]
          · rw [or_pn e, pk_un e]; exact hA.2 k hk0 (by omega)
      · rcases or_nd I ht.1 with h | ⟨k, hk, _, e⟩
        · exact absurd h ho
        · refine br_f (by rw [nI_clamp (by omega), e]; exact nI_pos (by omega)) ?_
          refine ih N top oo at2 fr2 st pl ⟨at', fr, sk, sp, I, h0, ⟨fun i hi => K.1 i (by omega), fun i i' h1 h2 => K.2.1 i i' h1 (by omega), fun i hi => K.2.2.1 i (by omega), fun i hi => K.2.2.2.1 i (by omega), ?_⟩, hA, fun i hi => hS i (by omega), by omega⟩ (by omega)
          intro u hu2 m hb hm1 hj
          obtain ⟨i, hi, e1, e2⟩ := K.2.2.2.2 u hu2 m hb hm1 hj
          refine ⟨i, ?_, e1, e2⟩
          have : i ≠ top := by
            intro e3
            rw [e3] at e1
            rw [e1] at ho
            exact ho hm1
          omega
/-- order, whole -/
theorem or_o (hW : or_W a_forward) (hd : ct_s (or_d a_forward) 17 ≤ 32) {root : Nat} (hr : root < 17) {post : SX → Prop}
    (C : ∀ (N : Nat) (at' fr : Nat → Nat) (oo at2 fr2 st pl : Nat → Int32), or_F a_forward oo N at' fr root → or_Ar at2 fr2 N at' fr → post (f_known, f_seen, f_many, nI N, f_isStraight, f_entered, f_todo, f_length, f_waiting, f_tellings, f_last, f_stopped, f_steps, f_left, f_ran, a_acts, a_actV, a_actC, a_ends, a_endV, a_endX, a_endY, a_numbers, a_byNumber, a_before, a_forward, a_backward, oo, at2, fr2, a_semi, a_label, a_up, a_found, st, pl, a_chiefs, a_tails, a_edges, a_rulers, a_loops, a_innermost, a_outer, a_deep, a_alive, a_values, a_present, a_code, a_target, a_pending, a_pendingOf, a_begins, a_openAt, a_vars, a_told)) :
    (wpX_order post (f_known, f_seen, f_many, f_ordered, f_isStraight, f_entered, f_todo, f_length, f_waiting, f_tellings, f_last, f_stopped, f_steps, f_left, f_ran, a_acts, a_actV, a_actC, a_ends, a_endV, a_endX, a_endY, a_numbers, a_byNumber, a_before, a_forward, a_backward, a_orderOf, a_at, a_from, a_semi, a_label, a_up, a_found, a_stack, a_place, a_chiefs, a_tails, a_edges, a_rulers, a_loops, a_innermost, a_outer, a_deep, a_alive, a_values, a_present, a_code, a_target, a_pending, a_pendingOf, a_begins, a_openAt, a_vars, a_told) (nI root)) := by
  refine loop_0 (σ := Nat → Int32) (fun n i s => (wX_order_2 post (nI root) f_known f_seen f_many f_ordered f_isStraight f_entered f_todo f_length f_waiting f_tellings f_last f_stopped f_steps f_left f_ran n (nI i) a_acts a_actV a_actC a_ends a_endV a_endX a_endY a_numbers a_byNumber a_before a_forward a_backward s a_at a_from a_semi a_label a_up a_found a_stack a_place a_chiefs a_tails a_edges a_rulers a_loops a_innermost a_outer a_deep a_alive a_values a_present a_code a_target a_pending a_pendingOf a_begins a_openAt a_vars a_told)) (fun i s => ∀ j, j < i → s j = -1) 17 a_orderOf (fun j hj => by omega) ?_ ?_
  · intro n oo hoo
    refine br_t (by decide) (nm_r (e' := upd a_stack 0 (nI root)) (by rw [bs_vbb (by omega)]) (nm_r (e' := upd a_place 0 (-1)) (by rw [bs_vm]) ⟨40, ?_⟩))
    have hu0 : or_u a_forward oo = ct_s (or_d a_forward) 17 := by
      unfold or_u
      exact ct_seq 17 (fun i hi => by show (if oo i = -1 then or_d a_forward i else 0) = _; rw [if_pos (hoo i hi)])
    have hc0 : ct_c (fun n => decide (oo n = -1)) 17 = 17 := by
      have key : ∀ m, m ≤ 17 → ct_c (fun n => decide (oo n = -1)) m = m := by
        intro m
        induction m with
        | zero => intro _; rfl
        | succ m ih =>
          intro hm
          show ct_c _ m + (if decide (oo m = -1) = true then 1 else 0) = m + 1
          rw [ih (by omega), hoo m (by omega)]
          rfl
      exact key 17 (by omega)
    have I0 : or_I a_forward oo 0 (fun _ => 0) (fun _ => 0) root :=
      ⟨by omega, fun k hk => by omega, fun n hn _ => hoo n hn, fun k _ hk => by omega, fun h => by omega, fun u v _ hv => by omega⟩
    have I1 := or_I1 I0 (n := root) hr (hoo root hr) (q := 0) (fun h => by omega) (fun _ => rfl) (fun u hu => by omega)
    have hu2 := or_u1 (fw := a_forward) hr (hoo root hr) (x := nI 0) (bs_ne (by omega))
    have h40 : vp_in (nI 0) 40 := vp_in_nI (by omega) (by omega)
    refine br_f (by decide) (nm_r (e' := nI 0) (by decide) (And.intro h40 (nm_r (e' := nI root) (by rw [nI_clamp (by omega)]; exact pk_us) (And.intro (xg_i7 hr) (br_t (by rw [nI_clamp (by omega), hoo root hr]; exact bs_n1) (nm_r (e' := nI (0 + 1)) (by decide) (And.intro (xg_i7 hr) (nm_r (e' := upd oo root (nI 0)) (by rw [xg_u (by omega)]; exact congrArg (upd oo root) (by decide)) (And.intro (xg_i7 (n := 0) (by omega)) (nm_r (e' := upd a_at 0 (nI root)) (by rw [bs_vbb (by omega)]; exact xg_u (n := 0) (by omega) _ _) (And.intro h40 (And.intro (xg_i7 (n := 0) (by omega)) (nm_r (e' := upd a_from 0 (-1)) (by rw [nI_clamp (by omega)]; exact (congrArg (fun x => upd a_from (nI 0).toNatClampNeg (vp_nar .byte x)) pk_us).trans (by rw [bs_vm]; exact xg_u (n := 0) (by omega) _ _)) (And.intro (xg_i7 hr) (nm_r (e' := a_forward (or_p (fun _ => 0) 0 root 0)) (by rw [nI_clamp (by omega), or_ps]) ?_)))))))))))))))
    refine or_121 hW I1 (t0 := 0) (sk0 := fun _ => 0) (sp0 := fun _ => 0) ⟨fun i hi => by omega, fun i i' _ hi => by omega, fun i hi => by omega, fun i hi => by omega, fun u hu m _ _ hj => absurd (hj (by have : u < 1 := hu; show u + 1 = 1; omega)) (Nat.not_lt_zero m)⟩ (fun i hi => by omega) (by rw [or_ps]; omega) ?_
    intro top' sk' sp' st' pl' ht' K' S'
    rw [or_ps] at ht'
    refine or_43 hW C 39 1 top' _ _ _ st' pl' ⟨_, _, sk', sp', I1, by omega, K', ⟨?_, ?_⟩, S', by omega⟩ (by omega)
    · intro k hk
      have e : k = 0 := by omega
      subst e
      rw [or_ps, pk_us]
    · intro k hk0 hk
      omega
  · intro n i s hi hI ih
    refine br_f (nI_ge (b := 17) hi (by omega)) (And.intro (xg_i7 hi) (nm_r (e' := upd s i (-1)) (by rw [bs_vm, xg_u (by omega)]) (nm_r (nI_1 i) (ih _ ?_))))
    intro j hj
    by_cases e : j = i
    · subst e; exact pk_us
    · exact (pk_un e).trans (hI j (by omega))
end XC
end
section
section XD
/-! X: labels on the way up, pure -/
variable {N k : Nat} {par sm sm' lb ua : Nat → Nat} {e : Nat → Nat → Prop}
def ru_L (N : Nat) (par sm : Nat → Nat) (k : Nat) (lb ua : Nat → Nat) : Prop :=
  ∀ j, k < j → j < N → ua j < j ∧ ln_A par (ua j) j ∧ ln_A par (lb j) j ∧ ua j < lb j ∧ ∀ z, ln_A par z j → ua j < z → k < z ∧ sm (lb j) ≤ sm z
theorem ru_Ls (L : ru_L N par sm k lb ua) (h : ∀ z, k < z → sm' z = sm z) : ru_L N par sm' k lb ua := by
  intro j h1 h2
  obtain ⟨a, b, c, d, f⟩ := L j h1 h2
  refine ⟨a, b, c, d, fun z hz hu => ?_⟩
  have h3 := f z hz hu
  have h4 := f (lb j) c d
  rw [h z h3.1, h (lb j) h4.1]
  exact h3
theorem ru_Lk (L : ru_L N par sm k lb ua) {j : Nat} (h1 : k < j) (h2 : j < N) : k < lb j ∧ lb j ≤ j :=
  let h := L j h1 h2
  ⟨(h.2.2.2.2 (lb j) h.2.2.1 h.2.2.2.1).1, h.2.2.1.1⟩
/-- one step of making the way shorter -/
theorem ru_L1 (L : ru_L N par sm k lb ua) {x y l : Nat} (hx : k < x) (hxN : x < N) (hy : k < y) (e : ua x = y) (hl : l = if sm (lb y) < sm (lb x) then lb y else lb x) : ru_L N par sm k (or_p lb x l) (or_p ua x (ua y)) := by
  intro j hj hjN
  by_cases ej : j = x
  · subst ej
    rw [or_ps, or_ps]
    obtain ⟨a, b, c, d, f⟩ := L j hj hjN
    have hyx : y < j := by rw [← e]; exact a
    rw [e] at b d f
    obtain ⟨a', b', c', d', f'⟩ := L y hy (by omega)
    refine ⟨by omega, ln_At b' b, ?_, ?_, ?_⟩
    · rw [hl]; split
      · exact ln_At c' b
      · exact c
    · rw [hl]; split
      · exact d'
      · omega
    · intro z hz hu
      by_cases hzy : y < z
      · have := f z hz hzy
        refine ⟨this.1, ?_⟩
        rw [hl]; split
        · omega
        · exact this.2
      · have := f' z (ln_Ad hz (by omega) (by omega)) hu
        refine ⟨this.1, ?_⟩
        rw [hl]; split
        · exact this.2
        · omega
  · rw [or_pn ej, or_pn ej]
    exact L j hj hjN
theorem ru_Lf (L : ru_L N par sm k lb ua) {p : Nat} (hp : k < p) (hN : p < N) (hu : ua p ≤ k) : ∀ z, ln_A par z p → k < z → sm (lb p) ≤ sm z :=
  fun z hz hk => ((L p hp hN).2.2.2.2 z hz (by omega)).2
/-- k linked -/
theorem ru_Ll (T : ln_T N e par) (L : ru_L N par sm (k + 1) lb ua) (hk : k + 1 < N) : ru_L N par sm k (or_p lb (k + 1) (k + 1)) (or_p ua (k + 1) (par (k + 1))) := by
  intro j hj hjN
  by_cases ej : j = k + 1
  · subst ej
    rw [or_ps, or_ps]
    have hp := T.1 (k + 1) (by omega) hk
    have hA : ∀ z, ln_A par z (k + 1) → par (k + 1) < z → z = k + 1 := by
      intro z hz hlt
      apply Classical.byContradiction
      intro hne
      have := hz.2 (k + 1) (by have := hz.1; omega) (Nat.le_refl _)
      omega
    refine ⟨hp.1, ?_, ln_Ar _, hp.1, ?_⟩
    · exact ln_pa T (gr_st gr_rf hp.2 (Nat.le_of_lt hp.1))
    · intro z hz hlt
      have := hA z hz hlt
      subst this
      exact ⟨by omega, Nat.le_refl _⟩
  · rw [or_pn ej, or_pn ej]
    obtain ⟨a, b, c, d, f⟩ := L j (by omega) hjN
    exact ⟨a, b, c, d, fun z hz hu => ⟨by have := (f z hz hu).1; omega, (f z hz hu).2⟩⟩
theorem ru_Vs (V : ln_V e par sm k) (h : ∀ z, k ≤ z → sm' z = sm z) : ln_V e par sm' k := by
  obtain ⟨h1, h2, h3⟩ := V
  rw [← h k (Nat.le_refl k)] at h1 h2 h3
  refine ⟨h1, fun p z a b c d => ?_, ?_⟩
  · rw [h z (by omega)]
    exact h2 p z a b c d
  · rcases h3 with h3 | ⟨p, z, a, b, c, d, f⟩
    · exact Or.inl h3
    · exact Or.inr ⟨p, z, a, b, c, d, by rw [h z (by omega)]; exact f⟩
def ru_a (N k : Nat) (lb ua : Nat → Nat) (a_label a_up : Nat → Int32) : Prop :=
  (∀ j, k < j → j < N → a_label j = nI (lb j) ∧ a_up j = nI (ua j)) ∧ (∀ j, j ≤ k → j < N → a_label j = nI j ∧ a_up j = -1)
def ru_c (ua : Nat → Nat) (p : Nat) : Nat → Nat
  | 0 => p
  | i + 1 => ua (ru_c ua p i)
theorem ru_cd {ck : Nat → Nat} {T : Nat} (h : ∀ i, i < T → ck (i + 1) < ck i) : ∀ d i, i + d + 1 ≤ T → ck (i + d + 1) < ck i := by
  intro d
  induction d with
  | zero => intro i hi; exact h i (by omega)
  | succ d ih =>
    intro i hi
    have h1 := ih i (by omega)
    have h2 := h (i + d + 1) (by omega)
    rw [show i + (d + 1) + 1 = i + d + 1 + 1 from by omega]
    omega
theorem ru_cl {ck : Nat → Nat} {T : Nat} (h : ∀ i, i < T → ck (i + 1) < ck i) {i i' : Nat} (h1 : i < i') (h2 : i' ≤ T) : ck i' < ck i := by
  have := ru_cd h (i' - i - 1) i (by omega)
  rw [show i + (i' - i - 1) + 1 = i' from by omega] at this
  exact this
end XD
section XE
variable {f_known f_seen f_many f_ordered f_isStraight f_entered f_todo f_length f_waiting f_tellings f_last f_stopped f_steps f_ran : Int32} {f_left : Int64} {a_acts a_actV a_actC a_ends a_endV a_endX a_endY a_numbers a_byNumber a_before a_forward a_backward a_orderOf a_at a_from a_semi a_label a_up a_found a_stack a_place a_chiefs a_tails a_edges a_rulers a_loops a_innermost a_outer a_deep a_alive a_values a_present a_code a_target a_pending a_pendingOf a_begins a_openAt a_vars a_told : Nat → Int32}
/-! X: least -/
theorem ru_48 {N k p : Nat} {par sm : Nat → Nat} (hN : N ≤ 17) (hp : k < p) (hpN : p < N) (hse : ∀ j, j < N → a_semi j = nI (sm j)) (hsm : ∀ j, j < N → sm j < 17) {ck : Nat → Nat} {post : Int32 → SX → Prop}
    (C : ∀ (lb ua : Nat → Nat) (la up : Nat → Int32), ru_L N par sm k lb ua → ru_a N k lb ua la up → ua p ≤ k → post (nI (lb p)) (f_known, f_seen, f_many, f_ordered, f_isStraight, f_entered, f_todo, f_length, f_waiting, f_tellings, f_last, f_stopped, f_steps, f_left, f_ran, a_acts, a_actV, a_actC, a_ends, a_endV, a_endX, a_endY, a_numbers, a_byNumber, a_before, a_forward, a_backward, a_orderOf, a_at, a_from, a_semi, la, up, a_found, a_stack, a_place, a_chiefs, a_tails, a_edges, a_rulers, a_loops, a_innermost, a_outer, a_deep, a_alive, a_values, a_present, a_code, a_target, a_pending, a_pendingOf, a_begins, a_openAt, a_vars, a_told)) :
    ∀ (n t : Nat) (lb ua : Nat → Nat) (la up : Nat → Int32), t < n → t ≤ 17 → ck 0 = p → (∀ i, i < t → ck (i + 1) < ck i) → (∀ i, i ≤ t → k < ck i ∧ ck i < N) → (∀ i, i < t → ua (ck i) = ck (i + 1)) → ua (ck t) ≤ k → (∀ i, i < t → a_stack i = nI (ck i)) →
      ru_L N par sm k lb ua → ru_a N k lb ua la up → (wX_least_48 post (nI p) f_known f_seen f_many f_ordered f_isStraight f_entered f_todo f_length f_waiting f_tellings f_last f_stopped f_steps f_left f_ran n (nI t) a_acts a_actV a_actC a_ends a_endV a_endX a_endY a_numbers a_byNumber a_before a_forward a_backward a_orderOf a_at a_from a_semi la up a_found a_stack a_place a_chiefs a_tails a_edges a_rulers a_loops a_innermost a_outer a_deep a_alive a_values a_present a_code a_target a_pending a_pendingOf a_begins a_openAt a_vars a_told) := by
  intro n
  induction n with
  | zero => intro t lb ua la up h; omega
  | succ n ih =>
    intro t lb ua la up hn ht hc0 hdec hck hua huk hst L A
    cases t with
    | zero =>
      rw [hc0] at huk
      refine br_t (by decide) (And.intro (xg_i7 (by omega)) ?_)
      rw [nI_clamp (by omega), (A.1 p hp hpN).1]
      exact C lb ua la up L A huk
    | succ t =>
      have hx := hck t (by omega)
      have hy := hck (t + 1) (by omega)
      have hux := hua t (by omega)
      have hAx := A.1 (ck t) hx.1 hx.2
      have hAy := A.1 (ck (t + 1)) hy.1 hy.2
      have hLx := ru_Lk L hx.1 hx.2
      have hLy := ru_Lk L hy.1 hy.2
      have huy := (L (ck (t + 1)) hy.1 hy.2).1
      have h40 : vp_in (nI t) 40 := vp_in_nI (by omega) (by omega)
      have eux : up (nI (ck t)).toNatClampNeg = nI (ck (t + 1)) := by rw [nI_clamp (by omega), hAx.2, hux]
      have ely : la (nI (ck (t + 1))).toNatClampNeg = nI (lb (ck (t + 1))) := by rw [nI_clamp (by omega), hAy.1]
      have elx : la (nI (ck t)).toNatClampNeg = nI (lb (ck t)) := by rw [nI_clamp (by omega), hAx.1]
      have euy : up (nI (ck (t + 1))).toNatClampNeg = nI (ua (ck (t + 1))) := by rw [nI_clamp (by omega), hAy.2]
      have i1 : vp_in (up (nI (ck t)).toNatClampNeg) 17 := by rw [eux]; exact xg_i7 (by omega)
      have i2 : vp_in (la (up (nI (ck t)).toNatClampNeg).toNatClampNeg) 17 := by rw [eux, ely]; exact xg_i7 (by omega)
      have i3 : vp_in (la (nI (ck t)).toNatClampNeg) 17 := by rw [elx]; exact xg_i7 (by omega)
      have ix : vp_in (nI (ck t)) 17 := xg_i7 (by omega)
      have es1 : a_semi (la (nI (ck t)).toNatClampNeg).toNatClampNeg = nI (sm (lb (ck t))) := by rw [elx, nI_clamp (by omega), hse _ (by omega)]
      have es2 : a_semi (la (up (nI (ck t)).toNatClampNeg).toNatClampNeg).toNatClampNeg = nI (sm (lb (ck (t + 1)))) := by rw [eux, ely, nI_clamp (by omega), hse _ (by omega)]
      have hs1 := hsm (lb (ck t)) (by omega)
      have hs2 := hsm (lb (ck (t + 1))) (by omega)
      have eup : ∀ la' : Nat → Int32, upd up (nI (ck t)).toNatClampNeg (vp_nar .byte (up (up (nI (ck t)).toNatClampNeg).toNatClampNeg)) = upd up (ck t) (nI (ua (ck (t + 1)))) := by
        intro _
        rw [eux, euy, bs_vb (by omega), xg_u (by omega)]
      have fin : ∀ (l : Nat) (la' : Nat → Int32), l = (if sm (lb (ck (t + 1))) < sm (lb (ck t)) then lb (ck (t + 1)) else lb (ck t)) → la' (ck t) = nI l → (∀ j, j ≠ ck t → la' j = la j) →
          (wX_least_48 post (nI p) f_known f_seen f_many f_ordered f_isStraight f_entered f_todo f_length f_waiting f_tellings f_last f_stopped f_steps f_left f_ran n (nI t) a_acts a_actV a_actC a_ends a_endV a_endX a_endY a_numbers a_byNumber a_before a_forward a_backward a_orderOf a_at a_from a_semi la' (upd up (ck t) (nI (ua (ck (t + 1))))) a_found a_stack a_place a_chiefs a_tails a_edges a_rulers a_loops a_innermost a_outer a_deep a_alive a_values a_present a_code a_target a_pending a_pendingOf a_begins a_openAt a_vars a_told) := by
        intro l la' hl hlx hlo
        have L' := ru_L1 L hx.1 hx.2 hy.1 hux hl
        refine ih t (or_p lb (ck t) l) (or_p ua (ck t) (ua (ck (t + 1)))) la' _ (by omega) (by omega) hc0 (fun i hi => hdec i (by omega)) (fun i hi => hck i (by omega)) ?_ ?_ (fun i hi => hst i (by omega)) L' ⟨?_, ?_⟩
        · intro i hi
          have : ck t < ck i := ru_cl hdec hi (by omega)
          rw [or_pn (by omega)]
          exact hua i (by omega)
        · rw [or_ps]; exact huk
        · intro j hj hjN
          by_cases ej : j = ck t
          · subst ej; rw [or_ps, or_ps, pk_us, hlx]; exact ⟨rfl, rfl⟩
          · rw [or_pn ej, or_pn ej, pk_un ej, hlo j ej]; exact A.1 j hj hjN
        · intro j hj hjN
          have ej : j ≠ ck t := by omega
          rw [pk_un ej, hlo j ej]
          exact A.2 j hj hjN
      refine br_f (nI_nle (by omega) (by omega)) (nm_r (pk_m1 t) (And.intro h40 (nm_r (e' := nI (ck t)) (by rw [nI_clamp (by omega)]; exact hst t (by omega)) (And.intro ix (And.intro i1 (And.intro i2 (And.intro ix (And.intro i3 ?_))))))))
      by_cases hlt : sm (lb (ck (t + 1))) < sm (lb (ck t))
      · refine br_f (by rw [es1, es2]; exact nI_ge hlt (by omega)) (And.intro ix (And.intro i1 (And.intro ix (nm_r (e' := upd la (ck t) (nI (lb (ck (t + 1))))) (by rw [eux, ely, bs_vb (by omega), xg_u (by omega)]) ?_))))
        refine And.intro ix (And.intro i1 (And.intro ix (nm_r (eup la) ?_)))
        exact fin (lb (ck (t + 1))) _ (by rw [if_pos hlt]) pk_us (fun j hj => pk_un hj)
      · refine br_t (by rw [es1, es2]; exact nI_le (by omega) (by omega)) ?_
        refine And.intro ix (And.intro i1 (And.intro ix (nm_r (eup la) ?_)))
        exact fin (lb (ck t)) la (by rw [if_neg hlt]) hAx.1 (fun j hj => rfl)
theorem ru_4 {N k p : Nat} {par sm lb ua : Nat → Nat} (hN : N ≤ 17) (hp : k < p) (hpN : p < N) (hse : ∀ j, j < N → a_semi j = nI (sm j)) (hsm : ∀ j, j < N → sm j < 17) {post : Int32 → SX → Prop}
    (L : ru_L N par sm k lb ua) (A : ru_a N k lb ua a_label a_up)
    (C : ∀ (lb ua : Nat → Nat) (la up st : Nat → Int32), ru_L N par sm k lb ua → ru_a N k lb ua la up → ua p ≤ k → post (nI (lb p)) (f_known, f_seen, f_many, f_ordered, f_isStraight, f_entered, f_todo, f_length, f_waiting, f_tellings, f_last, f_stopped, f_steps, f_left, f_ran, a_acts, a_actV, a_actC, a_ends, a_endV, a_endX, a_endY, a_numbers, a_byNumber, a_before, a_forward, a_backward, a_orderOf, a_at, a_from, a_semi, la, up, a_found, st, a_place, a_chiefs, a_tails, a_edges, a_rulers, a_loops, a_innermost, a_outer, a_deep, a_alive, a_values, a_present, a_code, a_target, a_pending, a_pendingOf, a_begins, a_openAt, a_vars, a_told)) :
    ∀ (n t : Nat) (st : Nat → Int32), ru_c ua p t < n → (∀ i, i < t → ru_c ua p (i + 1) < ru_c ua p i) → (∀ i, i ≤ t → k < ru_c ua p i ∧ ru_c ua p i < N ∧ ru_c ua p i + i ≤ p) → (∀ i, i < t → st i = nI (ru_c ua p i)) →
      (wX_least_4 post (nI p) f_known f_seen f_many f_ordered f_isStraight f_entered f_todo f_length f_waiting f_tellings f_last f_stopped f_steps f_left f_ran n (nI t) (nI (ru_c ua p t)) a_acts a_actV a_actC a_ends a_endV a_endX a_endY a_numbers a_byNumber a_before a_forward a_backward a_orderOf a_at a_from a_semi a_label a_up a_found st a_place a_chiefs a_tails a_edges a_rulers a_loops a_innermost a_outer a_deep a_alive a_values a_present a_code a_target a_pending a_pendingOf a_begins a_openAt a_vars a_told) := by
  intro n
  induction n with
  | zero => intro t st h; omega
  | succ n ih =>
    intro t st hn hdec hck hst
    have hw := hck t (Nat.le_refl t)
    have hA := A.1 _ hw.1 hw.2.1
    have hL := (L _ hw.1 hw.2.1).1
    have eu : a_up (nI (ru_c ua p t)).toNatClampNeg = nI (ua (ru_c ua p t)) := by rw [nI_clamp (by omega), hA.2]
    have ix : vp_in (nI (ru_c ua p t)) 17 := xg_i7 (by omega)
    refine And.intro ix (br_f (by rw [eu]; exact nI_pos (by omega)) (And.intro ix (And.intro (by rw [eu]; exact xg_i7 (by omega)) ?_)))
    by_cases hu : ua (ru_c ua p t) ≤ k
    · refine br_t (by rw [eu, nI_clamp (by omega), (A.2 _ hu (by omega)).2]; exact bs_n1) ⟨t + 1, ?_⟩
      exact ru_48 (a_stack := st) hN hp hpN hse hsm (ck := ru_c ua p) (fun lb' ua' la' up' h1 h2 h3 => C lb' ua' la' up' st h1 h2 h3) (t + 1) t lb ua a_label a_up (by omega) (by omega) rfl hdec (fun i hi => ⟨(hck i hi).1, (hck i hi).2.1⟩) (fun i _ => rfl) hu hst L A
    · have hA2 := A.1 (ua (ru_c ua p t)) (by omega) (by omega)
      have hL2 := (L (ua (ru_c ua p t)) (by omega) (by omega)).1
      refine br_f (by rw [eu, nI_clamp (by omega), hA2.2]; exact nI_pos (by omega)) (nm_r (nI_1 t) (And.intro (vp_in_nI (by omega) (by omega)) (nm_r (e' := upd st t (nI (ru_c ua p t))) (by rw [bs_vbb (by omega), xg_u (by omega)]) (And.intro ix (nm_r eu ?_)))))
      refine ih (t + 1) _ (by show ua (ru_c ua p t) < n; omega) ?_ ?_ ?_
      · intro i hi
        by_cases ei : i = t
        · subst ei; exact hL
        · exact hdec i (by omega)
      · intro i hi
        by_cases ei : i = t + 1
        · subst ei
          show k < ua (ru_c ua p t) ∧ ua (ru_c ua p t) < N ∧ ua (ru_c ua p t) + (t + 1) ≤ p
          omega
        · exact hck i (by omega)
      · intro i hi
        by_cases ei : i = t
        · subst ei; exact pk_us
        · exact (pk_un ei).trans (hst i (by omega))
theorem ru_le {N k p : Nat} {par sm lb ua : Nat → Nat} (hN : N ≤ 17) (hp : k < p) (hpN : p < N) (hse : ∀ j, j < N → a_semi j = nI (sm j)) (hsm : ∀ j, j < N → sm j < 17) {post : Int32 → SX → Prop}
    (L : ru_L N par sm k lb ua) (A : ru_a N k lb ua a_label a_up)
    (C : ∀ (lb ua : Nat → Nat) (la up st : Nat → Int32), ru_L N par sm k lb ua → ru_a N k lb ua la up → ua p ≤ k → post (nI (lb p)) (f_known, f_seen, f_many, f_ordered, f_isStraight, f_entered, f_todo, f_length, f_waiting, f_tellings, f_last, f_stopped, f_steps, f_left, f_ran, a_acts, a_actV, a_actC, a_ends, a_endV, a_endX, a_endY, a_numbers, a_byNumber, a_before, a_forward, a_backward, a_orderOf, a_at, a_from, a_semi, la, up, a_found, st, a_place, a_chiefs, a_tails, a_edges, a_rulers, a_loops, a_innermost, a_outer, a_deep, a_alive, a_values, a_present, a_code, a_target, a_pending, a_pendingOf, a_begins, a_openAt, a_vars, a_told)) : (wpX_least post (f_known, f_seen, f_many, f_ordered, f_isStraight, f_entered, f_todo, f_length, f_waiting, f_tellings, f_last, f_stopped, f_steps, f_left, f_ran, a_acts, a_actV, a_actC, a_ends, a_endV, a_endX, a_endY, a_numbers, a_byNumber, a_before, a_forward, a_backward, a_orderOf, a_at, a_from, a_semi, a_label, a_up, a_found, a_stack, a_place, a_chiefs, a_tails, a_edges, a_rulers, a_loops, a_innermost, a_outer, a_deep, a_alive, a_values, a_present, a_code, a_target, a_pending, a_pendingOf, a_begins, a_openAt, a_vars, a_told) (nI p)) :=
  ⟨p + 1, ru_4 hN hp hpN hse hsm L A C (p + 1) 0 a_stack (by show p < p + 1; omega) (fun i hi => by omega) (fun i hi => by
    have : i = 0 := by omega
    subst this
    exact ⟨hp, hpN, Nat.le_refl _⟩) (fun i hi => by omega)⟩
end XE
end
section
section XF
variable {f_known f_seen f_many f_ordered f_isStraight f_entered f_todo f_length f_waiting f_tellings f_last f_stopped f_steps f_ran : Int32} {f_left : Int64} {a_acts a_actV a_actC a_ends a_endV a_endX a_endY a_numbers a_byNumber a_before a_forward a_backward a_orderOf a_at a_from a_semi a_label a_up a_found a_stack a_place a_chiefs a_tails a_edges a_rulers a_loops a_innermost a_outer a_deep a_alive a_values a_present a_code a_target a_pending a_pendingOf a_begins a_openAt a_vars a_told : Nat → Int32}
/-! X: rule -/
def ru_w (e : Nat → Nat → Prop) (fr sm : Nat → Nat) (k cu : Nat) : Prop := (∃ p, e p k ∧ p < k ∧ cu = p) ∨ (∃ p z, e p k ∧ k < p ∧ k < z ∧ ln_A fr z p ∧ cu = sm z)
def ru_b (e : Nat → Nat → Prop) (at' fr sm : Nat → Nat) (N k cu j : Nat) : Prop := ∀ p, p < N → at' p < j → e p k → (p < k → cu ≤ p) ∧ (k < p → ∀ z, k < z → ln_A fr z p → cu ≤ sm z)
theorem ru_67 {N k root : Nat} {at' fr sm lb0 ua0 : Nat → Nat} {fw : Nat → Int32} (F : or_F fw a_orderOf N at' fr root) (hA : or_Ar a_at a_from N at' fr) (hk : k + 1 < N)
    (hB : ∀ n m, n < 17 → m < 17 → bt (a_backward m) n = bt (fw n) m) (hBW : ∀ m, m < 17 → ∀ n, bt (a_backward m) n = true → n < 17)
    (hsk : ∀ j, j ≤ k + 1 → sm j = j) (hsl : ∀ j, j < N → sm j ≤ j) (hse : ∀ j, j < N → a_semi j = nI (sm j)) (L0 : ru_L N fr sm (k + 1) lb0 ua0) (A0 : ru_a N (k + 1) lb0 ua0 a_label a_up)
    {post : SX → Prop} {J : Int32 → Int32 → Int32 → Int32 → Int32 → Int32 → Int32 → Int32 → Int32 → Int32 → Int32 → Int32 → Int32 → Int32 → Int64 → Int32 → (Nat → Int32) → (Nat → Int32) → (Nat → Int32) → (Nat → Int32) → (Nat → Int32) → (Nat → Int32) → (Nat → Int32) → (Nat → Int32) → (Nat → Int32) → (Nat → Int32) → (Nat → Int32) → (Nat → Int32) → (Nat → Int32) → (Nat → Int32) → (Nat → Int32) → (Nat → Int32) → (Nat → Int32) → (Nat → Int32) → (Nat → Int32) → (Nat → Int32) → (Nat → Int32) → (Nat → Int32) → (Nat → Int32) → (Nat → Int32) → (Nat → Int32) → (Nat → Int32) → (Nat → Int32) → (Nat → Int32) → (Nat → Int32) → (Nat → Int32) → (Nat → Int32) → (Nat → Int32) → (Nat → Int32) → (Nat → Int32) → (Nat → Int32) → (Nat → Int32) → (Nat → Int32) → (Nat → Int32) → (Nat → Int32) → (Nat → Int32) → Prop}
    (C : ∀ (cu : Nat) (lb ua : Nat → Nat) (se la up st : Nat → Int32), cu ≤ k + 1 → (∀ j, j < N → se j = nI (or_p sm (k + 1) cu j)) → ru_L N fr sm (k + 1) lb ua → ru_a N (k + 1) lb ua la up → (cu = k + 1 ∨ ru_w (or_e fw N at') fr sm (k + 1) cu) → ru_b (or_e fw N at') at' fr sm N (k + 1) cu 17 →
      (J (nI k) f_known f_seen f_many f_ordered f_isStraight f_entered f_todo f_length f_waiting f_tellings f_last f_stopped f_steps f_left f_ran a_acts a_actV a_actC a_ends a_endV a_endX a_endY a_numbers a_byNumber a_before a_forward a_backward a_orderOf a_at a_from se la (upd up (k + 1) (nI (fr (k + 1)))) a_found st a_place a_chiefs a_tails a_edges a_rulers a_loops a_innermost a_outer a_deep a_alive a_values a_present a_code a_target a_pending a_pendingOf a_begins a_openAt a_vars a_told)) :
    ∃ n : Nat, (wX_rule_67 post J (nI (k + 1)) n (a_backward (at' (k + 1))) f_known f_seen f_many f_ordered f_isStraight f_entered f_todo f_length f_waiting f_tellings f_last f_stopped f_steps f_left f_ran a_acts a_actV a_actC a_ends a_endV a_endX a_endY a_numbers a_byNumber a_before a_forward a_backward a_orderOf a_at a_from a_semi a_label a_up a_found a_stack a_place a_chiefs a_tails a_edges a_rulers a_loops a_innermost a_outer a_deep a_alive a_values a_present a_code a_target a_pending a_pendingOf a_begins a_openAt a_vars a_told) := by
  refine ⟨18, ?_⟩
  have hN := or_N F.1
  have hak := (F.1.2.1 (k + 1) hk).1
  refine bs_lp (σ := (Nat → Int32) × (Nat → Int32) × (Nat → Int32) × (Nat → Int32)) (fun n s t => (wX_rule_67 post J (nI (k + 1)) n s f_known f_seen f_many f_ordered f_isStraight f_entered f_todo f_length f_waiting f_tellings f_last f_stopped f_steps f_left f_ran a_acts a_actV a_actC a_ends a_endV a_endX a_endY a_numbers a_byNumber a_before a_forward a_backward a_orderOf a_at a_from t.1 t.2.1 t.2.2.1 a_found t.2.2.2 a_place a_chiefs a_tails a_edges a_rulers a_loops a_innermost a_outer a_deep a_alive a_values a_present a_code a_target a_pending a_pendingOf a_begins a_openAt a_vars a_told)) (a_backward (at' (k + 1))) 17
    (fun i hi => ts_nt (fun h => by have := hBW _ hak i h; omega))
    (fun j t => ∃ cu lb ua, cu ≤ k + 1 ∧ (∀ j, j < N → t.1 j = nI (or_p sm (k + 1) cu j)) ∧ ru_L N fr sm (k + 1) lb ua ∧ ru_a N (k + 1) lb ua t.2.1 t.2.2.1 ∧ (cu = k + 1 ∨ ru_w (or_e fw N at') fr sm (k + 1) cu) ∧ ru_b (or_e fw N at') at' fr sm N (k + 1) cu j)
    ?_ ?_ ?_ (a_semi, a_label, a_up, a_stack) ⟨k + 1, lb0, ua0, Nat.le_refl _, ?_, L0, A0, Or.inl rfl, fun p _ hp => by omega⟩ 18 (by omega)
  · intro n t ht
    obtain ⟨cu, lb, ua, h1, h2, h3, h4, h5, h6⟩ := ht
    have hf := (F.1.2.2.2.1 (k + 1) (by omega) hk).1
    refine br_t rfl (And.intro (xg_i7 (by omega)) (And.intro (xg_i7 (by omega)) (nm_r (e' := upd t.2.2.1 (k + 1) (nI (fr (k + 1)))) (by rw [nI_clamp (by omega), hA.2 (k + 1) (by omega) hk, bs_vb (by omega)]) (nm_r (pk_m1 k) ?_))))
    exact C cu lb ua t.1 t.2.1 t.2.2.1 t.2.2.2 h1 h2 h3 h4 h5 h6
  · intro i t hi hbi ht
    obtain ⟨cu, lb, ua, h1, h2, h3, h4, h5, h6⟩ := ht
    refine ⟨cu, lb, ua, h1, h2, h3, h4, h5, ?_⟩
    intro p hp hpi he
    by_cases ep : at' p = i
    · exfalso
      have hb := hB i (at' (k + 1)) hi hak
      rw [hbi, ← ep, he.2.2] at hb
      cases hb
    · exact h6 p hp (by omega) he
  · intro n s i t hi hbi hs hsi hsm ht ih
    obtain ⟨cu, lb, ua, h1, h2, h3, h4, h5, h6⟩ := ht
    refine br_f hs (bs_lw hsi hsm (And.intro (xg_i7 hi) ?_))
    rcases or_nd F.1 hi with ho | ⟨p, hp, ep, ho⟩
    · refine nm_r (e' := -1) (by rw [nI_clamp (by omega), ho]) (br_f bs_n1' (nm_e (ih t ⟨cu, lb, ua, h1, h2, h3, h4, h5, ?_⟩)))
      intro p hp hpi he
      by_cases ep : at' p = i
      · exfalso
        have := (F.1.2.1 p hp).2
        rw [ep, ho] at this
        exact bs_ne' (by omega) this
      · exact h6 p hp (by omega) he
    · have hpk : or_e fw N at' p (k + 1) := ⟨hp, hk, by rw [ep, ← hB i _ hi hak]; exact hbi⟩
      have hsek : t.1 (nI (k + 1)).toNatClampNeg = nI cu := by rw [nI_clamp (by omega), h2 _ hk, or_ps]
      have ik : vp_in (nI (k + 1)) 17 := xg_i7 (by omega)
      -- one more looked at, with a new least
      have nx : ∀ (c : Nat), c ≤ cu → (p < k + 1 → c ≤ p) → (k + 1 < p → ∀ z, k + 1 < z → ln_A fr z p → c ≤ sm z) → ru_b (or_e fw N at') at' fr sm N (k + 1) c (i + 1) := by
        intro c hc hc1 hc2 q hq hqi he
        by_cases eq : at' q = i
        · have : q = p := or_inj F.1 hq hp (by rw [eq, ep])
          subst this
          exact ⟨hc1, hc2⟩
        · have := h6 q hq (by omega) he
          exact ⟨fun h => Nat.le_trans hc (this.1 h), fun h z hz hA => Nat.le_trans hc (this.2 h z hz hA)⟩
      have nxs : ∀ (c : Nat) (se : Nat → Int32), (∀ j, j < N → se j = nI (or_p sm (k + 1) cu j)) → (∀ j, j < N → upd se (nI (k + 1)).toNatClampNeg (nI c) j = nI (or_p sm (k + 1) c j)) := by
        intro c se hse j hj
        rw [xg_u (by omega)]
        by_cases ej : j = k + 1
        · subst ej; rw [pk_us, or_ps]
        · rw [pk_un ej, or_pn ej, hse j hj, or_pn ej]
      refine nm_r (e' := nI p) (by rw [nI_clamp (by omega), ho]) (br_t (nI_pos' (by omega)) ?_)
      by_cases hle : p ≤ k + 1
      · refine br_t (nI_le hle (by omega)) (And.intro (xg_i7 (by omega)) (And.intro ik ?_))
        have hsp : t.1 (nI p).toNatClampNeg = nI (or_p sm (k + 1) cu p) := by rw [nI_clamp (by omega), h2 p hp]
        by_cases hpe : p = k + 1
        · refine br_t (by rw [hsp, hsek, hpe, or_ps]; exact nI_le (Nat.le_refl _) (by omega)) (nm_e (ih t ⟨cu, lb, ua, h1, h2, h3, h4, h5, nx cu (Nat.le_refl _) (fun h => by omega) (fun h => by omega)⟩))
        · rw [or_pn hpe, hsk p hle] at hsp
          by_cases hcp : cu ≤ p
          · exact br_t (by rw [hsp, hsek]; exact nI_le hcp (by omega)) (nm_e (ih t ⟨cu, lb, ua, h1, h2, h3, h4, h5, nx cu (Nat.le_refl _) (fun _ => hcp) (fun h => by omega)⟩))
          · refine br_f (by rw [hsp, hsek]; exact nI_ge (by omega) (by omega)) (And.intro (xg_i7 (by omega)) (And.intro ik (nm_r (e' := upd t.1 (nI (k + 1)).toNatClampNeg (nI p)) (by rw [hsp, bs_vb (by omega)]) (nm_e ?_))))
            refine ih (_, t.2.1, t.2.2.1, t.2.2.2) ⟨p, lb, ua, by omega, nxs p t.1 h2, h3, h4, Or.inr (Or.inl ⟨p, hpk, by omega, rfl⟩), nx p (by omega) (fun _ => Nat.le_refl _) (fun h => by omega)⟩
      · have hlt : k + 1 < p := by omega
        refine br_f (nI_ge hlt (by omega)) ?_
        have hsm' : ∀ z, k + 1 < z → or_p sm (k + 1) cu z = sm z := fun z hz => or_pn (by omega)
        have hs17 : ∀ j, j < N → or_p sm (k + 1) cu j < 17 := by
          intro j hj
          by_cases ej : j = k + 1
          · subst ej; rw [or_ps]; omega
          · rw [or_pn ej]; have := hsl j hj; omega
        refine ru_le (sm := or_p sm (k + 1) cu) hN hlt hp h2 hs17 (ru_Ls h3 hsm') h4 ?_
        intro lb' ua' la' up' st' L' A' hu'
        have hk' := ru_Lk L' hlt hp
        have L'' : ru_L N fr sm (k + 1) lb' ua' := ru_Ls L' (fun z hz => (hsm' z hz).symm)
        have hmin := ru_Lf L'' hlt hp hu'
        have hAl := (L'' p hlt hp).2.2.1
        have hsl' := hsl (lb' p) (by omega)
        have hsp : t.1 (nI (lb' p)).toNatClampNeg = nI (sm (lb' p)) := by rw [nI_clamp (by omega), h2 _ (by omega), hsm' _ hk'.1]
        refine And.intro (xg_i7 (by omega)) (And.intro ik ?_)
        by_cases hcp : cu ≤ sm (lb' p)
        · exact br_t (by rw [hsp, hsek]; exact nI_le hcp (by omega)) (nm_e (ih (t.1, la', up', st') ⟨cu, lb', ua', h1, h2, L'', A', h5, nx cu (Nat.le_refl _) (fun h => by omega) (fun _ z hz hA => Nat.le_trans hcp (hmin z hA hz))⟩))
        · refine br_f (by rw [hsp, hsek]; exact nI_ge (by omega) (by omega)) (And.intro (xg_i7 (by omega)) (And.intro ik (nm_r (e' := upd t.1 (nI (k + 1)).toNatClampNeg (nI (sm (lb' p)))) (by rw [hsp, bs_vb (by omega)]) (nm_e ?_))))
          refine ih (_, la', up', st') ⟨sm (lb' p), lb', ua', by omega, nxs _ t.1 h2, L'', A', Or.inr (Or.inr ⟨p, lb' p, hpk, hlt, hk'.1, hAl, rfl⟩), nx _ (by omega) (fun h => by omega) (fun _ z hz hA => hmin z hA hz)⟩
  · intro j hj
    show a_semi j = _
    rw [hse j hj]
    by_cases ej : j = k + 1
    · subst ej; rw [or_ps, hsk _ (Nat.le_refl _)]
    · rw [or_pn ej]
def ru_M (e : Nat → Nat → Prop) (N : Nat) (fr : Nat → Nat) (k : Nat) (se la up : Nat → Int32) : Prop :=
  ∃ sm lb ua : Nat → Nat, (∀ j, j ≤ k → sm j = j) ∧ (∀ j, j < N → sm j ≤ j) ∧ (∀ j, k < j → j < N → ln_V e fr sm j) ∧ (∀ j, j < N → se j = nI (sm j)) ∧ ru_L N fr sm k lb ua ∧ ru_a N k lb ua la up
theorem ru_51 {N root : Nat} {at' fr : Nat → Nat} {fw : Nat → Int32} (F : or_F fw a_orderOf N at' fr root) (hA : or_Ar a_at a_from N at' fr)
    (hB : ∀ n m, n < 17 → m < 17 → bt (a_backward m) n = bt (fw n) m) (hBW : ∀ m, m < 17 → ∀ n, bt (a_backward m) n = true → n < 17) {post : SX → Prop}
    (C : ∀ (se la up st : Nat → Int32) (sm : Nat → Nat), (∀ j, 0 < j → j < N → ln_V (or_e fw N at') fr sm j) → (∀ j, j < N → se j = nI (sm j)) → (∀ j, j < N → sm j ≤ j) → ∃ n174 : Nat, (wX_rule_174 post f_known f_seen f_many f_ordered f_isStraight f_entered f_todo f_length f_waiting f_tellings f_last f_stopped f_steps f_left f_ran n174 1 a_acts a_actV a_actC a_ends a_endV a_endX a_endY a_numbers a_byNumber a_before a_forward a_backward a_orderOf a_at a_from se la up (upd a_found 0 (-1)) st a_place a_chiefs a_tails a_edges a_rulers a_loops a_innermost a_outer a_deep a_alive a_values a_present a_code a_target a_pending a_pendingOf a_begins a_openAt a_vars a_told)) :
    ∀ (n k : Nat) (se la up st : Nat → Int32), k < n → k < N → ru_M (or_e fw N at') N fr k se la up → (wX_rule_51 post n (nI k) f_known f_seen f_many f_ordered f_isStraight f_entered f_todo f_length f_waiting f_tellings f_last f_stopped f_steps f_left f_ran a_acts a_actV a_actC a_ends a_endV a_endX a_endY a_numbers a_byNumber a_before a_forward a_backward a_orderOf a_at a_from se la up a_found st a_place a_chiefs a_tails a_edges a_rulers a_loops a_innermost a_outer a_deep a_alive a_values a_present a_code a_target a_pending a_pendingOf a_begins a_openAt a_vars a_told) := by
  have T := or_T F
  have hN := or_N F.1
  intro n
  induction n with
  | zero => intro k se la up st h; omega
  | succ n ih =>
    intro k se la up st hk hkN M
    obtain ⟨sm, lb, ua, m1, m2, m3, m4, m5, m6⟩ := M
    cases k with
    | zero => exact br_t (by decide) (nm_r (e' := upd a_found 0 (-1)) (by rw [bs_vm]) (C se la up st sm (fun j h0 h1 => m3 j h0 h1) m4 m2))
    | succ k =>
      have hat := hA.1 (k + 1) hkN
      have hak := (F.1.2.1 (k + 1) hkN).1
      refine br_f (nI_nle (by omega) (by omega)) (And.intro (xg_i7 (by omega)) (And.intro (by rw [nI_clamp (by omega), hat]; exact xg_i7 hak) (nm_r (e' := a_backward (at' (k + 1))) (by rw [nI_clamp (by omega), hat, nI_clamp (by omega)]) ?_)))
      refine ru_67 F hA hkN hB hBW m1 m2 m4 m5 m6 ?_
      intro cu lb' ua' se' la' up' st' c1 c2 c3 c4 c5 c6
      have hp := T.1 (k + 1) (by omega) hkN
      have hcp : cu ≤ fr (k + 1) := (c6 (fr (k + 1)) hp.2.1 (F.1.2.1 _ hp.2.1).1 hp.2).1 hp.1
      refine ih k se' la' _ st' (by omega) (by omega) ⟨or_p sm (k + 1) cu, or_p lb' (k + 1) (k + 1), or_p ua' (k + 1) (fr (k + 1)), ?_, ?_, ?_, c2, ?_, ?_, ?_⟩
      · intro j hj
        rw [or_pn (by omega)]
        exact m1 j (by omega)
      · intro j hj
        by_cases ej : j = k + 1
        · subst ej; rw [or_ps]; exact c1
        · rw [or_pn ej]; exact m2 j hj
      · intro j hj hjN
        by_cases ej : j = k + 1
        · subst ej
          refine ⟨?_, ?_, ?_⟩
          · intro p he hlt
            rw [or_ps]
            exact (c6 p he.1 (F.1.2.1 p he.1).1 he).1 hlt
          · intro p z he hlt hz hAz
            rw [or_ps, or_pn (by omega)]
            exact (c6 p he.1 (F.1.2.1 p he.1).1 he).2 hlt z hz hAz
          · rw [or_ps]
            rcases c5 with c5 | c5
            · omega
            · rcases c5 with c5 | ⟨p, z, a, b, c, d, f⟩
              · exact Or.inl c5
              · exact Or.inr ⟨p, z, a, b, c, d, by rw [or_pn (by omega)]; exact f⟩
        · exact ru_Vs (m3 j (by omega) hjN) (fun z hz => or_pn (by omega))
      · exact ru_Ll T (ru_Ls c3 (fun z hz => or_pn (by omega))) hkN
      · intro j hj hjN
        by_cases ej : j = k + 1
        · subst ej
          rw [or_ps, or_ps, pk_us]
          exact ⟨(c4.2 (k + 1) (Nat.le_refl _) hkN).1, rfl⟩
        · rw [or_pn ej, or_pn ej, pk_un ej]
          exact c4.1 j (by omega) hjN
      · intro j hj hjN
        rw [pk_un (by omega)]
        exact c4.2 j (by omega) hjN
/-- the chiefs: up from the one come from -/
theorem ru_189 {N k : Nat} {fr sm fd : Nat → Nat} {e : Nat → Nat → Prop} (T : ln_T N e fr) (V : ∀ j, 0 < j → j < N → ln_V e fr sm j) (hN : N ≤ 17) (hk : k < N) (h0 : 0 < k) (hse : ∀ j, j < N → a_semi j = nI (sm j)) (hsl : ∀ j, j < N → sm j ≤ j)
    (hf : ∀ j, 0 < j → j < k → a_found j = nI (fd j) ∧ fd j < j ∧ dm_I e 0 (fd j) j) {post : SX → Prop} {J : Int32 → (Nat → Int32) → (Nat → Int32) → (Nat → Int32) → (Nat → Int32) → (Nat → Int32) → (Nat → Int32) → (Nat → Int32) → (Nat → Int32) → (Nat → Int32) → (Nat → Int32) → (Nat → Int32) → (Nat → Int32) → (Nat → Int32) → (Nat → Int32) → (Nat → Int32) → (Nat → Int32) → (Nat → Int32) → (Nat → Int32) → (Nat → Int32) → (Nat → Int32) → (Nat → Int32) → (Nat → Int32) → (Nat → Int32) → (Nat → Int32) → (Nat → Int32) → (Nat → Int32) → (Nat → Int32) → (Nat → Int32) → (Nat → Int32) → (Nat → Int32) → (Nat → Int32) → (Nat → Int32) → (Nat → Int32) → (Nat → Int32) → (Nat → Int32) → (Nat → Int32) → (Nat → Int32) → (Nat → Int32) → (Nat → Int32) → (Nat → Int32) → Prop}
    (C : ∀ d, d < k → dm_I e 0 d k → (J (nI (k + 1)) a_acts a_actV a_actC a_ends a_endV a_endX a_endY a_numbers a_byNumber a_before a_forward a_backward a_orderOf a_at a_from a_semi a_label a_up (upd a_found k (nI d)) a_stack a_place a_chiefs a_tails a_edges a_rulers a_loops a_innermost a_outer a_deep a_alive a_values a_present a_code a_target a_pending a_pendingOf a_begins a_openAt a_vars a_told)) :
    ∀ (n d : Nat), d < n → d < k → dm_D e 0 d (fr k) → (∀ d', dm_D e 0 d' (fr k) → d' ≤ sm k → dm_D e 0 d' d) → (wX_rule_189 post J (nI k) f_known f_seen f_many f_ordered f_isStraight f_entered f_todo f_length f_waiting f_tellings f_last f_stopped f_steps f_left f_ran a_acts a_actV a_actC a_ends a_endV a_endX a_endY a_numbers a_byNumber a_before a_forward a_backward a_orderOf a_at a_from a_semi a_label a_up a_found a_stack a_place a_chiefs a_tails a_edges a_rulers a_loops a_innermost a_outer a_deep a_alive a_values a_present a_code a_target a_pending a_pendingOf a_begins a_openAt a_vars a_told n (nI d)) := by
  intro n
  induction n with
  | zero => intro d h; omega
  | succ n ih =>
    intro d hn hd hD hm
    have hs : a_semi (nI k).toNatClampNeg = nI (sm k) := by rw [nI_clamp (by omega), hse k hk]
    have hsk := hsl k hk
    refine And.intro (xg_i7 (by omega)) ?_
    by_cases hle : d ≤ sm k
    · refine br_t (by rw [hs]; exact nI_le hle (by omega)) (And.intro (xg_i7 (by omega)) (nm_r (e' := upd a_found k (nI d)) (by rw [bs_vbb (by omega), xg_u (by omega)]) (nm_r (nI_1 k) (C d hd (ln_id T V h0 hk hD hle hm)))))
    · have hfd := hf d (by omega) hd
      refine br_f (by rw [hs]; exact nI_ge (by omega) (by omega)) (And.intro (xg_i7 (by omega)) (nm_r (e' := nI (fd d)) (by rw [nI_clamp (by omega), hfd.1]) ?_))
      refine ih (fd d) (by omega) (by omega) (dm_tr hfd.2.2.2.1 hD) ?_
      intro d' h1 h2
      exact hfd.2.2.2.2 d' (by omega) (hm d' h1 h2)
/-- what rule finds -/
def ru_R (fw : Nat → Int32) (root N : Nat) (at' fd : Nat → Nat) (a_at a_found : Nat → Int32) : Prop :=
  N ≤ 17 ∧ 0 < N ∧ at' 0 = root ∧ (∀ k, k < N → at' k < 17 ∧ a_at k = nI (at' k)) ∧ (∀ a b, a < N → b < N → at' a = at' b → a = b) ∧ (∀ m, dm_R (or_E fw) root m ↔ ∃ v, v < N ∧ at' v = m) ∧
  (∀ k, 0 < k → k < N → fd k < k ∧ a_found k = nI (fd k) ∧ dm_I (or_E fw) root (at' (fd k)) (at' k))
theorem ru_r {root : Nat} (hW : or_W a_forward) (hd : ct_s (or_d a_forward) 17 ≤ 32) (hr : root < 17)
    (hB : ∀ n m, n < 17 → m < 17 → bt (a_backward m) n = bt (a_forward n) m) (hBW : ∀ m, m < 17 → ∀ n, bt (a_backward m) n = true → n < 17) {post : SX → Prop}
    (C : ∀ (N : Nat) (at' fd : Nat → Nat) (oo at2 fr2 se la up fd2 st pl : Nat → Int32), ru_R a_forward root N at' fd at2 fd2 → post (f_known, f_seen, f_many, nI N, f_isStraight, f_entered, f_todo, f_length, f_waiting, f_tellings, f_last, f_stopped, f_steps, f_left, f_ran, a_acts, a_actV, a_actC, a_ends, a_endV, a_endX, a_endY, a_numbers, a_byNumber, a_before, a_forward, a_backward, oo, at2, fr2, se, la, up, fd2, st, pl, a_chiefs, a_tails, a_edges, a_rulers, a_loops, a_innermost, a_outer, a_deep, a_alive, a_values, a_present, a_code, a_target, a_pending, a_pendingOf, a_begins, a_openAt, a_vars, a_told)) :
    (wpX_rule post (f_known, f_seen, f_many, f_ordered, f_isStraight, f_entered, f_todo, f_length, f_waiting, f_tellings, f_last, f_stopped, f_steps, f_left, f_ran, a_acts, a_actV, a_actC, a_ends, a_endV, a_endX, a_endY, a_numbers, a_byNumber, a_before, a_forward, a_backward, a_orderOf, a_at, a_from, a_semi, a_label, a_up, a_found, a_stack, a_place, a_chiefs, a_tails, a_edges, a_rulers, a_loops, a_innermost, a_outer, a_deep, a_alive, a_values, a_present, a_code, a_target, a_pending, a_pendingOf, a_begins, a_openAt, a_vars, a_told) (nI root)) := by
  refine or_o hW hd hr ?_
  intro N at' fr oo at2 fr2 st pl F hA
  have hN := or_N F.1
  have T := or_T F
  refine loop_0 (σ := (Nat → Int32) × (Nat → Int32) × (Nat → Int32)) (fun n i s => (wX_rule_7 post f_known f_seen f_many (nI N) f_isStraight f_entered f_todo f_length f_waiting f_tellings f_last f_stopped f_steps f_left f_ran n (nI i) a_acts a_actV a_actC a_ends a_endV a_endX a_endY a_numbers a_byNumber a_before a_forward a_backward oo at2 fr2 s.1 s.2.1 s.2.2 a_found st pl a_chiefs a_tails a_edges a_rulers a_loops a_innermost a_outer a_deep a_alive a_values a_present a_code a_target a_pending a_pendingOf a_begins a_openAt a_vars a_told))
    (fun i s => ∀ j, j < i → s.1 j = nI j ∧ s.2.1 j = nI j ∧ s.2.2 j = -1) N (a_semi, a_label, a_up) (fun j hj => by omega) ?_ ?_
  · intro n s hI
    refine br_t (nI_le (Nat.le_refl _) (by omega)) (nm_r (bs_sub1 F.2.1) ⟨N, ?_⟩)
    have h0 := F.2.1
    refine ru_51 (a_found := a_found) F hA hB hBW ?_ N (N - 1) s.1 s.2.1 s.2.2 st (by omega) (by omega) ⟨fun j => j, fun j => j, fun j => j, fun j _ => rfl, fun j _ => Nat.le_refl _, fun j h1 h2 => by omega, fun j hj => (hI j hj).1, fun j h1 h2 => by omega, fun j h1 h2 => by omega, fun j _ hj => ⟨(hI j hj).2.1, (hI j hj).2.2⟩⟩
    intro se la up st2 sm V hse hsl
    refine pk_loop (σ := Nat → Int32) (fun n i s => (wX_rule_174 post f_known f_seen f_many (nI N) f_isStraight f_entered f_todo f_length f_waiting f_tellings f_last f_stopped f_steps f_left f_ran n (nI i) a_acts a_actV a_actC a_ends a_endV a_endX a_endY a_numbers a_byNumber a_before a_forward a_backward oo at2 fr2 se la up s st2 pl a_chiefs a_tails a_edges a_rulers a_loops a_innermost a_outer a_deep a_alive a_values a_present a_code a_target a_pending a_pendingOf a_begins a_openAt a_vars a_told))
      (fun i s => 0 < i ∧ ∃ fd : Nat → Nat, ∀ j, 0 < j → j < i → s j = nI (fd j) ∧ fd j < j ∧ dm_I (or_e a_forward N at') 0 (fd j) j) N 1 _ (by omega) ⟨by omega, fun _ => 0, fun j h1 h2 => by omega⟩ ?_ ?_
    · intro n s hs
      obtain ⟨_, fd, hfd⟩ := hs
      refine br_t (nI_le (Nat.le_refl _) (by omega)) (C N at' fd oo at2 fr2 se la up s st2 pl ⟨hN, F.2.1, F.1.2.2.2.2.1 F.2.1, fun k hk => ⟨(F.1.2.1 k hk).1, hA.1 k hk⟩, fun a b ha hb => or_inj F.1 ha hb, or_R F, ?_⟩)
      intro k h0 hk
      have := hfd k h0 hk
      exact ⟨this.2.1, this.1, or_i F (by omega) hk this.2.2⟩
    · intro n i s hi hs ih
      obtain ⟨hi0, fd, hfd⟩ := hs
      · have hp := T.1 i hi0 hi
        refine br_f (nI_ge hi (by omega)) (And.intro (xg_i7 (by omega)) (nm_r (e' := nI (fr i)) (by rw [nI_clamp (by omega), hA.2 i hi0 hi]) ⟨i + 1, ?_⟩))
        refine ru_189 (a_found := s) T V hN hi hi0 hse hsl hfd ?_ (i + 1) (fr i) (by omega) hp.1 dm_rf (fun d' h _ => h)
        intro d hd hI
        refine ih _ ⟨by omega, or_p fd i d, ?_⟩
        intro j h1 h2
        by_cases ej : j = i
        · subst ej; rw [or_ps, pk_us]; exact ⟨rfl, hd, hI⟩
        · rw [or_pn ej, pk_un ej]; exact hfd j h1 (by omega)
  · intro n i s hi hI ih
    refine br_f (nI_ge hi (by omega)) (And.intro (xg_i7 (by omega)) (nm_r (e' := upd s.1 i (nI i)) (by rw [bs_vbb (by omega), xg_u (by omega)]) (And.intro (xg_i7 (by omega)) (nm_r (e' := upd s.2.1 i (nI i)) (by rw [bs_vbb (by omega), xg_u (by omega)]) (And.intro (xg_i7 (by omega)) (nm_r (e' := upd s.2.2 i (-1)) (by rw [bs_vm, xg_u (by omega)]) (nm_r (nI_1 i) (ih (_, _, _) ?_))))))))
    intro j hj
    by_cases ej : j = i
    · subst ej; exact ⟨pk_us, pk_us, pk_us⟩
    · have := hI j (by omega)
      exact ⟨(pk_un ej).trans this.1, (pk_un ej).trans this.2.1, (pk_un ej).trans this.2.2⟩
end XF
end
section
section XG
/-! degrees -/
theorem ct_or (p q : Nat → Bool) : ∀ n, ct_c (fun i => p i || q i) n ≤ ct_c p n + ct_c q n
  | 0 => Nat.le_refl 0
  | n + 1 => by
    have := ct_or p q n
    show ct_c (fun i => p i || q i) n + (if (p n || q n) = true then 1 else 0) ≤ ct_c p n + (if p n = true then 1 else 0) + (ct_c q n + (if q n = true then 1 else 0))
    cases hp : p n <;> cases hq : q n <;> simp <;> omega
theorem ct_1 (a : Nat) : ∀ n, ct_c (fun i => decide (i = a)) n = if a < n then 1 else 0
  | 0 => rfl
  | n + 1 => by
    show ct_c (fun i => decide (i = a)) n + (if decide (n = a) = true then 1 else 0) = _
    rw [ct_1 a n]
    by_cases h : n = a
    · subst h
      rw [if_neg (by omega), if_pos (by simp), if_pos (by omega)]
    · by_cases h2 : a < n
      · rw [if_pos h2, if_neg (by simp [h]), if_pos (by omega)]
      · rw [if_neg h2, if_neg (by simp [h]), if_neg (by omega)]
theorem or_2 {x : Int32} {a b : Nat} (h : ∀ m, bt x m = true → m = a ∨ m = b) : ct_c (fun m => bt x m) 17 ≤ 2 := by
  have h1 : ct_c (fun m => bt x m) 17 ≤ ct_c (fun m => decide (m = a) || decide (m = b)) 17 := by
    refine ct_mo 17 (fun i _ hi => ?_)
    rcases h i hi with e | e
    · simp [e]
    · simp [e]
  have h2 := ct_or (fun m => decide (m = a)) (fun m => decide (m = b)) 17
  rw [ct_1, ct_1] at h2
  have h3 : (if a < 17 then 1 else 0) ≤ 1 := by split <;> omega
  have h4 : (if b < 17 then 1 else 0) ≤ 1 := by split <;> omega
  omega
theorem or_0 {x : Int32} (h : ∀ m, bt x m = false) : ct_c (fun m => bt x m) 17 = 0 := by
  rw [ct_eq 17 (q := fun _ => false) (fun i _ => h i)]
  exact ct_f 17
theorem or_sm {fw : Nat → Int32} (h : ∀ n, n < 16 → or_d fw n ≤ 2) (h16 : or_d fw 16 = 0) : ct_s (or_d fw) 17 ≤ 32 := by
  show ct_s (or_d fw) 16 + or_d fw 16 ≤ 32
  have := ct_sle (f := or_d fw) (g := fun _ => 2) 16 h
  rw [ct_sc] at this
  omega
theorem or_sw {fw bw : Nat → Int32} (h : ∀ n m, n < 17 → m < 17 → bt (bw m) n = bt (fw n) m) : ct_s (or_d fw) 17 = ct_s (or_d bw) 17 := by
  have e1 : ct_s (or_d fw) 17 = ct_s (fun i => ct_s (fun j => if bt (fw i) j = true then 1 else 0) 17) 17 := ct_seq 17 (fun i _ => ct_cs _ 17)
  have e2 : ct_s (or_d bw) 17 = ct_s (fun j => ct_s (fun i => if bt (fw i) j = true then 1 else 0) 17) 17 := by
    refine ct_seq 17 (fun j hj => ?_)
    rw [show or_d bw j = ct_s (fun i => if bt (bw j) i = true then 1 else 0) 17 from ct_cs _ 17]
    exact ct_seq 17 (fun i hi => by show (if bt (bw j) i = true then 1 else 0) = _; rw [h i j hi hj])
  rw [e1, e2]
  exact ct_sw _ 17 17
/-! the turned graph, with a node 16 behind all stops -/
def gg_F (g : Nat → Nat → Nat) (n m : Nat) : Prop := gg_R g n ∧ gg_E g n m
def gg_B (g : Nat → Nat → Nat) (n m : Nat) : Prop := (n < 16 ∧ gg_R g m ∧ gg_E g m n) ∨ (n = 16 ∧ gg_R g m ∧ g 0 m = 0)
theorem gg_Fc {g : Nat → Nat → Nat} {P : Nat → Prop} {m : Nat} : gr_c (gg_E g) P 0 m ↔ gr_c (gg_F g) P 0 m := by
  constructor
  · intro h
    exact gr_mo h (fun x y hx e p => ⟨⟨gr_T hx, e⟩, p⟩)
  · intro h
    exact gr_mo h (fun x y hx e p => ⟨e.2, p⟩)
theorem gg_FA {g : Nat → Nat → Nat} {d m : Nat} : dm_A (gg_F g) 0 d m ↔ dm_A (gg_E g) 0 d m := by
  unfold dm_A
  rw [gg_Fc]
theorem gg_FI {g : Nat → Nat → Nat} {d m : Nat} : dm_I (gg_F g) 0 d m ↔ dm_I (gg_E g) 0 d m := by
  unfold dm_I dm_D
  simp only [gg_FA]
theorem gg_FR {g : Nat → Nat → Nat} {m : Nat} : dm_R (gg_F g) 0 m ↔ gg_R g m := by
  unfold gg_R dm_R
  rw [gg_Fc]
/-- dominance depends on the edges alone -/
theorem dm_cg {E E' : Nat → Nat → Prop} {r : Nat} (h : ∀ x y, E x y ↔ E' x y) : E = E' := by
  funext x y
  exact propext (h x y)
end XG
section XH
variable {f_known f_seen f_many f_ordered f_isStraight f_entered f_todo f_length f_waiting f_tellings f_last f_stopped f_steps f_ran : Int32} {f_left : Int64} {a_acts a_actV a_actC a_ends a_endV a_endX a_endY a_numbers a_byNumber a_before a_forward a_backward a_orderOf a_at a_from a_semi a_label a_up a_found a_stack a_place a_chiefs a_tails a_edges a_rulers a_loops a_innermost a_outer a_deep a_alive a_values a_present a_code a_target a_pending a_pendingOf a_begins a_openAt a_vars a_told : Nat → Int32} {g : Nat → Nat → Nat}
def xr_B (g : Nat → Nat → Nat) (a_before : Nat → Int32) : Prop := ∀ m, m < 16 → ∀ n, bt (a_before m) n = true ↔ gg_R g n ∧ gg_E g n m
def xr_C (g : Nat → Nat → Nat) (a_chiefs : Nat → Int32) : Prop := ∀ n, n < 16 → (a_chiefs n = -1 ∧ (¬ gg_R g n ∨ n = 0)) ∨ ∃ d, d < 16 ∧ a_chiefs n = nI d ∧ gg_R g n ∧ n ≠ 0 ∧ dm_I (gg_E g) 0 d n
def xr_T (g : Nat → Nat → Nat) (a_tails : Nat → Int32) : Prop := ∀ n, n < 16 → (a_tails n = -1 ∧ ¬ dm_R (gg_B g) 16 n) ∨ ∃ d, d < 17 ∧ a_tails n = nI d ∧ dm_R (gg_B g) 16 n ∧ dm_I (gg_B g) 16 d n
theorem xr_308 {N : Nat} {at' fd : Nat → Nat} {fw : Nat → Int32} (W : gg_W g) (hE : or_E fw = gg_B g) (R : ru_R fw 16 N at' fd a_at a_found) (ht : ∀ n, n < 16 → a_tails n = -1) {post : SX → Prop}
    (C : ∀ tl, xr_T g tl → post (f_known, f_seen, f_many, nI N, f_isStraight, f_entered, f_todo, f_length, f_waiting, f_tellings, f_last, f_stopped, f_steps, f_left, f_ran, a_acts, a_actV, a_actC, a_ends, a_endV, a_endX, a_endY, a_numbers, a_byNumber, a_before, a_forward, a_backward, a_orderOf, a_at, a_from, a_semi, a_label, a_up, a_found, a_stack, a_place, a_chiefs, tl, a_edges, a_rulers, a_loops, a_innermost, a_outer, a_deep, a_alive, a_values, a_present, a_code, a_target, a_pending, a_pendingOf, a_begins, a_openAt, a_vars, a_told)) : ∃ n : Nat, (wX_rank_308 post f_known f_seen f_many (nI N) f_isStraight f_entered f_todo f_length f_waiting f_tellings f_last f_stopped f_steps f_left f_ran n 1 a_acts a_actV a_actC a_ends a_endV a_endX a_endY a_numbers a_byNumber a_before a_forward a_backward a_orderOf a_at a_from a_semi a_label a_up a_found a_stack a_place a_chiefs a_tails a_edges a_rulers a_loops a_innermost a_outer a_deep a_alive a_values a_present a_code a_target a_pending a_pendingOf a_begins a_openAt a_vars a_told) := by
  obtain ⟨r1, r2, r3, r4, r5, r6, r7⟩ := R
  rw [hE] at r6 r7
  refine pk_loop (σ := Nat → Int32) (fun n i s => (wX_rank_308 post f_known f_seen f_many (nI N) f_isStraight f_entered f_todo f_length f_waiting f_tellings f_last f_stopped f_steps f_left f_ran n (nI i) a_acts a_actV a_actC a_ends a_endV a_endX a_endY a_numbers a_byNumber a_before a_forward a_backward a_orderOf a_at a_from a_semi a_label a_up a_found a_stack a_place a_chiefs s a_edges a_rulers a_loops a_innermost a_outer a_deep a_alive a_values a_present a_code a_target a_pending a_pendingOf a_begins a_openAt a_vars a_told))
    (fun i s => 0 < i ∧ (∀ k, 0 < k → k < i → s (at' k) = nI (at' (fd k))) ∧ ∀ n, n < 16 → (∀ k, 0 < k → k < i → at' k ≠ n) → s n = -1) N 1 _ (by omega) ⟨by omega, fun k h1 h2 => by omega, fun n hn _ => ht n hn⟩ ?_ ?_
  · intro n s hs
    refine br_t (nI_le (Nat.le_refl _) (by omega)) (C s ?_)
    intro m hm
    by_cases hR : dm_R (gg_B g) 16 m
    · obtain ⟨v, hv, e⟩ := (r6 m).mp hR
      have hv0 : 0 < v := by
        rcases Nat.eq_zero_or_pos v with h | h
        · subst h; omega
        · exact h
      have h7 := r7 v hv0 hv
      refine Or.inr ⟨at' (fd v), (r4 _ (by omega)).1, ?_, hR, ?_⟩
      · rw [← e]; exact hs.2.1 v hv0 hv
      · rw [← e]; exact h7.2.2
    · refine Or.inl ⟨hs.2.2 m hm (fun k h0 hk e => hR ((r6 m).mpr ⟨k, hk, e⟩)), hR⟩
  · intro n i s hi hs ih
    have h7 := r7 i hs.1 hi
    have h4 := r4 i hi
    have h4' := r4 (fd i) (by omega)
    have ef : a_found (nI i).toNatClampNeg = nI (fd i) := by rw [nI_clamp (by omega), h7.2.1]
    have ea : a_at (nI i).toNatClampNeg = nI (at' i) := by rw [nI_clamp (by omega), h4.2]
    refine br_f (nI_ge hi (by omega)) (And.intro (xg_i7 (by omega)) (And.intro (xg_i7 (by omega)) (And.intro (by rw [ef]; exact xg_i7 (by omega)) (And.intro (by rw [ea]; exact xg_i7 h4.1) (nm_r (e' := upd s (at' i) (nI (at' (fd i)))) (by rw [ea, ef, nI_clamp (by omega), nI_clamp (by omega), h4'.2, bs_vb (by omega)]) (nm_r (nI_1 i) (ih _ ⟨by omega, ?_, ?_⟩)))))))
    · intro k h0 hk
      by_cases e : k = i
      · subst e; exact pk_us
      · have : at' k ≠ at' i := fun e2 => e (r5 k i (by omega) hi e2)
        exact (pk_un this).trans (hs.2.1 k h0 (by omega))
    · intro m hm hk
      have := hk i hs.1 (by omega)
      exact (pk_un (Ne.symm this)).trans (hs.2.2 m hm (fun k h0 hk' => hk k h0 (by omega)))
theorem xr_165 {N : Nat} {at' fd : Nat → Nat} {fw : Nat → Int32} (W : gg_W g) (hE : or_E fw = gg_F g) (R : ru_R fw 0 N at' fd a_at a_found) (ht : ∀ n, n < 16 → a_chiefs n = -1) {post : SX → Prop}
    (C : ∀ ch, xr_C g ch → ∃ n : Nat, (wX_rank_203 post f_known f_seen f_many (nI N) f_isStraight f_entered f_todo f_length f_waiting f_tellings f_last f_stopped f_steps f_left f_ran n 0 a_acts a_actV a_actC a_ends a_endV a_endX a_endY a_numbers a_byNumber a_before a_forward a_backward a_orderOf a_at a_from a_semi a_label a_up a_found a_stack a_place ch a_tails a_edges a_rulers a_loops a_innermost a_outer a_deep a_alive a_values a_present a_code a_target a_pending a_pendingOf a_begins a_openAt a_vars a_told)) : ∃ n : Nat, (wX_rank_165 post f_known f_seen f_many (nI N) f_isStraight f_entered f_todo f_length f_waiting f_tellings f_last f_stopped f_steps f_left f_ran n 1 a_acts a_actV a_actC a_ends a_endV a_endX a_endY a_numbers a_byNumber a_before a_forward a_backward a_orderOf a_at a_from a_semi a_label a_up a_found a_stack a_place a_chiefs a_tails a_edges a_rulers a_loops a_innermost a_outer a_deep a_alive a_values a_present a_code a_target a_pending a_pendingOf a_begins a_openAt a_vars a_told) := by
  obtain ⟨r1, r2, r3, r4, r5, r6, r7⟩ := R
  rw [hE] at r6 r7
  have hat : ∀ k, k < N → at' k < 16 := fun k hk => gg_R16 W (gg_FR.mp ((r6 (at' k)).mpr ⟨k, hk, rfl⟩))
  refine pk_loop (σ := Nat → Int32) (fun n i s => (wX_rank_165 post f_known f_seen f_many (nI N) f_isStraight f_entered f_todo f_length f_waiting f_tellings f_last f_stopped f_steps f_left f_ran n (nI i) a_acts a_actV a_actC a_ends a_endV a_endX a_endY a_numbers a_byNumber a_before a_forward a_backward a_orderOf a_at a_from a_semi a_label a_up a_found a_stack a_place s a_tails a_edges a_rulers a_loops a_innermost a_outer a_deep a_alive a_values a_present a_code a_target a_pending a_pendingOf a_begins a_openAt a_vars a_told))
    (fun i s => 0 < i ∧ (∀ k, 0 < k → k < i → s (at' k) = nI (at' (fd k))) ∧ ∀ n, n < 16 → (∀ k, 0 < k → k < i → at' k ≠ n) → s n = -1) N 1 _ (by omega) ⟨by omega, fun k h1 h2 => by omega, fun n hn _ => ht n hn⟩ ?_ ?_
  · intro n s hs
    refine br_t (nI_le (Nat.le_refl _) (by omega)) (C s ?_)
    intro m hm
    by_cases hR : gg_R g m
    · obtain ⟨v, hv, e⟩ := (r6 m).mp (gg_FR.mpr hR)
      rcases Nat.eq_zero_or_pos v with h | hv0
      · subst h
        refine Or.inl ⟨hs.2.2 m hm (fun k h0 hk e2 => ?_), Or.inr (by omega)⟩
        have := r5 k 0 hk hv (by rw [e2, e])
        omega
      · have h7 := r7 v hv0 hv
        refine Or.inr ⟨at' (fd v), hat _ (by omega), ?_, hR, ?_, ?_⟩
        · rw [← e]; exact hs.2.1 v hv0 hv
        · intro e0
          have := r5 v 0 hv (by omega) (by rw [e, e0, r3])
          omega
        · rw [← e]; exact gg_FI.mp h7.2.2
    · refine Or.inl ⟨hs.2.2 m hm (fun k h0 hk e => hR (gg_FR.mp ((r6 m).mpr ⟨k, hk, e⟩))), Or.inl hR⟩
  · intro n i s hi hs ih
    have h7 := r7 i hs.1 hi
    have h4 := r4 i hi
    have h4' := r4 (fd i) (by omega)
    have ef : a_found (nI i).toNatClampNeg = nI (fd i) := by rw [nI_clamp (by omega), h7.2.1]
    have ea : a_at (nI i).toNatClampNeg = nI (at' i) := by rw [nI_clamp (by omega), h4.2]
    refine br_f (nI_ge hi (by omega)) (And.intro (xg_i7 (by omega)) (And.intro (xg_i7 (by omega)) (And.intro (by rw [ef]; exact xg_i7 (by omega)) (And.intro (by rw [ea]; exact xg_i (hat i hi)) (nm_r (e' := upd s (at' i) (nI (at' (fd i)))) (by rw [ea, ef, nI_clamp (by omega), nI_clamp (by omega), h4'.2, bs_vb (by omega)]) (nm_r (nI_1 i) (ih _ ⟨by omega, ?_, ?_⟩)))))))
    · intro k h0 hk
      by_cases e : k = i
      · subst e; exact pk_us
      · have : at' k ≠ at' i := fun e2 => e (r5 k i (by omega) hi e2)
        exact (pk_un this).trans (hs.2.1 k h0 (by omega))
    · intro m hm hk
      have := hk i hs.1 (by omega)
      exact (pk_un (Ne.symm this)).trans (hs.2.2 m hm (fun k h0 hk' => hk k h0 (by omega)))
/-- stops, then the other way round -/
theorem xr_243 (W : gg_W g) (G : (xg_G g a_acts a_actV a_actC a_ends a_endV a_endX a_endY)) (hn : xn_N g f_seen f_many a_byNumber a_numbers) (ht : ∀ n, n < 16 → a_tails n = -1)
    (hf0 : ∀ n, n < 16 → ∀ m, bt (a_forward n) m = true ↔ gg_R g m ∧ gg_E g m n) (hf16 : a_forward 16 = 0) (hb0 : ∀ n, n < 16 → ∀ m, bt (a_backward n) m = true ↔ gg_R g n ∧ gg_E g n m) (hb16 : a_backward 16 = 0) {post : SX → Prop}
    (C : ∀ (fo : Int32) (fw bw oo at2 fr2 se la up fd2 st pl tl : Nat → Int32), xr_T g tl → post (f_known, f_seen, f_many, fo, f_isStraight, f_entered, f_todo, f_length, f_waiting, f_tellings, f_last, f_stopped, f_steps, f_left, f_ran, a_acts, a_actV, a_actC, a_ends, a_endV, a_endX, a_endY, a_numbers, a_byNumber, a_before, fw, bw, oo, at2, fr2, se, la, up, fd2, st, pl, a_chiefs, tl, a_edges, a_rulers, a_loops, a_innermost, a_outer, a_deep, a_alive, a_values, a_present, a_code, a_target, a_pending, a_pendingOf, a_begins, a_openAt, a_vars, a_told)) :
    ∃ n : Nat, (wX_rank_243 post f_known f_seen f_many f_ordered f_isStraight f_entered f_todo f_length f_waiting f_tellings f_last f_stopped f_steps f_left f_ran n 0 a_acts a_actV a_actC a_ends a_endV a_endX a_endY a_numbers a_byNumber a_before a_forward a_backward a_orderOf a_at a_from a_semi a_label a_up a_found a_stack a_place a_chiefs a_tails a_edges a_rulers a_loops a_innermost a_outer a_deep a_alive a_values a_present a_code a_target a_pending a_pendingOf a_begins a_openAt a_vars a_told) := by
  obtain ⟨n1, n2, n3, n4⟩ := hn
  subst n2
  have hlen := df_ln W
  refine loop_0 (σ := (Nat → Int32) × (Nat → Int32)) (fun n i s => (wX_rank_243 post f_known f_seen (nI (df_o g).length) f_ordered f_isStraight f_entered f_todo f_length f_waiting f_tellings f_last f_stopped f_steps f_left f_ran n (nI i) a_acts a_actV a_actC a_ends a_endV a_endX a_endY a_numbers a_byNumber a_before s.1 s.2 a_orderOf a_at a_from a_semi a_label a_up a_found a_stack a_place a_chiefs a_tails a_edges a_rulers a_loops a_innermost a_outer a_deep a_alive a_values a_present a_code a_target a_pending a_pendingOf a_begins a_openAt a_vars a_told))
    (fun i s => (∀ n, n < 16 → s.1 n = a_forward n) ∧ (∀ m, bt (s.1 16) m = true ↔ gg_R g m ∧ g 0 m = 0 ∧ gg_n g m < i) ∧ s.2 16 = 0 ∧
      (∀ n, n < 16 → ∀ m, bt (s.2 n) m = true ↔ (gg_R g n ∧ gg_E g n m) ∨ (m = 16 ∧ gg_R g n ∧ g 0 n = 0 ∧ gg_n g n < i))) (df_o g).length (a_forward, a_backward) ⟨fun n _ => rfl, ?_, hb16, ?_⟩ ?_ ?_
  · intro m
    show bt (a_forward 16) m = true ↔ _
    rw [hf16, b_0]
    constructor
    · intro h; cases h
    · intro h; omega
  · intro n hn m
    show bt (a_backward n) m = true ↔ _
    rw [hb0 n hn m]
    constructor
    · intro h; exact Or.inl h
    · intro h
      rcases h with h | h
      · exact h
      · omega
  · intro n s hI
    obtain ⟨i1, i2, i3, i4⟩ := hI
    have hE : or_E s.1 = gg_B g := by
      refine dm_cg (r := 0) (fun x y => ?_)
      unfold or_E gg_B
      constructor
      · intro h
        by_cases hx : x < 16
        · rw [i1 x hx, hf0 x hx] at h
          exact Or.inl ⟨hx, h.2⟩
        · have e : x = 16 := by omega
          subst e
          rw [i2] at h
          exact Or.inr ⟨rfl, h.2.1, h.2.2.1⟩
      · intro h
        rcases h with h | h
        · refine ⟨by omega, ?_⟩
          rw [i1 x h.1, hf0 x h.1]
          exact h.2
        · obtain ⟨e, h1, h2⟩ := h
          subst e
          refine ⟨by omega, ?_⟩
          rw [i2]
          exact ⟨h1, h2, (gg_nl W h1).1⟩
    have hB : ∀ n m, n < 17 → m < 17 → bt (s.2 m) n = bt (s.1 n) m := by
      intro n m hn hm
      rw [Bool.eq_iff_iff]
      by_cases hm16 : m < 16
      · rw [i4 m hm16 n]
        by_cases hn16 : n < 16
        · rw [i1 n hn16, hf0 n hn16 m]
          constructor
          · intro h
            rcases h with h | h
            · exact h
            · omega
          · intro h; exact Or.inl h
        · have e : n = 16 := by omega
          subst e
          rw [i2 m]
          constructor
          · intro h
            rcases h with h | h
            · have := gg_E16 W h.2; omega
            · exact h.2
          · intro h; exact Or.inr ⟨rfl, h⟩
      · have e : m = 16 := by omega
        subst e
        rw [i3, b_0]
        constructor
        · intro h; cases h
        · intro h
          by_cases hn16 : n < 16
          · rw [i1 n hn16, hf0 n hn16] at h
            have := gg_R16 W h.1; omega
          · have e : n = 16 := by omega
            subst e
            rw [i2] at h
            have := gg_R16 W h.1; omega
    have hW : or_W s.1 := by
      intro n hn m hm
      by_cases hn16 : n < 16
      · rw [i1 n hn16, hf0 n hn16] at hm
        have := gg_R16 W hm.1; omega
      · have e : n = 16 := by omega
        subst e
        rw [i2] at hm
        have := gg_R16 W hm.1; omega
    have hBW : ∀ m, m < 17 → ∀ n, bt (s.2 m) n = true → n < 17 := by
      intro m hm n hb
      by_cases hm16 : m < 16
      · rw [i4 m hm16] at hb
        rcases hb with h | h
        · have := gg_E16 W h.2; omega
        · omega
      · have e : m = 16 := by omega
        subst e
        rw [i3, b_0] at hb
        cases hb
    have hd : ct_s (or_d s.1) 17 ≤ 32 := by
      rw [or_sw hB]
      refine or_sm (fun n hn => ?_) ?_
      · by_cases h0 : g 0 n = 0
        · refine or_2 (a := 16) (b := 16) (fun m hm => ?_)
          rw [i4 n hn] at hm
          rcases hm with h | h
          · rcases h.2 with h | h
            · omega
            · omega
          · exact Or.inl h.1
        · refine or_2 (a := g 2 n) (b := g 3 n) (fun m hm => ?_)
          rw [i4 n hn] at hm
          rcases hm with h | h
          · rcases h.2 with h | h
            · exact Or.inl h.2.symm
            · exact Or.inr h.2.symm
          · omega
      · refine or_0 (fun m => ?_)
        rw [i3, b_0]
    refine br_t (nI_le (Nat.le_refl _) (by omega)) ?_
    refine ru_r (root := 16) (a_forward := s.1) (a_backward := s.2) hW hd (by omega) hB hBW ?_
    intro N at' fd oo at2 fr2 se la up fd2 st pl R
    exact xr_308 W hE R ht (fun tl hT => C (nI N) s.1 s.2 oo at2 fr2 se la up fd2 st pl tl hT)
  · intro n i s hi hI ih
    obtain ⟨i1, i2, i3, i4⟩ := hI
    have hgn := gg_ng W hi
    have hx16 := gg_R16 W hgn.1
    have hbn : a_byNumber (nI i).toNatClampNeg = nI ((df_o g).getD i 0) := by rw [nI_clamp (by omega), n3 i hi]
    have he : a_ends (nI ((df_o g).getD i 0)).toNatClampNeg = nI (g 0 ((df_o g).getD i 0)) := by rw [nI_clamp (by omega), (G _ hx16).1]
    have hw := W ((df_o g).getD i 0)
    have hlt : ∀ m, gg_R g m → (gg_n g m < i + 1 ↔ gg_n g m < i ∨ m = (df_o g).getD i 0) := by
      intro m hm
      constructor
      · intro h
        by_cases e : gg_n g m = i
        · exact Or.inr (gg_ni W hm hgn.1 (by rw [e, hgn.2]))
        · exact Or.inl (by omega)
      · intro h
        rcases h with h | h
        · omega
        · rw [h, hgn.2]; omega
    refine br_f (nI_ge hi (by omega)) (And.intro (xg_i (by omega)) (nm_r hbn (And.intro (xg_i hx16) ?_)))
    generalize hx : (df_o g).getD i 0 = x at *
    by_cases h0 : g 0 x = 0
    · refine br_t (by rw [he, h0]; rfl) (nm_e (And.intro (xg_i7 (by omega)) (And.intro (xg_i7 (by omega)) (nm_r (e' := upd s.2 x (s.2 x ||| 65536)) (by rw [nI_clamp (by omega)]) (nm_r (nI_1 i) (ih (_, _) ⟨?_, ?_, ?_, ?_⟩))))))
      · intro n hn
        exact (pk_un (by omega)).trans (i1 n hn)
      · intro m
        show bt (upd s.1 16 (s.1 16 ||| (1 : Int32) <<< (nI x &&& 31)) 16) m = true ↔ _
        rw [pk_us, b_or, Bool.or_eq_true, i2 m, xg_oi (m := 0) (by omega)]
        constructor
        · intro h
          rcases h with h | h
          · exact ⟨h.1, h.2.1, by omega⟩
          · subst h; exact ⟨hgn.1, h0, by omega⟩
        · intro h
          rcases (hlt m h.1).mp h.2.2 with h' | h'
          · exact Or.inl ⟨h.1, h.2.1, h'⟩
          · exact Or.inr h'.symm
      · exact (pk_un (by omega)).trans i3
      · intro n hn m
        show bt (upd s.2 x (s.2 x ||| 65536) n) m = true ↔ _
        have hc : bt 65536 m = true ↔ m = 16 := by
          have := xg_oi (m := 0) (n := 16) (by omega) m
          rw [show ((1 : Int32) <<< (nI 16 &&& 31)) = 65536 from by decide] at this
          rw [this]
          exact eq_comm
        by_cases e : n = x
        · subst e
          rw [pk_us, b_or, Bool.or_eq_true, i4 n hn m, hc]
          constructor
          · intro h
            rcases h with h | h
            · rcases h with h | h
              · exact Or.inl h
              · exact Or.inr ⟨h.1, h.2.1, h.2.2.1, by omega⟩
            · exact Or.inr ⟨h, hgn.1, h0, by omega⟩
          · intro h
            rcases h with h | h
            · exact Or.inl (Or.inl h)
            · exact Or.inr h.1
        · rw [pk_un e, i4 n hn m]
          constructor
          · intro h
            rcases h with h | h
            · exact Or.inl h
            · exact Or.inr ⟨h.1, h.2.1, h.2.2.1, by omega⟩
          · intro h
            rcases h with h | h
            · exact Or.inl h
            · rcases (hlt n h.2.1).mp h.2.2.2 with h' | h'
              · exact Or.inr ⟨h.1, h.2.1, h.2.2.1, h'⟩
              · exact absurd h' e
    · refine br_f (by rw [he]; exact nI_ne0 (by omega) (by omega)) (nm_r (nI_1 i) (ih s ⟨i1, ?_, i3, ?_⟩))
      · intro m
        rw [i2 m]
        constructor
        · intro h; exact ⟨h.1, h.2.1, by omega⟩
        · intro h
          rcases (hlt m h.1).mp h.2.2 with h' | h'
          · exact ⟨h.1, h.2.1, h'⟩
          · subst h'; exact absurd h.2.1 h0
      · intro n hn m
        rw [i4 n hn m]
        constructor
        · intro h
          rcases h with h | h
          · exact Or.inl h
          · exact Or.inr ⟨h.1, h.2.1, h.2.2.1, by omega⟩
        · intro h
          rcases h with h | h
          · exact Or.inl h
          · rcases (hlt n h.2.1).mp h.2.2.2 with h' | h'
            · exact Or.inr ⟨h.1, h.2.1, h.2.2.1, h'⟩
            · subst h'; exact absurd h.2.2.1 h0
end XH
end
section
section XI
variable {f_known f_seen f_many f_ordered f_isStraight f_entered f_todo f_length f_waiting f_tellings f_last f_stopped f_steps f_ran : Int32} {f_left : Int64} {a_acts a_actV a_actC a_ends a_endV a_endX a_endY a_numbers a_byNumber a_before a_forward a_backward a_orderOf a_at a_from a_semi a_label a_up a_found a_stack a_place a_chiefs a_tails a_edges a_rulers a_loops a_innermost a_outer a_deep a_alive a_values a_present a_code a_target a_pending a_pendingOf a_begins a_openAt a_vars a_told : Nat → Int32} {g : Nat → Nat → Nat}
/-- the graph turned -/
theorem xr_203 (W : gg_W g) (G : (xg_G g a_acts a_actV a_actC a_ends a_endV a_endX a_endY)) (hn : xn_N g f_seen f_many a_byNumber a_numbers) (ht : ∀ n, n < 16 → a_tails n = -1)
    (hf0 : ∀ n, n < 16 → ∀ m, bt (a_forward n) m = true ↔ gg_R g n ∧ gg_E g n m) (hf16 : a_forward 16 = 0) (hb0 : ∀ n, n < 16 → ∀ m, bt (a_backward n) m = true ↔ gg_R g m ∧ gg_E g m n) (hb16 : a_backward 16 = 0) {post : SX → Prop}
    (C : ∀ (fo : Int32) (fw bw oo at2 fr2 se la up fd2 st pl tl : Nat → Int32), xr_T g tl → post (f_known, f_seen, f_many, fo, f_isStraight, f_entered, f_todo, f_length, f_waiting, f_tellings, f_last, f_stopped, f_steps, f_left, f_ran, a_acts, a_actV, a_actC, a_ends, a_endV, a_endX, a_endY, a_numbers, a_byNumber, a_before, fw, bw, oo, at2, fr2, se, la, up, fd2, st, pl, a_chiefs, tl, a_edges, a_rulers, a_loops, a_innermost, a_outer, a_deep, a_alive, a_values, a_present, a_code, a_target, a_pending, a_pendingOf, a_begins, a_openAt, a_vars, a_told)) :
    ∃ n : Nat, (wX_rank_203 post f_known f_seen f_many f_ordered f_isStraight f_entered f_todo f_length f_waiting f_tellings f_last f_stopped f_steps f_left f_ran n 0 a_acts a_actV a_actC a_ends a_endV a_endX a_endY a_numbers a_byNumber a_before a_forward a_backward a_orderOf a_at a_from a_semi a_label a_up a_found a_stack a_place a_chiefs a_tails a_edges a_rulers a_loops a_innermost a_outer a_deep a_alive a_values a_present a_code a_target a_pending a_pendingOf a_begins a_openAt a_vars a_told) := by
  refine loop_0 (σ := (Nat → Int32) × (Nat → Int32)) (fun n i s => (wX_rank_203 post f_known f_seen f_many f_ordered f_isStraight f_entered f_todo f_length f_waiting f_tellings f_last f_stopped f_steps f_left f_ran n (nI i) a_acts a_actV a_actC a_ends a_endV a_endX a_endY a_numbers a_byNumber a_before s.1 s.2 a_orderOf a_at a_from a_semi a_label a_up a_found a_stack a_place a_chiefs a_tails a_edges a_rulers a_loops a_innermost a_outer a_deep a_alive a_values a_present a_code a_target a_pending a_pendingOf a_begins a_openAt a_vars a_told))
    (fun i s => (∀ n, n < i → s.1 n = a_backward n ∧ s.2 n = a_forward n) ∧ ∀ n, i ≤ n → s.1 n = a_forward n ∧ s.2 n = a_backward n) 16 (a_forward, a_backward) ⟨fun n hn => by omega, fun n _ => ⟨rfl, rfl⟩⟩ ?_ ?_
  · intro n s hI
    refine br_t (by decide) ?_
    refine xr_243 (a_forward := s.1) (a_backward := s.2) W G hn ht ?_ ?_ ?_ ?_ C
    · intro n hn m
      rw [(hI.1 n hn).1]
      exact hb0 n hn m
    · rw [(hI.2 16 (by omega)).1]; exact hf16
    · intro n hn m
      rw [(hI.1 n hn).2]
      exact hf0 n hn m
    · rw [(hI.2 16 (by omega)).2]; exact hb16
  · intro n i s hi hI ih
    have h := hI.2 i (Nat.le_refl i)
    have i7 : vp_in (nI i) 17 := xg_i7 (by omega)
    refine br_f (nI_ge (b := 16) hi (by omega)) (And.intro i7 (nm_r (e' := a_forward i) (by rw [nI_clamp (by omega), h.1]) (And.intro i7 (And.intro i7 (nm_r (e' := upd s.1 i (a_backward i)) (by rw [nI_clamp (by omega), h.2]) (And.intro i7 (nm_r (e' := upd s.2 i (a_forward i)) (by rw [xg_u (by omega)]) (nm_r (nI_1 i) (ih (_, _) ⟨?_, ?_⟩)))))))))
    · intro n hn
      by_cases e : n = i
      · subst e; exact ⟨pk_us, pk_us⟩
      · have := hI.1 n (by omega)
        exact ⟨(pk_un e).trans this.1, (pk_un e).trans this.2⟩
    · intro n hn
      have := hI.2 n (by omega)
      exact ⟨(pk_un (by omega)).trans this.1, (pk_un (by omega)).trans this.2⟩
theorem xr_134 (W : gg_W g) (G : (xg_G g a_acts a_actV a_actC a_ends a_endV a_endX a_endY)) (hn : xn_N g f_seen f_many a_byNumber a_numbers) (ht : ∀ n, n < 16 → a_tails n = -1) (hc : ∀ n, n < 16 → a_chiefs n = -1) (hbe : xr_B g a_before)
    (hf0 : ∀ n, n < 16 → ∀ m, bt (a_forward n) m = true ↔ gg_R g n ∧ gg_E g n m) (hf16 : a_forward 16 = 0) (hb16 : a_backward 16 = 0) {post : SX → Prop}
    (C : ∀ (fo : Int32) (fw bw oo at2 fr2 se la up fd2 st pl ch tl : Nat → Int32), xr_C g ch → xr_T g tl → post (f_known, f_seen, f_many, fo, f_isStraight, f_entered, f_todo, f_length, f_waiting, f_tellings, f_last, f_stopped, f_steps, f_left, f_ran, a_acts, a_actV, a_actC, a_ends, a_endV, a_endX, a_endY, a_numbers, a_byNumber, a_before, fw, bw, oo, at2, fr2, se, la, up, fd2, st, pl, ch, tl, a_edges, a_rulers, a_loops, a_innermost, a_outer, a_deep, a_alive, a_values, a_present, a_code, a_target, a_pending, a_pendingOf, a_begins, a_openAt, a_vars, a_told)) :
    ∃ n : Nat, (wX_rank_134 post f_known f_seen f_many f_ordered f_isStraight f_entered f_todo f_length f_waiting f_tellings f_last f_stopped f_steps f_left f_ran n 0 a_acts a_actV a_actC a_ends a_endV a_endX a_endY a_numbers a_byNumber a_before a_forward a_backward a_orderOf a_at a_from a_semi a_label a_up a_found a_stack a_place a_chiefs a_tails a_edges a_rulers a_loops a_innermost a_outer a_deep a_alive a_values a_present a_code a_target a_pending a_pendingOf a_begins a_openAt a_vars a_told) := by
  refine loop_0 (σ := Nat → Int32) (fun n i s => (wX_rank_134 post f_known f_seen f_many f_ordered f_isStraight f_entered f_todo f_length f_waiting f_tellings f_last f_stopped f_steps f_left f_ran n (nI i) a_acts a_actV a_actC a_ends a_endV a_endX a_endY a_numbers a_byNumber a_before a_forward s a_orderOf a_at a_from a_semi a_label a_up a_found a_stack a_place a_chiefs a_tails a_edges a_rulers a_loops a_innermost a_outer a_deep a_alive a_values a_present a_code a_target a_pending a_pendingOf a_begins a_openAt a_vars a_told))
    (fun i s => (∀ n, n < i → s n = a_before n) ∧ ∀ n, i ≤ n → s n = a_backward n) 16 a_backward ⟨fun n hn => by omega, fun n _ => rfl⟩ ?_ ?_
  · intro n s hI
    have hb0 : ∀ n, n < 16 → ∀ m, bt (s n) m = true ↔ gg_R g m ∧ gg_E g m n := fun n hn m => by rw [hI.1 n hn]; exact hbe n hn m
    have hs16 : s 16 = 0 := by rw [hI.2 16 (by omega)]; exact hb16
    have hE : or_E a_forward = gg_F g := by
      refine dm_cg (r := 0) (fun x y => ?_)
      unfold or_E gg_F
      constructor
      · intro h
        by_cases hx : x < 16
        · rw [hf0 x hx] at h
          exact h.2
        · have e : x = 16 := by omega
          subst e
          rw [hf16, b_0] at h
          cases h.2
      · intro h
        have := gg_R16 W h.1
        refine ⟨by omega, ?_⟩
        rw [hf0 x this]
        exact h
    have hB : ∀ n m, n < 17 → m < 17 → bt (s m) n = bt (a_forward n) m := by
      intro n m hn hm
      rw [Bool.eq_iff_iff]
      by_cases hm16 : m < 16
      · rw [hb0 m hm16 n]
        by_cases hn16 : n < 16
        · rw [hf0 n hn16 m]
        · have e : n = 16 := by omega
          subst e
          rw [hf16, b_0]
          constructor
          · intro h; have := gg_R16 W h.1; omega
          · intro h; cases h
      · have e : m = 16 := by omega
        subst e
        rw [hs16, b_0]
        constructor
        · intro h; cases h
        · intro h
          by_cases hn16 : n < 16
          · rw [hf0 n hn16] at h
            have := gg_E16 W h.2; omega
          · have e : n = 16 := by omega
            subst e
            rw [hf16, b_0] at h
            cases h
    have hW : or_W a_forward := by
      intro n hn m hm
      by_cases hn16 : n < 16
      · rw [hf0 n hn16] at hm
        have := gg_E16 W hm.2; omega
      · have e : n = 16 := by omega
        subst e
        rw [hf16, b_0] at hm
        cases hm
    have hBW : ∀ m, m < 17 → ∀ n, bt (s m) n = true → n < 17 := by
      intro m hm n hb
      by_cases hm16 : m < 16
      · rw [hb0 m hm16] at hb
        have := gg_R16 W hb.1; omega
      · have e : m = 16 := by omega
        subst e
        rw [hs16, b_0] at hb
        cases hb
    have hd : ct_s (or_d a_forward) 17 ≤ 32 := by
      refine or_sm (fun n hn => ?_) ?_
      · refine or_2 (a := g 2 n) (b := g 3 n) (fun m hm => ?_)
        rw [hf0 n hn] at hm
        rcases hm.2 with h | h
        · exact Or.inl h.2.symm
        · exact Or.inr h.2.symm
      · refine or_0 (fun m => ?_)
        rw [hf16, b_0]
    refine br_t (by decide) ?_
    refine ru_r (root := 0) (a_backward := s) hW hd (by omega) hB hBW ?_
    intro N at' fd oo at2 fr2 se la up fd2 st pl R
    refine xr_165 W hE R hc ?_
    intro ch hch
    exact xr_203 W G hn ht hf0 hf16 hb0 hs16 (fun fo fw bw oo at2 fr2 se la up fd2 st pl tl hT => C fo fw bw oo at2 fr2 se la up fd2 st pl ch tl hch hT)
  · intro n i s hi hI ih
    refine br_f (nI_ge (b := 16) hi (by omega)) (And.intro (xg_i hi) (And.intro (xg_i7 (by omega)) (nm_r (e' := upd s i (a_before i)) (by rw [nI_clamp (by omega)]) (nm_r (nI_1 i) (ih _ ⟨?_, ?_⟩)))))
    · intro n hn
      by_cases e : n = i
      · subst e; exact pk_us
      · exact (pk_un e).trans (hI.1 n (by omega))
    · intro n hn
      exact (pk_un (by omega)).trans (hI.2 n (by omega))
theorem xr_98 {x : Nat} (hx : x < 16) {s0 : Int32} (W : gg_W g) (hs0 : ∀ m, bt s0 m = true ↔ gg_E g x m) {k : Int32} {post : SX → Prop} {J : Int32 → (Nat → Int32) → (Nat → Int32) → (Nat → Int32) → (Nat → Int32) → (Nat → Int32) → (Nat → Int32) → (Nat → Int32) → (Nat → Int32) → (Nat → Int32) → (Nat → Int32) → (Nat → Int32) → (Nat → Int32) → (Nat → Int32) → (Nat → Int32) → (Nat → Int32) → (Nat → Int32) → (Nat → Int32) → (Nat → Int32) → (Nat → Int32) → (Nat → Int32) → (Nat → Int32) → (Nat → Int32) → (Nat → Int32) → (Nat → Int32) → (Nat → Int32) → (Nat → Int32) → (Nat → Int32) → (Nat → Int32) → (Nat → Int32) → (Nat → Int32) → (Nat → Int32) → (Nat → Int32) → (Nat → Int32) → (Nat → Int32) → (Nat → Int32) → (Nat → Int32) → (Nat → Int32) → (Nat → Int32) → (Nat → Int32) → (Nat → Int32) → Prop}
    (C : ∀ be : Nat → Int32, (∀ m, m < 16 → ∀ n, bt (be m) n = true ↔ bt (a_before m) n = true ∨ (n = x ∧ gg_E g x m)) → (J (k + 1) a_acts a_actV a_actC a_ends a_endV a_endX a_endY a_numbers a_byNumber be a_forward a_backward a_orderOf a_at a_from a_semi a_label a_up a_found a_stack a_place a_chiefs a_tails a_edges a_rulers a_loops a_innermost a_outer a_deep a_alive a_values a_present a_code a_target a_pending a_pendingOf a_begins a_openAt a_vars a_told)) :
    ∃ n : Nat, (wX_rank_98 post J k (nI x) f_known f_seen f_many f_ordered f_isStraight f_entered f_todo f_length f_waiting f_tellings f_last f_stopped f_steps f_left f_ran n s0 a_acts a_actV a_actC a_ends a_endV a_endX a_endY a_numbers a_byNumber a_before a_forward a_backward a_orderOf a_at a_from a_semi a_label a_up a_found a_stack a_place a_chiefs a_tails a_edges a_rulers a_loops a_innermost a_outer a_deep a_alive a_values a_present a_code a_target a_pending a_pendingOf a_begins a_openAt a_vars a_told) := by
  refine ⟨17, ?_⟩
  refine bs_lp (σ := Nat → Int32) (fun n s t => (wX_rank_98 post J k (nI x) f_known f_seen f_many f_ordered f_isStraight f_entered f_todo f_length f_waiting f_tellings f_last f_stopped f_steps f_left f_ran n s a_acts a_actV a_actC a_ends a_endV a_endX a_endY a_numbers a_byNumber t a_forward a_backward a_orderOf a_at a_from a_semi a_label a_up a_found a_stack a_place a_chiefs a_tails a_edges a_rulers a_loops a_innermost a_outer a_deep a_alive a_values a_present a_code a_target a_pending a_pendingOf a_begins a_openAt a_vars a_told)) s0 16 (fun i hi => ts_nt (fun h => by have := gg_E16 W ((hs0 i).mp h); omega))
    (fun j t => ∀ m, m < 16 → ∀ n, bt (t m) n = true ↔ bt (a_before m) n = true ∨ (n = x ∧ gg_E g x m ∧ m < j)) ?_ ?_ ?_ a_before ?_ 17 (by omega)
  · intro n t ht
    refine br_t rfl (nm_e (C t ?_))
    intro m hm n
    rw [ht m hm n]
    constructor
    · intro h
      rcases h with h | h
      · exact Or.inl h
      · exact Or.inr ⟨h.1, h.2.1⟩
    · intro h
      rcases h with h | h
      · exact Or.inl h
      · exact Or.inr ⟨h.1, h.2, hm⟩
  · intro i t hi hbi ht m hm n
    rw [ht m hm n]
    constructor
    · intro h
      rcases h with h | h
      · exact Or.inl h
      · exact Or.inr ⟨h.1, h.2.1, by omega⟩
    · intro h
      rcases h with h | h
      · exact Or.inl h
      · by_cases e : m = i
        · subst e
          rw [(hs0 m).mpr h.2.1] at hbi
          cases hbi
        · exact Or.inr ⟨h.1, h.2.1, by omega⟩
  · intro n s i t hi hbi hs hsi hsm ht ih
    refine br_f hs (bs_lw hsi hsm (And.intro (xg_i hi) (And.intro (xg_i hi) (nm_r (e' := upd t i (t i ||| (1 : Int32) <<< (nI x &&& 31))) (by rw [nI_clamp (by omega)]) (nm_e (ih _ ?_))))))
    intro m hm n
    by_cases e : m = i
    · subst e
      rw [pk_us, b_or, Bool.or_eq_true, ht m hm n, xg_oi (m := 0) (by omega)]
      constructor
      · intro h
        rcases h with h | h
        · rcases h with h | h
          · exact Or.inl h
          · exact Or.inr ⟨h.1, h.2.1, by omega⟩
        · exact Or.inr ⟨h.symm, (hs0 m).mp hbi, by omega⟩
      · intro h
        rcases h with h | h
        · exact Or.inl (Or.inl h)
        · exact Or.inr h.1.symm
    · rw [pk_un e, ht m hm n]
      constructor
      · intro h
        rcases h with h | h
        · exact Or.inl h
        · exact Or.inr ⟨h.1, h.2.1, by omega⟩
      · intro h
        rcases h with h | h
        · exact Or.inl h
        · exact Or.inr ⟨h.1, h.2.1, by omega⟩
  · intro m hm n
    constructor
    · intro h; exact Or.inl h
    · intro h
      rcases h with h | h
      · exact h
      · omega
theorem xr_65 (W : gg_W g) (G : (xg_G g a_acts a_actV a_actC a_ends a_endV a_endX a_endY)) (hn : xn_N g f_seen f_many a_byNumber a_numbers) (ht : ∀ n, n < 16 → a_tails n = -1) (hc : ∀ n, n < 16 → a_chiefs n = -1)
    (hbe : ∀ n, n < 16 → a_before n = 0) (hf0 : ∀ n, n < 17 → a_forward n = 0) (hb0 : ∀ n, n < 17 → a_backward n = 0) {post : SX → Prop}
    (C : ∀ (fo : Int32) (be fw bw oo at2 fr2 se la up fd2 st pl ch tl : Nat → Int32), xr_B g be → xr_C g ch → xr_T g tl → post (f_known, f_seen, f_many, fo, f_isStraight, f_entered, f_todo, f_length, f_waiting, f_tellings, f_last, f_stopped, f_steps, f_left, f_ran, a_acts, a_actV, a_actC, a_ends, a_endV, a_endX, a_endY, a_numbers, a_byNumber, be, fw, bw, oo, at2, fr2, se, la, up, fd2, st, pl, ch, tl, a_edges, a_rulers, a_loops, a_innermost, a_outer, a_deep, a_alive, a_values, a_present, a_code, a_target, a_pending, a_pendingOf, a_begins, a_openAt, a_vars, a_told)) :
    ∃ n : Nat, (wX_rank_65 post f_known f_seen f_many f_ordered f_isStraight f_entered f_todo f_length f_waiting f_tellings f_last f_stopped f_steps f_left f_ran n 0 a_acts a_actV a_actC a_ends a_endV a_endX a_endY a_numbers a_byNumber a_before a_forward a_backward a_orderOf a_at a_from a_semi a_label a_up a_found a_stack a_place a_chiefs a_tails a_edges a_rulers a_loops a_innermost a_outer a_deep a_alive a_values a_present a_code a_target a_pending a_pendingOf a_begins a_openAt a_vars a_told) := by
  have hn' := hn
  obtain ⟨n1, n2, n3, n4⟩ := hn
  subst n2
  have hlen := df_ln W
  refine loop_0 (σ := (Nat → Int32) × (Nat → Int32)) (fun n i s => (wX_rank_65 post f_known f_seen (nI (df_o g).length) f_ordered f_isStraight f_entered f_todo f_length f_waiting f_tellings f_last f_stopped f_steps f_left f_ran n (nI i) a_acts a_actV a_actC a_ends a_endV a_endX a_endY a_numbers a_byNumber s.1 s.2 a_backward a_orderOf a_at a_from a_semi a_label a_up a_found a_stack a_place a_chiefs a_tails a_edges a_rulers a_loops a_innermost a_outer a_deep a_alive a_values a_present a_code a_target a_pending a_pendingOf a_begins a_openAt a_vars a_told))
    (fun i s => (∀ m, m < 16 → ∀ n, bt (s.1 m) n = true ↔ gg_R g n ∧ gg_n g n < i ∧ gg_E g n m) ∧ (∀ n, n < 16 → ∀ m, bt (s.2 n) m = true ↔ gg_R g n ∧ gg_n g n < i ∧ gg_E g n m) ∧ s.2 16 = 0) (df_o g).length (a_before, a_forward) ⟨?_, ?_, hf0 16 (by omega)⟩ ?_ ?_
  · intro m hm n
    show bt (a_before m) n = true ↔ _
    rw [hbe m hm, b_0]
    constructor
    · intro h; cases h
    · intro h; omega
  · intro n hn m
    show bt (a_forward n) m = true ↔ _
    rw [hf0 n (by omega), b_0]
    constructor
    · intro h; cases h
    · intro h; omega
  · intro n s hI
    refine br_t (nI_le (Nat.le_refl _) (by omega)) ?_
    have hB : xr_B g s.1 := by
      intro m hm n
      rw [hI.1 m hm n]
      constructor
      · intro h; exact ⟨h.1, h.2.2⟩
      · intro h; exact ⟨h.1, (gg_nl W h.1).1, h.2⟩
    refine xr_134 (a_before := s.1) (a_forward := s.2) W G hn' ht hc hB ?_ hI.2.2 (hb0 16 (by omega)) (fun fo fw bw oo at2 fr2 se la up fd2 st pl ch tl h1 h2 => C fo s.1 fw bw oo at2 fr2 se la up fd2 st pl ch tl hB h1 h2)
    intro n hn m
    rw [hI.2.1 n hn m]
    constructor
    · intro h; exact ⟨h.1, h.2.2⟩
    · intro h; exact ⟨h.1, (gg_nl W h.1).1, h.2⟩
  · intro n i s hi hI ih
    have hgn := gg_ng W hi
    have hx16 := gg_R16 W hgn.1
    have hbn : a_byNumber (nI i).toNatClampNeg = nI ((df_o g).getD i 0) := by rw [nI_clamp (by omega), n3 i hi]
    have hlt : ∀ m, gg_R g m → (gg_n g m < i + 1 ↔ gg_n g m < i ∨ m = (df_o g).getD i 0) := by
      intro m hm
      constructor
      · intro h
        by_cases e : gg_n g m = i
        · exact Or.inr (gg_ni W hm hgn.1 (by rw [e, hgn.2]))
        · exact Or.inl (by omega)
      · intro h
        rcases h with h | h
        · omega
        · rw [h, hgn.2]; omega
    refine br_f (nI_ge hi (by omega)) (And.intro (xg_i (by omega)) (nm_r hbn ?_))
    generalize hx : (df_o g).getD i 0 = x at *
    refine xg_sc W G hx16 ?_
    intro r hr
    refine And.intro (xg_i7 (by omega)) (nm_r (e' := upd s.2 x r) (by rw [xg_u (by omega)]) (And.intro (xg_i7 (by omega)) (nm_r (e' := r) (by rw [nI_clamp (by omega)]; exact pk_us) ?_)))
    refine xr_98 (a_before := s.1) (a_forward := upd s.2 x r) hx16 W hr ?_
    intro be hbe'
    rw [nI_1]
    refine ih (be, upd s.2 x r) ⟨?_, ?_, ?_⟩
    · intro m hm n
      rw [hbe' m hm n, hI.1 m hm n]
      constructor
      · intro h
        rcases h with h | h
        · exact ⟨h.1, by omega, h.2.2⟩
        · obtain ⟨h1, h2⟩ := h
          subst h1
          exact ⟨hgn.1, by omega, h2⟩
      · intro h
        rcases (hlt n h.1).mp h.2.1 with h' | h'
        · exact Or.inl ⟨h.1, h', h.2.2⟩
        · subst h'; exact Or.inr ⟨rfl, h.2.2⟩
    · intro n hn m
      show bt (upd s.2 x r n) m = true ↔ _
      by_cases e : n = x
      · subst e
        rw [pk_us, hr m]
        constructor
        · intro h; exact ⟨hgn.1, by omega, h⟩
        · intro h; exact h.2.2
      · rw [pk_un e, hI.2.1 n hn m]
        constructor
        · intro h; exact ⟨h.1, by omega, h.2.2⟩
        · intro h
          rcases (hlt n h.1).mp h.2.1 with h' | h'
          · exact ⟨h.1, h', h.2.2⟩
          · exact absurd h' e
    · exact (pk_un (by omega)).trans hI.2.2
/-- rank, whole -/
theorem xr_r (W : gg_W g) (G : (xg_G g a_acts a_actV a_actC a_ends a_endV a_endX a_endY)) (hn : xn_N g f_seen f_many a_byNumber a_numbers) {post : SX → Prop}
    (C : ∀ (fo : Int32) (be fw bw oo at2 fr2 se la up fd2 st pl ch tl : Nat → Int32), xr_B g be → xr_C g ch → xr_T g tl → post (f_known, f_seen, f_many, fo, f_isStraight, f_entered, f_todo, f_length, f_waiting, f_tellings, f_last, f_stopped, f_steps, f_left, f_ran, a_acts, a_actV, a_actC, a_ends, a_endV, a_endX, a_endY, a_numbers, a_byNumber, be, fw, bw, oo, at2, fr2, se, la, up, fd2, st, pl, ch, tl, a_edges, a_rulers, a_loops, a_innermost, a_outer, a_deep, a_alive, a_values, a_present, a_code, a_target, a_pending, a_pendingOf, a_begins, a_openAt, a_vars, a_told)) : (wpX_rank post (f_known, f_seen, f_many, f_ordered, f_isStraight, f_entered, f_todo, f_length, f_waiting, f_tellings, f_last, f_stopped, f_steps, f_left, f_ran, a_acts, a_actV, a_actC, a_ends, a_endV, a_endX, a_endY, a_numbers, a_byNumber, a_before, a_forward, a_backward, a_orderOf, a_at, a_from, a_semi, a_label, a_up, a_found, a_stack, a_place, a_chiefs, a_tails, a_edges, a_rulers, a_loops, a_innermost, a_outer, a_deep, a_alive, a_values, a_present, a_code, a_target, a_pending, a_pendingOf, a_begins, a_openAt, a_vars, a_told)) := by
  refine loop_0 (σ := (Nat → Int32) × (Nat → Int32)) (fun n i s => (wX_rank_2 post f_known f_seen f_many f_ordered f_isStraight f_entered f_todo f_length f_waiting f_tellings f_last f_stopped f_steps f_left f_ran n (nI i) a_acts a_actV a_actC a_ends a_endV a_endX a_endY a_numbers a_byNumber a_before s.1 s.2 a_orderOf a_at a_from a_semi a_label a_up a_found a_stack a_place a_chiefs a_tails a_edges a_rulers a_loops a_innermost a_outer a_deep a_alive a_values a_present a_code a_target a_pending a_pendingOf a_begins a_openAt a_vars a_told)) (fun i s => ∀ n, n < i → s.1 n = 0 ∧ s.2 n = 0) 17 (a_forward, a_backward) (fun n hn => by omega) ?_ ?_
  · intro n s hI
    refine br_t (by decide) ?_
    refine loop_0 (σ := (Nat → Int32) × (Nat → Int32) × (Nat → Int32)) (fun n i t => (wX_rank_30 post f_known f_seen f_many f_ordered f_isStraight f_entered f_todo f_length f_waiting f_tellings f_last f_stopped f_steps f_left f_ran n (nI i) a_acts a_actV a_actC a_ends a_endV a_endX a_endY a_numbers a_byNumber t.1 s.1 s.2 a_orderOf a_at a_from a_semi a_label a_up a_found a_stack a_place t.2.1 t.2.2 a_edges a_rulers a_loops a_innermost a_outer a_deep a_alive a_values a_present a_code a_target a_pending a_pendingOf a_begins a_openAt a_vars a_told)) (fun i t => ∀ n, n < i → t.1 n = 0 ∧ t.2.1 n = -1 ∧ t.2.2 n = -1) 16 (a_before, a_chiefs, a_tails) (fun n hn => by omega) ?_ ?_
    · intro n t hJ
      refine br_t (by decide) ?_
      exact xr_65 (a_before := t.1) (a_chiefs := t.2.1) (a_tails := t.2.2) (a_forward := s.1) (a_backward := s.2) W G hn (fun n h => (hJ n h).2.2) (fun n h => (hJ n h).2.1) (fun n h => (hJ n h).1) (fun n h => (hI n h).1) (fun n h => (hI n h).2) C
    · intro n i t hi hJ ih
      refine br_f (nI_ge (b := 16) hi (by omega)) (And.intro (xg_i hi) (nm_r (e' := upd t.1 i 0) (by rw [xg_u (by omega)]) (And.intro (xg_i hi) (nm_r (e' := upd t.2.1 i (-1)) (by rw [bs_vm, xg_u (by omega)]) (And.intro (xg_i7 (by omega)) (nm_r (e' := upd t.2.2 i (-1)) (by rw [bs_vm, xg_u (by omega)]) (nm_r (nI_1 i) (ih (_, _, _) ?_))))))))
      intro j hj
      by_cases ej : j = i
      · subst ej; exact ⟨pk_us, pk_us, pk_us⟩
      · have := hJ j (by omega)
        exact ⟨(pk_un ej).trans this.1, (pk_un ej).trans this.2.1, (pk_un ej).trans this.2.2⟩
  · intro n i s hi hI ih
    refine br_f (nI_ge (b := 17) hi (by omega)) (And.intro (xg_i7 hi) (nm_r (e' := upd s.1 i 0) (by rw [xg_u (by omega)]) (And.intro (xg_i7 hi) (nm_r (e' := upd s.2 i 0) (by rw [xg_u (by omega)]) (nm_r (nI_1 i) (ih (_, _) ?_))))))
    intro j hj
    by_cases ej : j = i
    · subst ej; exact ⟨pk_us, pk_us⟩
    · have := hI j (by omega)
      exact ⟨(pk_un ej).trans this.1, (pk_un ej).trans this.2⟩
end XI
end
section
section GC
/-! propositions as booleans; how many chiefs of all kinds a node has -/
noncomputable def pd_b (p : Prop) : Bool := @decide p (Classical.propDecidable p)
theorem pd_i (p : Prop) : pd_b p = true ↔ p := by
  unfold pd_b
  exact @decide_eq_true_iff p (Classical.propDecidable p)
theorem pd_t {p : Prop} (h : p) : pd_b p = true := (pd_i p).mpr h
theorem pd_f {p : Prop} (h : ¬ p) : pd_b p = false := ts_nt (fun e => h ((pd_i p).mp e))
noncomputable def dm_n (E : Nat → Nat → Prop) (r n : Nat) : Nat := ct_c (fun e => pd_b (dm_D E r e n)) 17
theorem dm_nl {E : Nat → Nat → Prop} {r d n : Nat} (hn : n < 17) (hR : dm_R E r n) (h : dm_I E r d n) : dm_n E r d < dm_n E r n := by
  have := ct_lt (p := fun e => pd_b (dm_D E r e d)) (q := fun e => pd_b (dm_D E r e n)) 17 n hn (fun i _ hi => pd_t (dm_tr ((pd_i _).mp hi) h.2.1)) (pd_f (dm_In hR h)) (pd_t dm_rf)
  exact this
theorem dm_n7 {E : Nat → Nat → Prop} {r n : Nat} : dm_n E r n ≤ 17 := ct_le _ 17
end GC
section XJ
variable {f_known f_seen f_many f_ordered f_isStraight f_entered f_todo f_length f_waiting f_tellings f_last f_stopped f_steps f_ran : Int32} {f_left : Int64} {a_acts a_actV a_actC a_ends a_endV a_endX a_endY a_numbers a_byNumber a_before a_forward a_backward a_orderOf a_at a_from a_semi a_label a_up a_found a_stack a_place a_chiefs a_tails a_edges a_rulers a_loops a_innermost a_outer a_deep a_alive a_values a_present a_code a_target a_pending a_pendingOf a_begins a_openAt a_vars a_told : Nat → Int32} {g : Nat → Nat → Nat}
/-! X: climb, sink -/
def xe_E (g : Nat → Nat → Nat) (m i : Nat) : Prop := ∃ p, gg_R g p ∧ gg_E g p i ∧ gg_D g m p ∧ ¬ (gg_D g m i ∧ m ≠ i)
def gg_T (g : Nat → Nat → Nat) (n : Nat) : Prop := dm_R (gg_B g) 16 n
def gg_P (g : Nat → Nat → Nat) (d n : Nat) : Prop := dm_D (gg_B g) 16 d n
def xe_U (g : Nat → Nat → Nat) (m i : Nat) : Prop := ∃ s, gg_R g i ∧ gg_E g i s ∧ gg_T g s ∧ gg_P g m s ∧ ¬ (gg_P g m i ∧ m ≠ i)
theorem gg_T17 {g : Nat → Nat → Nat} (W : gg_W g) {n : Nat} (h : gg_T g n) : n < 17 := by
  refine gr_in (Q := fun n => n < 17) h (by omega) ?_
  intro x y _ _ e _
  rcases e with e | e
  · have := gg_R16 W e.2.1; omega
  · have := gg_R16 W e.2.1; omega
theorem dm_sI {E : Nat → Nat → Prop} {r c n e : Nat} (hn : dm_R E r n) (h : dm_I E r c n) : dm_D E r e c ↔ dm_D E r e n ∧ e ≠ n := by
  constructor
  · intro he
    refine ⟨dm_tr he h.2.1, fun e2 => ?_⟩
    subst e2
    exact dm_In hn h he
  · intro he
    exact h.2.2 e he.2 he.1
theorem xe_cl (W : gg_W g) (hC : xr_C g a_chiefs) {p n : Nat} (hp : gg_R g p) (hE : gg_E g p n) {post : SX → Prop}
    (C : ∀ ed : Nat → Int32, (∀ m, m < 16 → ∀ i, bt (ed m) i = true ↔ bt (a_edges m) i = true ∨ (i = n ∧ gg_D g m p ∧ ¬ (gg_D g m n ∧ m ≠ n))) → post (f_known, f_seen, f_many, f_ordered, f_isStraight, f_entered, f_todo, f_length, f_waiting, f_tellings, f_last, f_stopped, f_steps, f_left, f_ran, a_acts, a_actV, a_actC, a_ends, a_endV, a_endX, a_endY, a_numbers, a_byNumber, a_before, a_forward, a_backward, a_orderOf, a_at, a_from, a_semi, a_label, a_up, a_found, a_stack, a_place, a_chiefs, a_tails, ed, a_rulers, a_loops, a_innermost, a_outer, a_deep, a_alive, a_values, a_present, a_code, a_target, a_pending, a_pendingOf, a_begins, a_openAt, a_vars, a_told)) : (wpX_climb post (f_known, f_seen, f_many, f_ordered, f_isStraight, f_entered, f_todo, f_length, f_waiting, f_tellings, f_last, f_stopped, f_steps, f_left, f_ran, a_acts, a_actV, a_actC, a_ends, a_endV, a_endX, a_endY, a_numbers, a_byNumber, a_before, a_forward, a_backward, a_orderOf, a_at, a_from, a_semi, a_label, a_up, a_found, a_stack, a_place, a_chiefs, a_tails, a_edges, a_rulers, a_loops, a_innermost, a_outer, a_deep, a_alive, a_values, a_present, a_code, a_target, a_pending, a_pendingOf, a_begins, a_openAt, a_vars, a_told) (nI p) (nI n)) := by
  have hRn : gg_R g n := gr_st hp hE trivial
  have hn16 := gg_R16 W hRn
  have key : ∀ (f m : Nat) (ed : Nat → Int32), gg_n g m + 1 < f → gg_R g m → gg_D g m p → (∀ c, n ≠ 0 → dm_I (gg_E g) 0 c n → gg_D g c m) →
      (∀ e, e < 16 → ∀ i, bt (ed e) i = true ↔ bt (a_edges e) i = true ∨ (i = n ∧ gg_D g e p ∧ ¬ gg_D g e m)) → (wX_climb_2 post (nI n) f_known f_seen f_many f_ordered f_isStraight f_entered f_todo f_length f_waiting f_tellings f_last f_stopped f_steps f_left f_ran f (nI m) a_acts a_actV a_actC a_ends a_endV a_endX a_endY a_numbers a_byNumber a_before a_forward a_backward a_orderOf a_at a_from a_semi a_label a_up a_found a_stack a_place a_chiefs a_tails ed a_rulers a_loops a_innermost a_outer a_deep a_alive a_values a_present a_code a_target a_pending a_pendingOf a_begins a_openAt a_vars a_told) := by
    intro f
    induction f with
    | zero => intro m ed h; omega
    | succ f ih =>
      intro m ed hf hRm hD hc hed
      have hm16 := gg_R16 W hRm
      have hmark : ∀ e, e < 16 → ∀ i, bt (upd ed m (ed m ||| (1 : Int32) <<< (nI n &&& 31)) e) i = true ↔ bt (a_edges e) i = true ∨ (i = n ∧ gg_D g e p ∧ (¬ gg_D g e m ∨ e = m)) := by
        intro e he i
        by_cases em : e = m
        · subst em
          rw [pk_us, b_or, Bool.or_eq_true, hed e he i, xg_oi (m := 0) (by omega)]
          constructor
          · intro h
            rcases h with h | h
            · rcases h with h | h
              · exact Or.inl h
              · exact Or.inr ⟨h.1, h.2.1, Or.inr rfl⟩
            · exact Or.inr ⟨h.symm, hD, Or.inr rfl⟩
          · intro h
            rcases h with h | h
            · exact Or.inl (Or.inl h)
            · exact Or.inr h.1.symm
        · rw [pk_un em, hed e he i]
          constructor
          · intro h
            rcases h with h | h
            · exact Or.inl h
            · exact Or.inr ⟨h.1, h.2.1, Or.inl h.2.2⟩
          · intro h
            rcases h with h | h
            · exact Or.inl h
            · rcases h.2.2 with h' | h'
              · exact Or.inr ⟨h.1, h.2.1, h'⟩
              · exact absurd h' em
      refine br_f (nI_pos (by omega)) (And.intro (xg_i hn16) ?_)
      have ecn : a_chiefs (nI n).toNatClampNeg = a_chiefs n := xg_c (by omega) _
      have ecm : a_chiefs (nI m).toNatClampNeg = a_chiefs m := xg_c (by omega) _
      have eu : upd ed (nI m).toNatClampNeg ((ed (nI m).toNatClampNeg) ||| ((1 : Int32) <<< (nI n &&& 31))) = upd ed m (ed m ||| (1 : Int32) <<< (nI n &&& 31)) := by rw [nI_clamp (by omega)]
      have im := xg_i hm16
      -- going up
      have up : ∀ d, d < 16 → a_chiefs m = nI d → dm_I (gg_E g) 0 d m → (∀ c, n ≠ 0 → dm_I (gg_E g) 0 c n → c ≠ m) → (wX_climb_2 post (nI n) f_known f_seen f_many f_ordered f_isStraight f_entered f_todo f_length f_waiting f_tellings f_last f_stopped f_steps f_left f_ran f (nI d) a_acts a_actV a_actC a_ends a_endV a_endX a_endY a_numbers a_byNumber a_before a_forward a_backward a_orderOf a_at a_from a_semi a_label a_up a_found a_stack a_place a_chiefs a_tails (upd ed m (ed m ||| (1 : Int32) <<< (nI n &&& 31))) a_rulers a_loops a_innermost a_outer a_deep a_alive a_values a_present a_code a_target a_pending a_pendingOf a_begins a_openAt a_vars a_told) := by
        intro d hd _ hI hcm
        have hlt := gg_nD W hRm hI.2.1 hI.1
        refine ih d _ (by omega) (dm_re hRm hI.2.1) (dm_tr hI.2.1 hD) (fun c h0 hcI => hI.2.2 c (hcm c h0 hcI) (hc c h0 hcI)) ?_
        intro e he i
        rw [hmark e he i]
        have : (¬ gg_D g e m ∨ e = m) ↔ ¬ gg_D g e d := by
          have h1 := dm_sI (e := e) hRm hI
          constructor
          · intro h h2
            have := h1.mp h2
            rcases h with h | h
            · exact h this.1
            · exact this.2 h
          · intro h
            by_cases hem : e = m
            · exact Or.inr hem
            · exact Or.inl (fun h2 => h (h1.mpr ⟨h2, hem⟩))
        rw [this]
      rcases hC n hn16 with ⟨hcn, hz⟩ | ⟨c, hc16, hcn, _, hn0, hcI⟩
      · have hn0 : n = 0 := by
          rcases hz with h | h
          · exact absurd hRn h
          · exact h
        refine br_f (by rw [ecn, hcn]; exact bs_ne (by omega)) (And.intro im (And.intro im (nm_r eu (And.intro im (nm_r ecm ?_)))))
        rcases hC m hm16 with ⟨hcm, hzm⟩ | ⟨d, hd16, hcm, _, _, hdI⟩
        · have hm0 : m = 0 := by
            rcases hzm with h | h
            · exact absurd hRm h
            · exact h
          rw [hcm]
          obtain ⟨f', rfl⟩ : ∃ f', f = f' + 1 := ⟨f - 1, by omega⟩
          refine br_t bs_n1 (C _ ?_)
          intro e he i
          rw [hmark e he i]
          have h1 : (¬ gg_D g e m ∨ e = m) ↔ ¬ (gg_D g e n ∧ e ≠ n) := by
            rw [hm0, hn0]
            constructor
            · intro h h2
              exact h2.2 (dm_rt h2.1)
            · intro _
              by_cases h0 : e = 0
              · exact Or.inr h0
              · exact Or.inl (fun h => h0 (dm_rt h))
          rw [h1]
        · rw [hcm]
          exact up d hd16 hcm hdI (fun c h0 => absurd hn0 h0)
      · by_cases hmc : m = c
        · subst hmc
          refine br_t (by rw [ecn, hcn]) (C ed ?_)
          intro e he i
          rw [hed e he i]
          have : gg_D g e m ↔ (gg_D g e n ∧ e ≠ n) := dm_sI hRn hcI
          rw [this]
        · refine br_f (by rw [ecn, hcn]; exact fun h => hmc (bs_inj h (by omega) (by omega))) (And.intro im (And.intro im (nm_r eu (And.intro im (nm_r ecm ?_)))))
          rcases hC m hm16 with ⟨hcm, hzm⟩ | ⟨d, hd16, hcm, _, _, hdI⟩
          · exfalso
            have hm0 : m = 0 := by
              rcases hzm with h | h
              · exact absurd hRm h
              · exact h
            have := hc c hn0 hcI
            rw [hm0] at this
            have := dm_rt this
            omega
          · rw [hcm]
            refine up d hd16 hcm hdI (fun c' _ hc' => ?_)
            rw [dm_un hRn hc' hcI]
            exact Ne.symm hmc
  refine ⟨gg_n g p + 2, key _ p a_edges (by omega) hp dm_rf ?_ ?_⟩
  · intro c _ hI
    exact dm_pr hI.2.1 hI.1 hE
  · intro e he i
    constructor
    · intro h; exact Or.inl h
    · intro h
      rcases h with h | h
      · exact h
      · exact absurd h.2.1 h.2.2
theorem xe_sk (W : gg_W g) (hT : xr_T g a_tails) {s n : Nat} (hn : gg_R g n) (hE : gg_E g n s) (htn : gg_T g n) {post : SX → Prop}
    (C : ∀ ru : Nat → Int32, (∀ m, m < 16 → ∀ i, bt (ru m) i = true ↔ bt (a_rulers m) i = true ∨ (i = n ∧ gg_T g s ∧ gg_P g m s ∧ ¬ (gg_P g m n ∧ m ≠ n))) → post (f_known, f_seen, f_many, f_ordered, f_isStraight, f_entered, f_todo, f_length, f_waiting, f_tellings, f_last, f_stopped, f_steps, f_left, f_ran, a_acts, a_actV, a_actC, a_ends, a_endV, a_endX, a_endY, a_numbers, a_byNumber, a_before, a_forward, a_backward, a_orderOf, a_at, a_from, a_semi, a_label, a_up, a_found, a_stack, a_place, a_chiefs, a_tails, a_edges, ru, a_loops, a_innermost, a_outer, a_deep, a_alive, a_values, a_present, a_code, a_target, a_pending, a_pendingOf, a_begins, a_openAt, a_vars, a_told)) : (wpX_sink post (f_known, f_seen, f_many, f_ordered, f_isStraight, f_entered, f_todo, f_length, f_waiting, f_tellings, f_last, f_stopped, f_steps, f_left, f_ran, a_acts, a_actV, a_actC, a_ends, a_endV, a_endX, a_endY, a_numbers, a_byNumber, a_before, a_forward, a_backward, a_orderOf, a_at, a_from, a_semi, a_label, a_up, a_found, a_stack, a_place, a_chiefs, a_tails, a_edges, a_rulers, a_loops, a_innermost, a_outer, a_deep, a_alive, a_values, a_present, a_code, a_target, a_pending, a_pendingOf, a_begins, a_openAt, a_vars, a_told) (nI s) (nI n)) := by
  have hn16 := gg_R16 W hn
  have hs16 := gg_E16 W hE
  have hB : gg_B g s n := Or.inl ⟨hs16, hn, hE⟩
  have es : a_tails (nI s).toNatClampNeg = a_tails s := xg_c (by omega) _
  have en : a_tails (nI n).toNatClampNeg = a_tails n := xg_c (by omega) _
  rcases hT s hs16 with ⟨hts, hs⟩ | ⟨ds, hds, hts, hsT, hsI⟩
  · refine ⟨1, And.intro (xg_i7 (by omega)) (br_t (by rw [es, hts]; exact bs_n1) (C a_rulers ?_))⟩
    intro m hm i
    constructor
    · intro h; exact Or.inl h
    · intro h
      rcases h with h | h
      · exact h
      · exact absurd h.2.1 hs
  · rcases hT n hn16 with ⟨_, h⟩ | ⟨t, ht17, htt, _, htI⟩
    · exact absurd htn h
    · have key : ∀ (f m : Nat) (ru : Nat → Int32), dm_n (gg_B g) 16 m < f → gg_T g m → gg_P g m s → gg_P g t m →
          (∀ e, e < 16 → ∀ i, bt (ru e) i = true ↔ bt (a_rulers e) i = true ∨ (i = n ∧ gg_P g e s ∧ ¬ gg_P g e m)) → (wX_sink_2 post (nI s) (nI n) f_known f_seen f_many f_ordered f_isStraight f_entered f_todo f_length f_waiting f_tellings f_last f_stopped f_steps f_left f_ran f (nI m) a_acts a_actV a_actC a_ends a_endV a_endX a_endY a_numbers a_byNumber a_before a_forward a_backward a_orderOf a_at a_from a_semi a_label a_up a_found a_stack a_place a_chiefs a_tails a_edges ru a_loops a_innermost a_outer a_deep a_alive a_values a_present a_code a_target a_pending a_pendingOf a_begins a_openAt a_vars a_told) := by
        intro f
        induction f with
        | zero => intro m ru h; omega
        | succ f ih =>
          intro m ru hf hTm hP htm hru
          have hm17 := gg_T17 W hTm
          have fin : m = t → ∀ m', m' < 16 → ∀ i, bt (ru m') i = true ↔ bt (a_rulers m') i = true ∨ (i = n ∧ gg_T g s ∧ gg_P g m' s ∧ ¬ (gg_P g m' n ∧ m' ≠ n)) := by
            intro e m' hm' i
            subst e
            rw [hru m' hm' i]
            have h1 : gg_P g m' m ↔ (gg_P g m' n ∧ m' ≠ n) := dm_sI htn htI
            rw [h1]
            constructor
            · intro h
              rcases h with h | h
              · exact Or.inl h
              · exact Or.inr ⟨h.1, hsT, h.2⟩
            · intro h
              rcases h with h | h
              · exact Or.inl h
              · exact Or.inr ⟨h.1, h.2.2⟩
          refine And.intro (xg_i7 (by omega)) (br_f (by rw [es, hts]; exact nI_pos (by omega)) ?_)
          by_cases h16 : m = 16
          · refine br_t (by rw [h16]; rfl) (C ru (fin ?_))
            rw [h16] at htm
            rw [h16]
            exact (dm_rt htm).symm
          · refine br_f (fun h => h16 (bs_inj (b := 16) h (by omega) (by omega))) (And.intro (xg_i7 (by omega)) ?_)
            by_cases hmt : m = t
            · exact br_t (by rw [en, htt, hmt]) (C ru (fin hmt))
            · have im : vp_in (nI m) 17 := xg_i7 hm17
              rcases hT m (by omega) with ⟨_, h⟩ | ⟨d, hd17, hdm, _, hdI⟩
              · exact absurd hTm h
              · refine br_f (by rw [en, htt]; exact fun h => hmt (bs_inj h (by omega) (by omega))) (And.intro im (And.intro im (nm_r (e' := upd ru m (ru m ||| (1 : Int32) <<< (nI n &&& 31))) (by rw [nI_clamp (by omega)]) (And.intro im (nm_r (e' := nI d) (by rw [nI_clamp (by omega), hdm]) ?_)))))
                have hlt := dm_nl hm17 hTm hdI
                refine ih d _ (by omega) (dm_re hTm hdI.2.1) (dm_tr hdI.2.1 hP) (hdI.2.2 t (Ne.symm hmt) htm) ?_
                intro e he i
                have h1 : gg_P g e d ↔ (gg_P g e m ∧ e ≠ m) := dm_sI hTm hdI
                rw [h1]
                by_cases em : e = m
                · subst em
                  rw [pk_us, b_or, Bool.or_eq_true, hru e he i, xg_oi (m := 0) (by omega)]
                  constructor
                  · intro h
                    rcases h with h | h
                    · rcases h with h | h
                      · exact Or.inl h
                      · exact Or.inr ⟨h.1, h.2.1, fun h2 => h2.2 rfl⟩
                    · exact Or.inr ⟨h.symm, hP, fun h2 => h2.2 rfl⟩
                  · intro h
                    rcases h with h | h
                    · exact Or.inl (Or.inl h)
                    · exact Or.inr h.1.symm
                · rw [pk_un em, hru e he i]
                  constructor
                  · intro h
                    rcases h with h | h
                    · exact Or.inl h
                    · exact Or.inr ⟨h.1, h.2.1, fun h2 => h.2.2 h2.1⟩
                  · intro h
                    rcases h with h | h
                    · exact Or.inl h
                    · exact Or.inr ⟨h.1, h.2.1, fun h2 => h.2.2 ⟨h2, em⟩⟩
      refine ⟨18, key 18 s a_rulers (by have := dm_n7 (E := gg_B g) (r := 16) (n := s); omega) hsT dm_rf (dm_pr htI.2.1 htI.1 hB) ?_⟩
      intro e he i
      constructor
      · intro h; exact Or.inl h
      · intro h
        rcases h with h | h
        · exact h
        · exact absurd h.2.1 h.2.2
end XJ
end
section
section XK
variable {f_known f_seen f_many f_ordered f_isStraight f_entered f_todo f_length f_waiting f_tellings f_last f_stopped f_steps f_ran : Int32} {f_left : Int64} {a_acts a_actV a_actC a_ends a_endV a_endX a_endY a_numbers a_byNumber a_before a_forward a_backward a_orderOf a_at a_from a_semi a_label a_up a_found a_stack a_place a_chiefs a_tails a_edges a_rulers a_loops a_innermost a_outer a_deep a_alive a_values a_present a_code a_target a_pending a_pendingOf a_begins a_openAt a_vars a_told : Nat → Int32} {g : Nat → Nat → Nat}
theorem xe_104 (W : gg_W g) (hT : xr_T g a_tails) {x : Nat} (hx : gg_R g x) (hTx : gg_T g x) {s0 : Int32} (hs0 : ∀ m, bt s0 m = true ↔ gg_E g x m) {k : Int32} {post : SX → Prop} {J : Int32 → Int32 → Int32 → Int32 → Int32 → Int32 → Int32 → Int32 → Int32 → Int32 → Int32 → Int32 → Int32 → Int32 → Int64 → Int32 → (Nat → Int32) → (Nat → Int32) → (Nat → Int32) → (Nat → Int32) → (Nat → Int32) → (Nat → Int32) → (Nat → Int32) → (Nat → Int32) → (Nat → Int32) → (Nat → Int32) → (Nat → Int32) → (Nat → Int32) → (Nat → Int32) → (Nat → Int32) → (Nat → Int32) → (Nat → Int32) → (Nat → Int32) → (Nat → Int32) → (Nat → Int32) → (Nat → Int32) → (Nat → Int32) → (Nat → Int32) → (Nat → Int32) → (Nat → Int32) → (Nat → Int32) → (Nat → Int32) → (Nat → Int32) → (Nat → Int32) → (Nat → Int32) → (Nat → Int32) → (Nat → Int32) → (Nat → Int32) → (Nat → Int32) → (Nat → Int32) → (Nat → Int32) → (Nat → Int32) → (Nat → Int32) → (Nat → Int32) → (Nat → Int32) → (Nat → Int32) → Prop}
    (C : ∀ ru : Nat → Int32, (∀ m, m < 16 → ∀ i, bt (ru m) i = true ↔ bt (a_rulers m) i = true ∨ (i = x ∧ xe_U g m x)) → (J (k + 1) f_known f_seen f_many f_ordered f_isStraight f_entered f_todo f_length f_waiting f_tellings f_last f_stopped f_steps f_left f_ran a_acts a_actV a_actC a_ends a_endV a_endX a_endY a_numbers a_byNumber a_before a_forward a_backward a_orderOf a_at a_from a_semi a_label a_up a_found a_stack a_place a_chiefs a_tails a_edges ru a_loops a_innermost a_outer a_deep a_alive a_values a_present a_code a_target a_pending a_pendingOf a_begins a_openAt a_vars a_told)) :
    ∃ n : Nat, (wX_findEdges_104 post J k (nI x) n s0 f_known f_seen f_many f_ordered f_isStraight f_entered f_todo f_length f_waiting f_tellings f_last f_stopped f_steps f_left f_ran a_acts a_actV a_actC a_ends a_endV a_endX a_endY a_numbers a_byNumber a_before a_forward a_backward a_orderOf a_at a_from a_semi a_label a_up a_found a_stack a_place a_chiefs a_tails a_edges a_rulers a_loops a_innermost a_outer a_deep a_alive a_values a_present a_code a_target a_pending a_pendingOf a_begins a_openAt a_vars a_told) := by
  refine ⟨17, ?_⟩
  refine bs_lp (σ := Nat → Int32) (fun n s t => (wX_findEdges_104 post J k (nI x) n s f_known f_seen f_many f_ordered f_isStraight f_entered f_todo f_length f_waiting f_tellings f_last f_stopped f_steps f_left f_ran a_acts a_actV a_actC a_ends a_endV a_endX a_endY a_numbers a_byNumber a_before a_forward a_backward a_orderOf a_at a_from a_semi a_label a_up a_found a_stack a_place a_chiefs a_tails a_edges t a_loops a_innermost a_outer a_deep a_alive a_values a_present a_code a_target a_pending a_pendingOf a_begins a_openAt a_vars a_told)) s0 16 (fun i hi => ts_nt (fun h => by have := gg_E16 W ((hs0 i).mp h); omega))
    (fun j t => ∀ m, m < 16 → ∀ i, bt (t m) i = true ↔ bt (a_rulers m) i = true ∨ (i = x ∧ ∃ s, s < j ∧ gg_E g x s ∧ gg_T g s ∧ gg_P g m s ∧ ¬ (gg_P g m x ∧ m ≠ x))) ?_ ?_ ?_ a_rulers ?_ 17 (by omega)
  · intro n t ht
    refine br_t rfl (nm_e (C t ?_))
    intro m hm i
    rw [ht m hm i]
    constructor
    · intro h
      rcases h with h | ⟨h, s, _, h2⟩
      · exact Or.inl h
      · exact Or.inr ⟨h, s, hx, h2⟩
    · intro h
      rcases h with h | ⟨h, s, _, h2⟩
      · exact Or.inl h
      · exact Or.inr ⟨h, s, gg_E16 W h2.1, h2⟩
  · intro i t hi hbi ht m hm i'
    rw [ht m hm i']
    constructor
    · intro h
      rcases h with h | ⟨h, s, hs, h2⟩
      · exact Or.inl h
      · exact Or.inr ⟨h, s, by omega, h2⟩
    · intro h
      rcases h with h | ⟨h, s, hs, h2⟩
      · exact Or.inl h
      · refine Or.inr ⟨h, s, ?_, h2⟩
        by_cases e : s = i
        · subst e
          rw [(hs0 s).mpr h2.1] at hbi
          cases hbi
        · omega
  · intro n s i t hi hbi hs hsi hsm ht ih
    refine br_f hs (bs_lw hsi hsm ?_)
    refine xe_sk (a_rulers := t) W hT hx ((hs0 i).mp hbi) hTx ?_
    intro ru hru
    refine nm_e (ih ru ?_)
    intro m hm i'
    rw [hru m hm i', ht m hm i']
    constructor
    · intro h
      rcases h with h | h
      · rcases h with h | ⟨h, s, hs, h2⟩
        · exact Or.inl h
        · exact Or.inr ⟨h, s, by omega, h2⟩
      · exact Or.inr ⟨h.1, i, by omega, (hs0 i).mp hbi, h.2⟩
    · intro h
      rcases h with h | ⟨h, s, hs, h2⟩
      · exact Or.inl (Or.inl h)
      · by_cases e : s = i
        · subst e
          exact Or.inr ⟨h, h2.2⟩
        · exact Or.inl (Or.inr ⟨h, s, by omega, h2⟩)
  · intro m hm i
    constructor
    · intro h; exact Or.inl h
    · intro h
      rcases h with h | ⟨h, s, hs, h2⟩
      · exact h
      · omega
theorem xe_60 (W : gg_W g) (G : (xg_G g a_acts a_actV a_actC a_ends a_endV a_endX a_endY)) (hB : xr_B g a_before) (hC : xr_C g a_chiefs) (hT : xr_T g a_tails) {x : Nat} (hx : gg_R g x) {k : Int32} {post : SX → Prop} {J : Int32 → Int32 → Int32 → Int32 → Int32 → Int32 → Int32 → Int32 → Int32 → Int32 → Int32 → Int32 → Int32 → Int32 → Int64 → Int32 → (Nat → Int32) → (Nat → Int32) → (Nat → Int32) → (Nat → Int32) → (Nat → Int32) → (Nat → Int32) → (Nat → Int32) → (Nat → Int32) → (Nat → Int32) → (Nat → Int32) → (Nat → Int32) → (Nat → Int32) → (Nat → Int32) → (Nat → Int32) → (Nat → Int32) → (Nat → Int32) → (Nat → Int32) → (Nat → Int32) → (Nat → Int32) → (Nat → Int32) → (Nat → Int32) → (Nat → Int32) → (Nat → Int32) → (Nat → Int32) → (Nat → Int32) → (Nat → Int32) → (Nat → Int32) → (Nat → Int32) → (Nat → Int32) → (Nat → Int32) → (Nat → Int32) → (Nat → Int32) → (Nat → Int32) → (Nat → Int32) → (Nat → Int32) → (Nat → Int32) → (Nat → Int32) → (Nat → Int32) → (Nat → Int32) → (Nat → Int32) → Prop}
    (C : ∀ ed ru : Nat → Int32, (∀ m, m < 16 → ∀ i, bt (ed m) i = true ↔ bt (a_edges m) i = true ∨ (i = x ∧ xe_E g m x)) → (∀ m, m < 16 → ∀ i, bt (ru m) i = true ↔ bt (a_rulers m) i = true ∨ (i = x ∧ xe_U g m x)) → (J (k + 1) f_known f_seen f_many f_ordered f_isStraight f_entered f_todo f_length f_waiting f_tellings f_last f_stopped f_steps f_left f_ran a_acts a_actV a_actC a_ends a_endV a_endX a_endY a_numbers a_byNumber a_before a_forward a_backward a_orderOf a_at a_from a_semi a_label a_up a_found a_stack a_place a_chiefs a_tails ed ru a_loops a_innermost a_outer a_deep a_alive a_values a_present a_code a_target a_pending a_pendingOf a_begins a_openAt a_vars a_told)) :
    ∃ n : Nat, (wX_findEdges_60 post J k (nI x) n (a_before x) f_known f_seen f_many f_ordered f_isStraight f_entered f_todo f_length f_waiting f_tellings f_last f_stopped f_steps f_left f_ran a_acts a_actV a_actC a_ends a_endV a_endX a_endY a_numbers a_byNumber a_before a_forward a_backward a_orderOf a_at a_from a_semi a_label a_up a_found a_stack a_place a_chiefs a_tails a_edges a_rulers a_loops a_innermost a_outer a_deep a_alive a_values a_present a_code a_target a_pending a_pendingOf a_begins a_openAt a_vars a_told) := by
  have hx16 := gg_R16 W hx
  refine ⟨17, ?_⟩
  refine bs_lp (σ := Nat → Int32) (fun n s t => (wX_findEdges_60 post J k (nI x) n s f_known f_seen f_many f_ordered f_isStraight f_entered f_todo f_length f_waiting f_tellings f_last f_stopped f_steps f_left f_ran a_acts a_actV a_actC a_ends a_endV a_endX a_endY a_numbers a_byNumber a_before a_forward a_backward a_orderOf a_at a_from a_semi a_label a_up a_found a_stack a_place a_chiefs a_tails t a_rulers a_loops a_innermost a_outer a_deep a_alive a_values a_present a_code a_target a_pending a_pendingOf a_begins a_openAt a_vars a_told)) (a_before x) 16 (fun i hi => ts_nt (fun h => by have := gg_R16 W ((hB x hx16 i).mp h).1; omega))
    (fun j t => ∀ m, m < 16 → ∀ i, bt (t m) i = true ↔ bt (a_edges m) i = true ∨ (i = x ∧ ∃ p, p < j ∧ gg_R g p ∧ gg_E g p x ∧ gg_D g m p ∧ ¬ (gg_D g m x ∧ m ≠ x))) ?_ ?_ ?_ a_edges ?_ 17 (by omega)
  · intro n t ht
    have he : ∀ m, m < 16 → ∀ i, bt (t m) i = true ↔ bt (a_edges m) i = true ∨ (i = x ∧ xe_E g m x) := by
      intro m hm i
      rw [ht m hm i]
      constructor
      · intro h
        rcases h with h | ⟨h, s, _, h2⟩
        · exact Or.inl h
        · exact Or.inr ⟨h, s, h2⟩
      · intro h
        rcases h with h | ⟨h, s, h2⟩
        · exact Or.inl h
        · exact Or.inr ⟨h, s, gg_R16 W h2.1, h2⟩
    have et : a_tails (nI x).toNatClampNeg = a_tails x := xg_c (by omega) _
    refine br_t rfl (And.intro (xg_i7 (by omega)) ?_)
    rcases hT x hx16 with ⟨htx, hnT⟩ | ⟨d, hd, htx, hTx, _⟩
    · refine br_f (by rw [et, htx]; exact bs_n1') (nm_e (C t a_rulers he ?_))
      intro m hm i
      constructor
      · intro h; exact Or.inl h
      · intro h
        rcases h with h | ⟨h, s, h1, h2, h3, _⟩
        · exact h
        · exact absurd (gr_st h3 (Or.inl ⟨gg_E16 W h2, h1, h2⟩) trivial) hnT
    · refine br_t (by rw [et, htx]; exact nI_pos' (by omega)) ?_
      refine xg_sc W G hx16 ?_
      intro r hr
      exact xe_104 (a_edges := t) W hT hx hTx hr (fun ru hru => C t ru he hru)
  · intro i t hi hbi ht m hm i'
    rw [ht m hm i']
    constructor
    · intro h
      rcases h with h | ⟨h, s, hs, h2⟩
      · exact Or.inl h
      · exact Or.inr ⟨h, s, by omega, h2⟩
    · intro h
      rcases h with h | ⟨h, s, hs, h2⟩
      · exact Or.inl h
      · refine Or.inr ⟨h, s, ?_, h2⟩
        by_cases e : s = i
        · subst e
          rw [(hB x hx16 s).mpr ⟨h2.1, h2.2.1⟩] at hbi
          cases hbi
        · omega
  · intro n s i t hi hbi hs hsi hsm ht ih
    have hp := (hB x hx16 i).mp hbi
    refine br_f hs (bs_lw hsi hsm ?_)
    refine xe_cl (a_edges := t) W hC hp.1 hp.2 ?_
    intro ed hed
    refine nm_e (ih ed ?_)
    intro m hm i'
    rw [hed m hm i', ht m hm i']
    constructor
    · intro h
      rcases h with h | h
      · rcases h with h | ⟨h, s, hs, h2⟩
        · exact Or.inl h
        · exact Or.inr ⟨h, s, by omega, h2⟩
      · exact Or.inr ⟨h.1, i, by omega, hp.1, hp.2, h.2⟩
    · intro h
      rcases h with h | ⟨h, s, hs, h2⟩
      · exact Or.inl (Or.inl h)
      · by_cases e : s = i
        · subst e
          exact Or.inr ⟨h, h2.2.2⟩
        · exact Or.inl (Or.inr ⟨h, s, by omega, h2⟩)
  · intro m hm i
    constructor
    · intro h; exact Or.inl h
    · intro h
      rcases h with h | ⟨h, s, hs, h2⟩
      · exact h
      · omega
theorem gg_lt {g : Nat → Nat → Nat} (W : gg_W g) {i : Nat} (hi : i < (df_o g).length) {m : Nat} (hm : gg_R g m) : gg_n g m < i + 1 ↔ gg_n g m < i ∨ m = (df_o g).getD i 0 := by
  have hgn := gg_ng W hi
  constructor
  · intro h
    by_cases e : gg_n g m = i
    · exact Or.inr (gg_ni W hm hgn.1 (by rw [e, hgn.2]))
    · exact Or.inl (by omega)
  · intro h
    rcases h with h | h
    · omega
    · rw [h, hgn.2]; omega
/-- findEdges, whole -/
def xe_Ed (g : Nat → Nat → Nat) (a_edges : Nat → Int32) : Prop := ∀ m, m < 16 → ∀ i, bt (a_edges m) i = true ↔ xe_E g m i
def xe_Ru (g : Nat → Nat → Nat) (a_rulers : Nat → Int32) : Prop := ∀ m, m < 16 → ∀ i, bt (a_rulers m) i = true ↔ xe_U g m i
theorem xe_f (W : gg_W g) (G : (xg_G g a_acts a_actV a_actC a_ends a_endV a_endX a_endY)) (hn : xn_N g f_seen f_many a_byNumber a_numbers) (hB : xr_B g a_before) (hC : xr_C g a_chiefs) (hT : xr_T g a_tails) {post : SX → Prop}
    (C : ∀ ed ru : Nat → Int32, xe_Ed g ed → xe_Ru g ru → post (f_known, f_seen, f_many, f_ordered, f_isStraight, f_entered, f_todo, f_length, f_waiting, f_tellings, f_last, f_stopped, f_steps, f_left, f_ran, a_acts, a_actV, a_actC, a_ends, a_endV, a_endX, a_endY, a_numbers, a_byNumber, a_before, a_forward, a_backward, a_orderOf, a_at, a_from, a_semi, a_label, a_up, a_found, a_stack, a_place, a_chiefs, a_tails, ed, ru, a_loops, a_innermost, a_outer, a_deep, a_alive, a_values, a_present, a_code, a_target, a_pending, a_pendingOf, a_begins, a_openAt, a_vars, a_told)) : (wpX_findEdges post (f_known, f_seen, f_many, f_ordered, f_isStraight, f_entered, f_todo, f_length, f_waiting, f_tellings, f_last, f_stopped, f_steps, f_left, f_ran, a_acts, a_actV, a_actC, a_ends, a_endV, a_endX, a_endY, a_numbers, a_byNumber, a_before, a_forward, a_backward, a_orderOf, a_at, a_from, a_semi, a_label, a_up, a_found, a_stack, a_place, a_chiefs, a_tails, a_edges, a_rulers, a_loops, a_innermost, a_outer, a_deep, a_alive, a_values, a_present, a_code, a_target, a_pending, a_pendingOf, a_begins, a_openAt, a_vars, a_told)) := by
  obtain ⟨n1, n2, n3, n4⟩ := hn
  subst n2
  have hlen := df_ln W
  refine loop_0 (σ := (Nat → Int32) × (Nat → Int32)) (fun n i s => (wX_findEdges_2 post f_known f_seen (nI (df_o g).length) f_ordered f_isStraight f_entered f_todo f_length f_waiting f_tellings f_last f_stopped f_steps f_left f_ran n (nI i) a_acts a_actV a_actC a_ends a_endV a_endX a_endY a_numbers a_byNumber a_before a_forward a_backward a_orderOf a_at a_from a_semi a_label a_up a_found a_stack a_place a_chiefs a_tails s.1 s.2 a_loops a_innermost a_outer a_deep a_alive a_values a_present a_code a_target a_pending a_pendingOf a_begins a_openAt a_vars a_told)) (fun i s => ∀ n, n < i → s.1 n = 0 ∧ s.2 n = 0) 16 (a_edges, a_rulers) (fun n hn => by omega) ?_ ?_
  · intro n s hI
    refine br_t (by decide) (nm_e ?_)
    refine loop_0 (σ := (Nat → Int32) × (Nat → Int32)) (fun n i t => (wX_findEdges_38 post n (nI i) f_known f_seen (nI (df_o g).length) f_ordered f_isStraight f_entered f_todo f_length f_waiting f_tellings f_last f_stopped f_steps f_left f_ran a_acts a_actV a_actC a_ends a_endV a_endX a_endY a_numbers a_byNumber a_before a_forward a_backward a_orderOf a_at a_from a_semi a_label a_up a_found a_stack a_place a_chiefs a_tails t.1 t.2 a_loops a_innermost a_outer a_deep a_alive a_values a_present a_code a_target a_pending a_pendingOf a_begins a_openAt a_vars a_told))
      (fun j t => (∀ m, m < 16 → ∀ i, bt (t.1 m) i = true ↔ xe_E g m i ∧ gg_n g i < j) ∧ (∀ m, m < 16 → ∀ i, bt (t.2 m) i = true ↔ xe_U g m i ∧ gg_n g i < j)) (df_o g).length (s.1, upd s.2 16 0) ⟨?_, ?_⟩ ?_ ?_
    · intro m hm i
      show bt (s.1 m) i = true ↔ _
      rw [(hI m hm).1, b_0]
      constructor
      · intro h; cases h
      · intro h; omega
    · intro m hm i
      show bt (upd s.2 16 0 m) i = true ↔ _
      rw [pk_un (by omega), (hI m hm).2, b_0]
      constructor
      · intro h; cases h
      · intro h; omega
    · intro n t ht
      refine br_t (nI_le (Nat.le_refl _) (by omega)) (C t.1 t.2 ?_ ?_)
      · intro m hm i
        rw [ht.1 m hm i]
        constructor
        · intro h; exact h.1
        · intro h
          obtain ⟨p, h1, h2, h3⟩ := h
          exact ⟨⟨p, h1, h2, h3⟩, (gg_nl W (gr_st h1 h2 trivial)).1⟩
      · intro m hm i
        rw [ht.2 m hm i]
        constructor
        · intro h; exact h.1
        · intro h
          obtain ⟨s, h1, h2⟩ := h
          exact ⟨⟨s, h1, h2⟩, (gg_nl W h1).1⟩
    · intro n i t hi ht ih
      have hgn := gg_ng W hi
      have hx16 := gg_R16 W hgn.1
      have hbn : a_byNumber (nI i).toNatClampNeg = nI ((df_o g).getD i 0) := by rw [nI_clamp (by omega), n3 i hi]
      have hlt := fun m hm => gg_lt W hi (m := m) hm
      refine br_f (nI_ge hi (by omega)) (And.intro (xg_i (by omega)) (nm_r hbn (And.intro (xg_i hx16) ?_)))
      generalize hx : (df_o g).getD i 0 = x at *
      refine nm_r (e' := a_before x) (xg_c (by omega) _) ?_
      refine xe_60 (a_edges := t.1) (a_rulers := t.2) W G hB hC hT hgn.1 ?_
      intro ed ru hed hru
      rw [nI_1]
      refine ih (ed, ru) ⟨?_, ?_⟩
      · intro m hm i'
        rw [hed m hm i', ht.1 m hm i']
        constructor
        · intro h
          rcases h with h | h
          · exact ⟨h.1, by omega⟩
          · rw [h.1]; exact ⟨h.2, by omega⟩
        · intro h
          obtain ⟨p, h1, h2, h3⟩ := h.1
          rcases (hlt i' (gr_st h1 h2 trivial)).mp h.2 with h' | h'
          · exact Or.inl ⟨h.1, h'⟩
          · refine Or.inr ⟨h', ?_⟩
            rw [← h']; exact h.1
      · intro m hm i'
        rw [hru m hm i', ht.2 m hm i']
        constructor
        · intro h
          rcases h with h | h
          · exact ⟨h.1, by omega⟩
          · rw [h.1]; exact ⟨h.2, by omega⟩
        · intro h
          obtain ⟨s, h1, h2⟩ := h.1
          rcases (hlt i' h1).mp h.2 with h' | h'
          · exact Or.inl ⟨h.1, h'⟩
          · refine Or.inr ⟨h', ?_⟩
            rw [← h']; exact h.1
  · intro n i s hi hI ih
    refine br_f (nI_ge (b := 16) hi (by omega)) (And.intro (xg_i hi) (nm_r (e' := upd s.1 i 0) (by rw [xg_u (by omega)]) (And.intro (xg_i7 (by omega)) (nm_r (e' := upd s.2 i 0) (by rw [xg_u (by omega)]) (nm_r (nI_1 i) (ih (_, _) ?_))))))
    intro j hj
    by_cases ej : j = i
    · subst ej; exact ⟨pk_us, pk_us⟩
    · have := hI j (by omega)
      exact ⟨(pk_un ej).trans this.1, (pk_un ej).trans this.2⟩
end XK
end
section
section LA
variable {g : Nat → Nat → Nat}
/-! loops: those of two heads are apart, or one lies in the other -/
def gg_L (g : Nat → Nat → Nat) (h n : Nat) : Prop := ∃ p, gg_R g p ∧ gg_E g p h ∧ gg_D g h p ∧ (n = h ∨ (gg_R g n ∧ n ≠ h ∧ gr_c (gg_E g) (fun y => y ≠ h) n p))
def gg_H (g : Nat → Nat → Nat) (h : Nat) : Prop := ∃ p, gg_R g p ∧ gg_E g p h ∧ gg_D g h p
theorem gl_h {h : Nat} : gg_H g h ↔ gg_L g h h := by
  constructor
  · intro ⟨p, h1, h2, h3⟩
    exact ⟨p, h1, h2, h3, Or.inl rfl⟩
  · intro ⟨p, h1, h2, h3, _⟩
    exact ⟨p, h1, h2, h3⟩
theorem gl_H {h n : Nat} (L : gg_L g h n) : gg_H g h := by
  obtain ⟨p, h1, h2, h3, _⟩ := L
  exact ⟨p, h1, h2, h3⟩
theorem gl_Rh {h n : Nat} (L : gg_L g h n) : gg_R g h := by
  obtain ⟨p, h1, h2, _, _⟩ := L
  exact gr_st h1 h2 trivial
theorem gl_Rn {h n : Nat} (L : gg_L g h n) : gg_R g n := by
  obtain ⟨p, h1, h2, _, h4⟩ := L
  rcases h4 with e | h4
  · rw [e]; exact gr_st h1 h2 trivial
  · exact h4.1
theorem gl_D {h n : Nat} (L : gg_L g h n) : gg_D g h n := by
  obtain ⟨p, h1, h2, h3, h4⟩ := L
  rcases h4 with e | ⟨_, _, h4⟩
  · rw [e]; exact dm_rf
  · intro hA
    exact h3 ⟨hA.1, gr_tr hA.2 h4⟩
theorem gl_dp {h n : Nat} (hR : gg_R g n) : gg_D g h n → gr_c (gg_E g) (fun y => gg_D g h y) h n := by
  refine gr_in (Q := fun n => gg_D g h n → gr_c (gg_E g) (fun y => gg_D g h y) h n) hR ?_ ?_
  · intro hD
    rw [dm_rt hD]
    exact gr_rf
  · intro x y hx hq e _ hD
    by_cases ey : y = h
    · rw [ey]; exact gr_rf
    · exact gr_st (hq (dm_pr hD (Ne.symm ey) e)) e hD
/-- a way back to p: all of it has the same chief -/
theorem gl_bk {b p m a : Nat} (hD : gg_D g b p) (hab : ¬ gg_D g b a) (h : gr_c (gg_E g) (fun y => y ≠ b) m p) (hm : m ≠ b) : gr_c (gg_E g) (fun y => y ≠ a) m p := by
  have h1 := gr_rv h hm
  have key : gr_c (gg_E g) (fun y => y ≠ a) m p ∧ gg_D g b m := by
    refine gr_in (Q := fun z => gr_c (gg_E g) (fun y => y ≠ a) z p ∧ gg_D g b z) h1 ⟨gr_rf, hD⟩ ?_
    intro x y hx hq e hy
    have hxb : x ≠ b := by
      rcases gr_P hx with e2 | e2
      · rw [e2]
        rcases gr_P h with e3 | e3
        · rw [e3]; exact hm
        · exact e3
      · exact e2
    refine ⟨gr_hd e (fun e2 => hab (by rw [← e2]; exact hq.2)) hq.1, ?_⟩
    intro hA
    exact hq.2 (dm_As hA e hxb)
  exact key.1
theorem gl_na {a b n : Nat} (Lb : gg_L g b n) (hab : gg_D g a b) (hne : a ≠ b) : ¬ gg_D g b a := by
  intro h
  exact hne (dm_an (dm_re (gl_Rh Lb) hab) hab h)
theorem gl_in {a b n : Nat} (La : gg_L g a n) (Lb : gg_L g b n) (hab : gg_D g a b) (hne : a ≠ b) : gg_L g a b ∧ ∀ m, gg_L g b m → gg_L g a m := by
  have hba := gl_na Lb hab hne
  have hn_a : n ≠ a := by
    intro e
    subst e
    exact hba (gl_D Lb)
  obtain ⟨p1, r1, e1, d1, c1⟩ := La
  have hp1 : gr_c (gg_E g) (fun y => y ≠ a) n p1 := by
    rcases c1 with c1 | c1
    · exact absurd c1 hn_a
    · exact c1.2.2
  have hbn : gr_c (gg_E g) (fun y => y ≠ a) b n := gr_mp (gl_dp (gl_Rn Lb) (gl_D Lb)) (fun y hy e => hba (by rw [← e]; exact hy))
  have hLab : gg_L g a b := ⟨p1, r1, e1, d1, Or.inr ⟨gl_Rh Lb, Ne.symm hne, gr_tr hbn hp1⟩⟩
  refine ⟨hLab, ?_⟩
  intro m Lm
  have hma : m ≠ a := by
    intro e
    subst e
    exact hba (gl_D Lm)
  have hRm := gl_Rn Lm
  obtain ⟨p2, r2, e2, d2, c2⟩ := Lm
  rcases c2 with c2 | c2
  · rw [c2]; exact hLab
  · refine ⟨p1, r1, e1, d1, Or.inr ⟨hRm, hma, ?_⟩⟩
    exact gr_tr (gr_st (gl_bk d2 hba c2.2.2 c2.2.1) e2 (Ne.symm hne)) (gr_tr hbn hp1)
theorem gl_or (W : gg_W g) {a b n : Nat} (La : gg_L g a n) (Lb : gg_L g b n) (h : gg_n g a ≤ gg_n g b) : gg_D g a b := by
  rcases dm_ln (gl_Rn La) (gl_D La) (gl_D Lb) with h1 | h1
  · exact h1
  · by_cases e : a = b
    · rw [e]; exact dm_rf
    · have := gg_nD W (gl_Rh La) h1 (Ne.symm e)
      omega
theorem gl_tr {a b n : Nat} (Lab : gg_L g a b) (Lb : gg_L g b n) : gg_L g a n := by
  by_cases e : a = b
  · rw [e]; exact Lb
  · exact (gl_in Lab (gl_h.mp (gl_H Lb)) (gl_D Lab) e).2 n Lb
theorem gl_ln (W : gg_W g) {a b n : Nat} (La : gg_L g a n) (Lb : gg_L g b n) : gg_L g a b ∨ gg_L g b a := by
  by_cases e : a = b
  · rw [e]; exact Or.inl (gl_h.mp (gl_H Lb))
  · rcases dm_ln (gl_Rn La) (gl_D La) (gl_D Lb) with h1 | h1
    · exact Or.inl (gl_in La Lb h1 e).1
    · exact Or.inr (gl_in Lb La h1 (Ne.symm e)).1
theorem gl_as {a b : Nat} (h1 : gg_L g a b) (h2 : gg_L g b a) : a = b := dm_an (gl_Rh h1) (gl_D h1) (gl_D h2)
theorem gl_n (W : gg_W g) {a b : Nat} (h : gg_L g a b) (hne : a ≠ b) : gg_n g a < gg_n g b := gg_nD W (gl_Rn h) (gl_D h) hne
/-! the heads found so far -/
def xl_H (g : Nat → Nat → Nat) (k h : Nat) : Prop := gg_H g h ∧ k ≤ gg_n g h
def xl_I (g : Nat → Nat → Nat) (k : Nat) (inn : Nat → Int32) : Prop :=
  ∀ n, n < 16 → (inn n = -1 ∧ ∀ h, xl_H g k h → ¬ gg_L g h n) ∨ ∃ m, m < 16 ∧ inn n = nI m ∧ xl_H g k m ∧ gg_L g m n ∧ ∀ h, xl_H g k h → gg_L g h n → gg_L g h m
def xl_O (g : Nat → Nat → Nat) (k : Nat) (out : Nat → Int32) : Prop :=
  ∀ m, m < 16 → (out m = -1 ∧ (xl_H g k m → ∀ h, xl_H g k h → h ≠ m → ¬ gg_L g h m)) ∨ ∃ o, o < 16 ∧ out m = nI o ∧ xl_H g k m ∧ xl_H g k o ∧ o ≠ m ∧ gg_L g o m ∧ ∀ h, xl_H g k h → h ≠ m → gg_L g h m → gg_L g h o
/-- while the nodes of a new loop are claimed, those below j are -/
def xl_A (g : Nat → Nat → Nat) (k h : Nat) (inn out : Nat → Int32) (j : Nat) (inn' out' : Nat → Int32) : Prop :=
  (∀ n, n < 16 → inn' n = if inn n = -1 ∧ pd_b (gg_L g h n ∧ n < j) = true then nI h else inn n) ∧
  (∀ m, m < 16 → out' m = out m ∨ (out m = -1 ∧ xl_H g (k + 1) m ∧ gg_L g h m ∧ out' m = nI h)) ∧
  (∀ m, m < 16 → m < j → xl_H g (k + 1) m → gg_L g h m → out m = -1 → out' m = nI h)
theorem xl_fi {k h : Nat} {inn out inn' out' : Nat → Int32} (W : gg_W g) (hH : gg_H g h) (hk : gg_n g h = k) (h16 : h < 16) (hI : xl_I g (k + 1) inn) (hO : xl_O g (k + 1) out) (A : xl_A g k h inn out 16 inn' out') : xl_I g k inn' ∧ xl_O g k out' := by
  obtain ⟨a1, a2, a3⟩ := A
  have hHk : ∀ m, xl_H g k m ↔ m = h ∨ xl_H g (k + 1) m := by
    intro m
    constructor
    · intro hm
      by_cases e : gg_n g m = k
      · refine Or.inl (gg_ni W (gl_Rh (gl_h.mp hm.1)) (gl_Rh (gl_h.mp hH)) (by omega))
      · exact Or.inr ⟨hm.1, by have := hm.2; omega⟩
    · intro hm
      rcases hm with hm | hm
      · rw [hm]; exact ⟨hH, by omega⟩
      · exact ⟨hm.1, by have := hm.2; omega⟩
  have hup : ∀ m n, xl_H g (k + 1) m → gg_L g m n → gg_L g h n → gg_L g h m := by
    intro m n hm hmn hhn
    have hne : h ≠ m := by
      intro e
      have := hm.2
      rw [← e] at this
      omega
    exact (gl_in hhn hmn (gl_or W hhn hmn (by have := hm.2; omega)) hne).1
  constructor
  · intro n hn
    have e1 := a1 n hn
    rcases hI n hn with ⟨h1, h2⟩ | ⟨m, h1, h2, h3, h4, h5⟩
    · by_cases hL : gg_L g h n
      · rw [if_pos ⟨h1, pd_t ⟨hL, hn⟩⟩] at e1
        refine Or.inr ⟨h, h16, e1, (hHk h).mpr (Or.inl rfl), hL, ?_⟩
        intro h' hh' hL'
        rcases (hHk h').mp hh' with e | e
        · rw [e]; exact gl_h.mp hH
        · exact absurd hL' (h2 h' e)
      · rw [if_neg (fun h => hL ((pd_i _).mp h.2).1)] at e1
        refine Or.inl ⟨e1.trans h1, ?_⟩
        intro h' hh'
        rcases (hHk h').mp hh' with e | e
        · rw [e]; exact hL
        · exact h2 h' e
    · rw [if_neg (fun h => by rw [h2] at h; exact bs_ne (by omega) h.1)] at e1
      refine Or.inr ⟨m, h1, e1.trans h2, (hHk m).mpr (Or.inr h3), h4, ?_⟩
      intro h' hh' hL'
      rcases (hHk h').mp hh' with e | e
      · rw [e] at hL' ⊢
        exact hup m n h3 h4 hL'
      · exact h5 h' e hL'
  · intro m hm
    rcases hO m hm with ⟨h1, h2⟩ | ⟨o, h1, h2, h3, h4, h5, h6, h7⟩
    · by_cases hc : xl_H g (k + 1) m ∧ gg_L g h m
      · have e1 := a3 m hm hm hc.1 hc.2 h1
        have hne : h ≠ m := by
          intro e
          have := hc.1.2
          rw [← e] at this
          omega
        refine Or.inr ⟨h, h16, e1, (hHk m).mpr (Or.inr hc.1), (hHk h).mpr (Or.inl rfl), hne, hc.2, ?_⟩
        intro h' hh' hne' hL'
        rcases (hHk h').mp hh' with e | e
        · rw [e]; exact gl_h.mp hH
        · exact absurd hL' (h2 hc.1 h' e hne')
      · have e1 : out' m = out m := by
          rcases a2 m hm with e | e
          · exact e
          · exact absurd ⟨e.2.1, e.2.2.1⟩ hc
        refine Or.inl ⟨e1.trans h1, ?_⟩
        intro hmk h' hh' hne' hL'
        rcases (hHk m).mp hmk with e | e
        · rcases (hHk h').mp hh' with e2 | e2
          · exact hne' (by rw [e2, e])
          · have := gl_n W hL' hne'
            rw [e] at this
            have := e2.2
            omega
        · rcases (hHk h').mp hh' with e2 | e2
          · rw [e2] at hL'
            exact hc ⟨e, hL'⟩
          · exact h2 e h' e2 hne' hL'
    · have e1 : out' m = out m := by
        rcases a2 m hm with e | e
        · exact e
        · rw [h2] at e
          exact absurd e.1 (bs_ne (by omega))
      refine Or.inr ⟨o, h1, e1.trans h2, (hHk m).mpr (Or.inr h3), (hHk o).mpr (Or.inr h4), h5, h6, ?_⟩
      intro h' hh' hne' hL'
      rcases (hHk h').mp hh' with e | e
      · rw [e] at hL' ⊢
        exact hup o m h4 h6 hL'
      · exact h7 h' e hne' hL'
theorem xl_sk {k : Nat} {inn out : Nat → Int32} (W : gg_W g) (hk : ∀ h, gg_H g h → gg_n g h ≠ k) (hI : xl_I g (k + 1) inn) (hO : xl_O g (k + 1) out) : xl_I g k inn ∧ xl_O g k out := by
  have hHk : ∀ m, xl_H g k m ↔ xl_H g (k + 1) m := by
    intro m
    constructor
    · intro hm
      exact ⟨hm.1, by have := hm.2; have := hk m hm.1; omega⟩
    · intro hm
      exact ⟨hm.1, by have := hm.2; omega⟩
  constructor
  · intro n hn
    rcases hI n hn with ⟨h1, h2⟩ | ⟨m, h1, h2, h3, h4, h5⟩
    · exact Or.inl ⟨h1, fun h hh => h2 h ((hHk h).mp hh)⟩
    · exact Or.inr ⟨m, h1, h2, (hHk m).mpr h3, h4, fun h hh => h5 h ((hHk h).mp hh)⟩
  · intro m hm
    rcases hO m hm with ⟨h1, h2⟩ | ⟨o, h1, h2, h3, h4, h5, h6, h7⟩
    · exact Or.inl ⟨h1, fun h h' hh' => h2 ((hHk m).mp h) h' ((hHk h').mp hh')⟩
    · exact Or.inr ⟨o, h1, h2, (hHk m).mpr h3, (hHk o).mpr h4, h5, h6, fun h hh => h7 h ((hHk h).mp hh)⟩
end LA
end
section
section XL
variable {f_known f_seen f_many f_ordered f_isStraight f_entered f_todo f_length f_waiting f_tellings f_last f_stopped f_steps f_ran : Int32} {f_left : Int64} {a_acts a_actV a_actC a_ends a_endV a_endX a_endY a_numbers a_byNumber a_before a_forward a_backward a_orderOf a_at a_from a_semi a_label a_up a_found a_stack a_place a_chiefs a_tails a_edges a_rulers a_loops a_innermost a_outer a_deep a_alive a_values a_present a_code a_target a_pending a_pendingOf a_begins a_openAt a_vars a_told : Nat → Int32} {g : Nat → Nat → Nat}
/-! X: rules, claim, body -/
theorem xl_ru (W : gg_W g) (hC : xr_C g a_chiefs) {h p : Nat} (hp : gg_R g p) (hh : h < 16) {post : Int32 → Prop} (h1 : gg_D g h p → post 1) (h0 : ¬ gg_D g h p → post 0) : (wpX_rules post (f_known, f_seen, f_many, f_ordered, f_isStraight, f_entered, f_todo, f_length, f_waiting, f_tellings, f_last, f_stopped, f_steps, f_left, f_ran, a_acts, a_actV, a_actC, a_ends, a_endV, a_endX, a_endY, a_numbers, a_byNumber, a_before, a_forward, a_backward, a_orderOf, a_at, a_from, a_semi, a_label, a_up, a_found, a_stack, a_place, a_chiefs, a_tails, a_edges, a_rulers, a_loops, a_innermost, a_outer, a_deep, a_alive, a_values, a_present, a_code, a_target, a_pending, a_pendingOf, a_begins, a_openAt, a_vars, a_told) (nI h) (nI p)) := by
  have key : ∀ (f m : Nat), gg_n g m + 1 < f → gg_R g m → (gg_D g h p ↔ gg_D g h m) → (wX_rules_2 post (nI h) f_known f_seen f_many f_ordered f_isStraight f_entered f_todo f_length f_waiting f_tellings f_last f_stopped f_steps f_left f_ran a_acts a_actV a_actC a_ends a_endV a_endX a_endY a_numbers a_byNumber a_before a_forward a_backward a_orderOf a_at a_from a_semi a_label a_up a_found a_stack a_place a_chiefs a_tails a_edges a_rulers a_loops a_innermost a_outer a_deep a_alive a_values a_present a_code a_target a_pending a_pendingOf a_begins a_openAt a_vars a_told f (nI m)) := by
    intro f
    induction f with
    | zero => intro m h; omega
    | succ f ih =>
      intro m hf hRm hD
      have hm16 := gg_R16 W hRm
      refine br_f (nI_pos (by omega)) ?_
      by_cases e : m = h
      · subst e
        exact br_t rfl (br_t rfl (h1 (hD.mpr dm_rf)))
      · refine br_f (fun h => e (bs_inj h (by omega) (by omega))) (And.intro (xg_i hm16) ?_)
        rcases hC m hm16 with ⟨hcm, hz⟩ | ⟨d, hd16, hcm, _, _, hdI⟩
        · refine nm_r (e' := -1) (by rw [nI_clamp (by omega), hcm]) ?_
          obtain ⟨f', rfl⟩ : ∃ f', f = f' + 1 := ⟨f - 1, by omega⟩
          refine br_t bs_n1 (br_f (bs_ne' (by omega)) (h0 (fun hx => ?_)))
          have hm0 : m = 0 := by
            rcases hz with h | h
            · exact absurd hRm h
            · exact h
          have := hD.mp hx
          rw [hm0] at this
          have := dm_rt this
          omega
        · refine nm_r (e' := nI d) (by rw [nI_clamp (by omega), hcm]) ?_
          have hlt := gg_nD W hRm hdI.2.1 hdI.1
          refine ih d (by omega) (dm_re hRm hdI.2.1) ?_
          rw [hD]
          constructor
          · intro h2; exact hdI.2.2 h (fun e2 => e e2.symm) h2
          · intro h2; exact dm_tr h2 hdI.2.1
  exact ⟨gg_n g p + 2, key _ p (by omega) hp Iff.rfl⟩
theorem xl_cl (W : gg_W g) {k h n : Nat} {inn out : Nat → Int32} (hh : gg_H g h) (hk : gg_n g h = k) (hI : xl_I g (k + 1) inn) (hO : xl_O g (k + 1) out) (hL : gg_L g h n) (A : xl_A g k h inn out n a_innermost a_outer) {post : SX → Prop}
    (C : ∀ inn' out' : Nat → Int32, xl_A g k h inn out (n + 1) inn' out' → post (f_known, f_seen, f_many, f_ordered, f_isStraight, f_entered, f_todo, f_length, f_waiting, f_tellings, f_last, f_stopped, f_steps, f_left, f_ran, a_acts, a_actV, a_actC, a_ends, a_endV, a_endX, a_endY, a_numbers, a_byNumber, a_before, a_forward, a_backward, a_orderOf, a_at, a_from, a_semi, a_label, a_up, a_found, a_stack, a_place, a_chiefs, a_tails, a_edges, a_rulers, a_loops, inn', out', a_deep, a_alive, a_values, a_present, a_code, a_target, a_pending, a_pendingOf, a_begins, a_openAt, a_vars, a_told)) : (wpX_claim post (f_known, f_seen, f_many, f_ordered, f_isStraight, f_entered, f_todo, f_length, f_waiting, f_tellings, f_last, f_stopped, f_steps, f_left, f_ran, a_acts, a_actV, a_actC, a_ends, a_endV, a_endX, a_endY, a_numbers, a_byNumber, a_before, a_forward, a_backward, a_orderOf, a_at, a_from, a_semi, a_label, a_up, a_found, a_stack, a_place, a_chiefs, a_tails, a_edges, a_rulers, a_loops, a_innermost, a_outer, a_deep, a_alive, a_values, a_present, a_code, a_target, a_pending, a_pendingOf, a_begins, a_openAt, a_vars, a_told) (nI n) (nI h)) := by
  obtain ⟨a1, a2, a3⟩ := A
  have hn16 := gg_R16 W (gl_Rn hL)
  have hh16 := gg_R16 W (gl_Rh hL)
  have e1 : a_innermost n = inn n := by
    rw [a1 n hn16, if_neg]
    intro hx
    have := ((pd_i _).mp hx.2).2
    omega
  have hne : ∀ m, xl_H g (k + 1) m → h ≠ m := by
    intro m hm e
    have := hm.2
    rw [← e] at this
    omega
  have hup : ∀ m, xl_H g (k + 1) m → gg_L g m n → gg_L g h m := fun m hm hmn => (gl_in hL hmn (gl_or W hL hmn (by have := hm.2; omega)) (hne m hm)).1
  refine And.intro (xg_i hn16) (nm_r (e' := inn n) (by rw [nI_clamp (by omega), e1]) ?_)
  rcases hI n hn16 with ⟨i1, i2⟩ | ⟨m0, i1, i2, i3, i4, i5⟩
  · rw [i1]
    refine br_f bs_n1' (And.intro (xg_i hn16) (nm_r (e' := upd a_innermost n (nI h)) (by rw [bs_vbb (by omega), xg_u (by omega)]) (C _ _ ⟨?_, a2, ?_⟩)))
    · intro i hi
      by_cases e : i = n
      · subst e
        rw [pk_us, if_pos ⟨i1, pd_t ⟨hL, by omega⟩⟩]
      · rw [pk_un e, a1 i hi]
        have : (gg_L g h i ∧ i < n + 1) = (gg_L g h i ∧ i < n) := by
          apply propext
          constructor
          · intro hx; exact ⟨hx.1, by omega⟩
          · intro hx; exact ⟨hx.1, by omega⟩
        rw [this]
    · intro m hm hmn hmH hmL hmo
      by_cases e : m = n
      · subst e
        exact absurd (gl_h.mp hmH.1) (i2 m hmH)
      · exact a3 m hm (by omega) hmH hmL hmo
  · rw [i2]
    refine br_t (nI_pos' (by omega)) ?_
    have a1' : ∀ i, i < 16 → a_innermost i = if inn i = -1 ∧ pd_b (gg_L g h i ∧ i < n + 1) = true then nI h else inn i := by
      intro i hi
      rw [a1 i hi]
      by_cases e : i = n
      · subst e
        rw [if_neg (fun hx => by rw [i2] at hx; exact bs_ne (by omega) hx.1), if_neg (fun hx => by rw [i2] at hx; exact bs_ne (by omega) hx.1)]
      · have : (gg_L g h i ∧ i < n + 1) = (gg_L g h i ∧ i < n) := by
          apply propext
          constructor
          · intro hx; exact ⟨hx.1, by omega⟩
          · intro hx; exact ⟨hx.1, by omega⟩
        rw [this]
    have fin : ∀ m, m < 16 → xl_H g (k + 1) m → gg_L g m n → (a_outer m = -1 ∨ a_outer m = nI h) → (xl_H g (k + 1) n → out n = -1 → m = n) → xl_A g k h inn out (n + 1) a_innermost (upd a_outer m (nI h)) := by
      intro m hm hmH hmn hmo hst
      have hom : out m = -1 := by
        rcases a2 m hm with e | e
        · rcases hmo with e2 | e2
          · rw [← e]; exact e2
          · exfalso
            rw [e2] at e
            rcases hO m hm with ⟨o1, _⟩ | ⟨o, o1, o2, _, o4, _⟩
            · rw [o1] at e; exact bs_ne (by omega) e
            · rw [o2] at e
              have := bs_inj e (by omega) (by omega)
              exact hne o o4 this
        · exact e.1
      refine ⟨a1', ?_, ?_⟩
      · intro i hi
        by_cases e : i = m
        · subst e
          exact Or.inr ⟨hom, hmH, hup i hmH hmn, pk_us⟩
        · rw [pk_un e]; exact a2 i hi
      · intro i hi hin hiH hiL hio
        by_cases e : i = m
        · subst e; exact pk_us
        · rw [pk_un e]
          by_cases e2 : i = n
          · subst e2
            exact absurd (hst hiH hio).symm e
          · exact a3 i hi (by omega) hiH hiL hio
    have key : ∀ (f m : Nat), gg_n g m < f → m < 16 → xl_H g (k + 1) m → gg_L g m n → (xl_H g (k + 1) n → out n = -1 → m = n) → (wX_claim_20 post (nI h) f_known f_seen f_many f_ordered f_isStraight f_entered f_todo f_length f_waiting f_tellings f_last f_stopped f_steps f_left f_ran a_acts a_actV a_actC a_ends a_endV a_endX a_endY a_numbers a_byNumber a_before a_forward a_backward a_orderOf a_at a_from a_semi a_label a_up a_found a_stack a_place a_chiefs a_tails a_edges a_rulers a_loops a_innermost a_outer a_deep a_alive a_values a_present a_code a_target a_pending a_pendingOf a_begins a_openAt a_vars a_told f (nI m)) := by
      intro f
      induction f with
      | zero => intro m hx; omega
      | succ f ih =>
        intro m hf hm hmH hmn hst
        have eo : a_outer (nI m).toNatClampNeg = a_outer m := by rw [nI_clamp (by omega)]
        have eu : upd a_outer (nI m).toNatClampNeg (vp_nar .byte (nI h).toInt8.toInt32) = upd a_outer m (nI h) := by rw [bs_vbb (by omega), xg_u (by omega)]
        refine And.intro (xg_i hm) ?_
        rcases a2 m hm with e | e
        · rcases hO m hm with ⟨o1, _⟩ | ⟨o, o1, o2, _, o4, o5, o6, _⟩
          · rw [o1] at e
            exact br_t (by rw [eo, e]; exact bs_n1) (And.intro (xg_i hm) (nm_r eu (C _ _ (fin m hm hmH hmn (Or.inl e) hst))))
          · rw [o2] at e
            have hoh : ¬ o = h := fun e2 => hne o o4 e2.symm
            refine br_f (by rw [eo, e]; exact nI_pos (by omega)) (And.intro (xg_i hm) (br_f (by rw [eo, e]; exact fun h => hoh (bs_inj h (by omega) (by omega))) (And.intro (xg_i hm) (nm_r (e' := nI o) (by rw [eo, e]) ?_))))
            have hlt := gl_n W o6 o5
            refine ih o (by omega) o1 o4 (gl_tr o6 hmn) ?_
            intro hnH hno
            exfalso
            have := hst hnH hno
            subst this
            rw [o2] at hno
            exact bs_ne (by omega) hno
        · refine br_f (by rw [eo, e.2.2.2]; exact nI_pos (by omega)) (And.intro (xg_i hm) (br_t (by rw [eo, e.2.2.2]) (And.intro (xg_i hm) (nm_r eu (C _ _ (fin m hm hmH hmn (Or.inr e.2.2.2) hst))))))
    refine ⟨gg_n g m0 + 1, key _ m0 (by omega) i1 i3 i4 ?_⟩
    intro hnH _
    exact gl_as i4 (i5 n hnH (gl_h.mp hnH.1))
theorem xl_61 (W : gg_W g) {k h : Nat} {S : Int32} {inn out : Nat → Int32} (hh : gg_H g h) (hk : gg_n g h = k) (hI : xl_I g (k + 1) inn) (hO : xl_O g (k + 1) out) (hS : ∀ n, bt S n = true ↔ gg_L g h n)
    (ei : a_innermost = inn) (eo : a_outer = out) {post : Int32 → SX → Prop}
    (C : ∀ inn' out' : Nat → Int32, xl_I g k inn' → xl_O g k out' → post S (f_known, f_seen, f_many, f_ordered, f_isStraight, f_entered, f_todo, f_length, f_waiting, f_tellings, f_last, f_stopped, f_steps, f_left, f_ran, a_acts, a_actV, a_actC, a_ends, a_endV, a_endX, a_endY, a_numbers, a_byNumber, a_before, a_forward, a_backward, a_orderOf, a_at, a_from, a_semi, a_label, a_up, a_found, a_stack, a_place, a_chiefs, a_tails, a_edges, a_rulers, a_loops, inn', out', a_deep, a_alive, a_values, a_present, a_code, a_target, a_pending, a_pendingOf, a_begins, a_openAt, a_vars, a_told)) : ∃ n : Nat, (wX_body_61 post (nI h) S n S f_known f_seen f_many f_ordered f_isStraight f_entered f_todo f_length f_waiting f_tellings f_last f_stopped f_steps f_left f_ran a_acts a_actV a_actC a_ends a_endV a_endX a_endY a_numbers a_byNumber a_before a_forward a_backward a_orderOf a_at a_from a_semi a_label a_up a_found a_stack a_place a_chiefs a_tails a_edges a_rulers a_loops a_innermost a_outer a_deep a_alive a_values a_present a_code a_target a_pending a_pendingOf a_begins a_openAt a_vars a_told) := by
  have hh16 := gg_R16 W (gl_Rh (gl_h.mp hh))
  subst ei eo
  refine ⟨17, ?_⟩
  refine bs_lp (σ := (Nat → Int32) × (Nat → Int32)) (fun n s t => (wX_body_61 post (nI h) S n s f_known f_seen f_many f_ordered f_isStraight f_entered f_todo f_length f_waiting f_tellings f_last f_stopped f_steps f_left f_ran a_acts a_actV a_actC a_ends a_endV a_endX a_endY a_numbers a_byNumber a_before a_forward a_backward a_orderOf a_at a_from a_semi a_label a_up a_found a_stack a_place a_chiefs a_tails a_edges a_rulers a_loops t.1 t.2 a_deep a_alive a_values a_present a_code a_target a_pending a_pendingOf a_begins a_openAt a_vars a_told)) S 16 (fun i hi => ts_nt (fun h => by have := gg_R16 W (gl_Rn ((hS i).mp h)); omega))
    (fun j t => xl_A g k h a_innermost a_outer j t.1 t.2) ?_ ?_ ?_ (a_innermost, a_outer) ?_ 17 (by omega)
  · intro n t ht
    have := xl_fi W hh hk hh16 hI hO ht
    exact br_t rfl (C t.1 t.2 this.1 this.2)
  · intro i t hi hbi ht
    obtain ⟨a1, a2, a3⟩ := ht
    have hnL : ¬ gg_L g h i := fun h => by rw [(hS i).mpr h] at hbi; cases hbi
    refine ⟨?_, a2, ?_⟩
    · intro n hn
      rw [a1 n hn]
      have : (gg_L g h n ∧ n < i + 1) = (gg_L g h n ∧ n < i) := by
        apply propext
        constructor
        · intro hx
          refine ⟨hx.1, ?_⟩
          by_cases e : n = i
          · subst e; exact absurd hx.1 hnL
          · omega
        · intro hx; exact ⟨hx.1, by omega⟩
      rw [this]
    · intro m hm hmi hmH hmL hmo
      by_cases e : m = i
      · subst e; exact absurd hmL hnL
      · exact a3 m hm (by omega) hmH hmL hmo
  · intro n s i t hi hbi hs hsi hsm ht ih
    refine br_f hs (bs_lw hsi hsm ?_)
    refine xl_cl (a_innermost := t.1) (a_outer := t.2) W hh hk hI hO ((hS i).mp hbi) ht ?_
    intro inn' out' hA
    exact nm_e (ih (inn', out') hA)
  · refine ⟨?_, fun m _ => Or.inl rfl, fun m _ hm => by omega⟩
    intro n hn
    rw [if_neg]
    intro hx
    have := ((pd_i _).mp hx.2).2
    omega
theorem xl_bd (W : gg_W g) (hB : xr_B g a_before) {k h : Nat} {bk : Int32} (hh : gg_H g h) (hk : gg_n g h = k) (hI : xl_I g (k + 1) a_innermost) (hO : xl_O g (k + 1) a_outer)
    (hbk : ∀ p, bt bk p = true ↔ gg_R g p ∧ gg_E g p h ∧ gg_D g h p) {post : Int32 → SX → Prop}
    (C : ∀ (S : Int32) (inn' out' : Nat → Int32), (∀ n, bt S n = true ↔ gg_L g h n) → xl_I g k inn' → xl_O g k out' → post S (f_known, f_seen, f_many, f_ordered, f_isStraight, f_entered, f_todo, f_length, f_waiting, f_tellings, f_last, f_stopped, f_steps, f_left, f_ran, a_acts, a_actV, a_actC, a_ends, a_endV, a_endX, a_endY, a_numbers, a_byNumber, a_before, a_forward, a_backward, a_orderOf, a_at, a_from, a_semi, a_label, a_up, a_found, a_stack, a_place, a_chiefs, a_tails, a_edges, a_rulers, a_loops, inn', out', a_deep, a_alive, a_values, a_present, a_code, a_target, a_pending, a_pendingOf, a_begins, a_openAt, a_vars, a_told)) : (wpX_body post (f_known, f_seen, f_many, f_ordered, f_isStraight, f_entered, f_todo, f_length, f_waiting, f_tellings, f_last, f_stopped, f_steps, f_left, f_ran, a_acts, a_actV, a_actC, a_ends, a_endV, a_endX, a_endY, a_numbers, a_byNumber, a_before, a_forward, a_backward, a_orderOf, a_at, a_from, a_semi, a_label, a_up, a_found, a_stack, a_place, a_chiefs, a_tails, a_edges, a_rulers, a_loops, a_innermost, a_outer, a_deep, a_alive, a_values, a_present, a_code, a_target, a_pending, a_pendingOf, a_begins, a_openAt, a_vars, a_told) (nI h) bk) := by
  have hh16 := gg_R16 W (gl_Rh (gl_h.mp hh))
  have key : ∀ (f : Nat) (S T : Int32), ct_c (fun i => !bt S i) 16 < f → bt S h = true → (∀ n, bt S n = true ∨ bt T n = true → gg_L g h n) → (∀ n, bt T n = true → bt S n = false) →
      (∀ p, gg_R g p → gg_E g p h → gg_D g h p → p ≠ h → bt S p = true ∨ bt T p = true) → (∀ n q, bt S n = true → n ≠ h → gg_R g q → gg_E g q n → bt S q = true ∨ bt T q = true) → (wX_body_11 post (nI h) f_known f_seen f_many f_ordered f_isStraight f_entered f_todo f_length f_waiting f_tellings f_last f_stopped f_steps f_left f_ran a_acts a_actV a_actC a_ends a_endV a_endX a_endY a_numbers a_byNumber a_before a_forward a_backward a_orderOf a_at a_from a_semi a_label a_up a_found a_stack a_place a_chiefs a_tails a_edges a_rulers a_loops a_innermost a_outer a_deep a_alive a_values a_present a_code a_target a_pending a_pendingOf a_begins a_openAt a_vars a_told f S T) := by
    intro f
    induction f with
    | zero => intro S T hx; omega
    | succ f ih =>
      intro S T hf s1 s2 s3 s4 s5
      by_cases hT : T = 0
      · subst hT
        refine br_t rfl (xl_61 W hh hk hI hO ?_ rfl rfl (fun inn' out' h1 h2 => C S inn' out' ?_ h1 h2))
        all_goals
          intro n
          constructor
          · intro hx; exact s2 n (Or.inl hx)
          · intro hL
            have hc : ∀ m, bt S m = true ∨ bt 0 m = true → bt S m = true := by
              intro m hx
              rcases hx with hx | hx
              · exact hx
              · rw [b_0] at hx; cases hx
            obtain ⟨p, r1, r2, r3, r4⟩ := hL
            rcases r4 with e | ⟨r5, r6, r7⟩
            · rw [e]; exact s1
            · have hph : p ≠ h := by
                rcases gr_P r7 with e | e
                · rw [e]; exact r6
                · exact e
              have := gr_rv r7 r6
              have h2 : bt S n = true ∧ n ≠ h ∧ gg_R g n → bt S n = true := fun h => h.1
              have hrev : gr_c (fun x y => gg_E g y x ∧ gg_R g y) (fun y => y ≠ h) p n := by
                have key2 : gg_R g n → gr_c (fun x y => gg_E g y x ∧ gg_R g y) (fun y => y ≠ h) p n := by
                  have h3 : ∀ z, gr_c (gg_E g) (fun y => y ≠ h) n z → gg_R g z → gr_c (fun x y => gg_E g y x ∧ gg_R g y) (fun y => y ≠ h) z n := by
                    intro z hz
                    refine gr_in (Q := fun z => gg_R g z → gr_c (fun x y => gg_E g y x ∧ gg_R g y) (fun y => y ≠ h) z n) hz (fun _ => gr_rf) ?_
                    intro x y hx hq e _ _
                    have hRx : gg_R g x := gr_tr r5 (gr_T hx)
                    refine gr_hd ⟨e, hRx⟩ ?_ (hq hRx)
                    rcases gr_P hx with e2 | e2
                    · rw [e2]; exact r6
                    · exact e2
                  intro _
                  exact h3 p r7 r1
                exact key2 r5
              refine (gr_in (Q := fun z => bt S z = true ∧ z ≠ h) hrev ⟨hc p (s4 p r1 r2 r3 hph), hph⟩ ?_).1
              intro x y _ hq e hy
              exact ⟨hc y (s5 x y hq.1 hq.2 e.2 e.1), hy⟩
      · obtain ⟨l, hl32, hl, hm⟩ := bs_fst hT
        have hLl := s2 l (Or.inr hl)
        have hl16 := gg_R16 W (gl_Rn hLl)
        have hlS := s3 l hl
        have hlh : l ≠ h := by
          intro e
          rw [e, s1] at hlS
          cases hlS
        refine br_f hT (bs_lw hl hm (nm_e (nm_e (And.intro (xg_i hl16) (nm_r (e' := (T &&& (T - 1)) ||| (a_before l &&& ((S ||| (1 : Int32) <<< (nI l &&& 31)) ^^^ (-1)))) (by rw [nI_clamp (by omega)]) ?_)))))
        have eS : ∀ i, bt (S ||| (1 : Int32) <<< (nI l &&& 31)) i = true ↔ bt S i = true ∨ i = l := by
          intro i
          rw [b_or, Bool.or_eq_true, xg_oi (m := 0) (by omega)]
          exact or_congr Iff.rfl eq_comm
        have eT : ∀ i, bt ((T &&& (T - 1)) ||| (a_before l &&& ((S ||| (1 : Int32) <<< (nI l &&& 31)) ^^^ (-1)))) i = true ↔ (bt T i = true ∧ i ≠ l) ∨ (bt (a_before l) i = true ∧ ¬ (bt S i = true ∨ i = l)) := by
          intro i
          rw [b_or, Bool.or_eq_true, bs_cl hl hm, bs_nt, Bool.and_eq_true, Bool.and_eq_true, decide_eq_true_iff, Bool.not_eq_true', ← eS i]
          refine or_congr Iff.rfl (and_congr Iff.rfl ?_)
          cases bt (S ||| (1 : Int32) <<< (nI l &&& 31)) i <;> simp
        refine ih _ _ ?_ ((eS h).mpr (Or.inl s1)) ?_ ?_ ?_ ?_
        · have := ct_lt (p := fun i => !bt (S ||| (1 : Int32) <<< (nI l &&& 31)) i) (q := fun i => !bt S i) 16 l hl16 ?_ ?_ ?_
          · omega
          · intro i _ hi
            have hi' : (!bt (S ||| (1 : Int32) <<< (nI l &&& 31)) i) = true := hi
            show (!bt S i) = true
            rw [Bool.not_eq_true'] at hi' ⊢
            apply ts_nt
            intro hx
            rw [(eS i).mpr (Or.inl hx)] at hi'
            cases hi'
          · show (!bt (S ||| (1 : Int32) <<< (nI l &&& 31)) l) = false
            rw [(eS l).mpr (Or.inr rfl)]; rfl
          · show (!bt S l) = true
            rw [hlS]; rfl
        · intro n hx
          rcases hx with hx | hx
          · rcases (eS n).mp hx with hx | hx
            · exact s2 n (Or.inl hx)
            · rw [hx]; exact hLl
          · rcases (eT n).mp hx with hx | hx
            · exact s2 n (Or.inr hx.1)
            · have hb := (hB l hl16 n).mp hx.1
              have hnh : n ≠ h := by
                intro e
                rw [e] at hx
                exact hx.2 (Or.inl s1)
              obtain ⟨p, r1, r2, r3, r4⟩ := hLl
              rcases r4 with e | ⟨r5, r6, r7⟩
              · exact absurd e hlh
              · exact ⟨p, r1, r2, r3, Or.inr ⟨hb.1, hnh, gr_hd hb.2 hlh r7⟩⟩
        · intro n hx
          rcases (eT n).mp hx with hx | hx
          · apply ts_nt
            intro hy
            rcases (eS n).mp hy with hy | hy
            · rw [s3 n hx.1] at hy; cases hy
            · exact hx.2 hy
          · apply ts_nt
            intro hy
            exact hx.2 ((eS n).mp hy)
        · intro p r1 r2 r3 hph
          rcases s4 p r1 r2 r3 hph with hx | hx
          · exact Or.inl ((eS p).mpr (Or.inl hx))
          · by_cases e : p = l
            · exact Or.inl ((eS p).mpr (Or.inr e))
            · exact Or.inr ((eT p).mpr (Or.inl ⟨hx, e⟩))
        · intro n q hn hnh hRq hEq
          by_cases hq : bt S q = true ∨ q = l
          · exact Or.inl ((eS q).mpr hq)
          · rcases (eS n).mp hn with hx | hx
            · rcases s5 n q hx hnh hRq hEq with hy | hy
              · exact absurd (Or.inl hy) hq
              · exact Or.inr ((eT q).mpr (Or.inl ⟨hy, fun e => hq (Or.inr e)⟩))
            · refine Or.inr ((eT q).mpr (Or.inr ⟨(hB l hl16 q).mpr ⟨hRq, ?_⟩, hq⟩))
              rw [← hx]; exact hEq
  have e1 : ∀ i, bt ((1 : Int32) <<< (nI h &&& 31)) i = true ↔ i = h := fun i => (xg_oi (m := 0) (by omega) i).trans eq_comm
  have e2 : ∀ i, bt (bk &&& (((1 : Int32) <<< (nI h &&& 31)) ^^^ (-1))) i = true ↔ bt bk i = true ∧ i ≠ h := by
    intro i
    rw [bs_nt, Bool.and_eq_true, Bool.not_eq_true']
    refine and_congr Iff.rfl ?_
    constructor
    · intro hx e
      rw [(e1 i).mpr e] at hx
      cases hx
    · intro hx
      exact ts_nt (fun hy => hx ((e1 i).mp hy))
  refine nm_e (nm_e ⟨17, key 17 _ _ ?_ ((e1 h).mpr rfl) ?_ ?_ ?_ ?_⟩)
  · have := ct_le (fun i => !bt ((1 : Int32) <<< (nI h &&& 31)) i) 16
    omega
  · intro n hx
    rcases hx with hx | hx
    · rw [(e1 n).mp hx]; exact gl_h.mp hh
    · have hx := (e2 n).mp hx
      have hy := (hbk n).mp hx.1
      exact ⟨n, hy.1, hy.2.1, hy.2.2, Or.inr ⟨hy.1, hx.2, gr_rf⟩⟩
  · intro n hx
    have hx := (e2 n).mp hx
    exact ts_nt (fun hy => hx.2 ((e1 n).mp hy))
  · intro p r1 r2 r3 hph
    exact Or.inr ((e2 p).mpr ⟨(hbk p).mpr ⟨r1, r2, r3⟩, hph⟩)
  · intro n q hn hnh
    exact absurd ((e1 n).mp hn) hnh
end XL
end
section
section XM
variable {f_known f_seen f_many f_ordered f_isStraight f_entered f_todo f_length f_waiting f_tellings f_last f_stopped f_steps f_ran : Int32} {f_left : Int64} {a_acts a_actV a_actC a_ends a_endV a_endX a_endY a_numbers a_byNumber a_before a_forward a_backward a_orderOf a_at a_from a_semi a_label a_up a_found a_stack a_place a_chiefs a_tails a_edges a_rulers a_loops a_innermost a_outer a_deep a_alive a_values a_present a_code a_target a_pending a_pendingOf a_begins a_openAt a_vars a_told : Nat → Int32} {g : Nat → Nat → Nat}
/-! X: findLoops -/
def xl_P (g : Nat → Nat → Nat) (h p : Nat) : Prop := gg_R g p → gg_E g p h → gg_n g h ≤ gg_n g p → gg_D g h p
def xl_F (st : Int32) (Q : Prop) : Prop := (st = 1 ∧ Q) ∨ (st = 0 ∧ ¬ Q)
def xl_Lo (g : Nat → Nat → Nat) (k : Nat) (a_loops : Nat → Int32) : Prop := ∀ h, h < 16 → ∀ i, bt (a_loops h) i = true ↔ gg_L g h i ∧ k ≤ gg_n g h
theorem xl_75 (W : gg_W g) (hn : xn_N g f_seen f_many a_byNumber a_numbers) (hB : xr_B g a_before) (hC : xr_C g a_chiefs) {k h : Nat} (hR : gg_R g h) (hk : gg_n g h = k) (hI : xl_I g (k + 1) a_innermost) (hO : xl_O g (k + 1) a_outer) (hLo : xl_Lo g (k + 1) a_loops)
    {Q : Prop} (hF : xl_F f_isStraight Q) {post : SX → Prop} {J : Int32 → Int32 → Int32 → Int32 → Int32 → Int32 → Int32 → Int32 → Int32 → Int32 → Int32 → Int32 → Int32 → Int32 → Int64 → Int32 → (Nat → Int32) → (Nat → Int32) → (Nat → Int32) → (Nat → Int32) → (Nat → Int32) → (Nat → Int32) → (Nat → Int32) → (Nat → Int32) → (Nat → Int32) → (Nat → Int32) → (Nat → Int32) → (Nat → Int32) → (Nat → Int32) → (Nat → Int32) → (Nat → Int32) → (Nat → Int32) → (Nat → Int32) → (Nat → Int32) → (Nat → Int32) → (Nat → Int32) → (Nat → Int32) → (Nat → Int32) → (Nat → Int32) → (Nat → Int32) → (Nat → Int32) → (Nat → Int32) → (Nat → Int32) → (Nat → Int32) → (Nat → Int32) → (Nat → Int32) → (Nat → Int32) → (Nat → Int32) → (Nat → Int32) → (Nat → Int32) → (Nat → Int32) → (Nat → Int32) → (Nat → Int32) → (Nat → Int32) → (Nat → Int32) → (Nat → Int32) → Prop}
    (C : ∀ (st : Int32) (lo inn out : Nat → Int32), xl_F st (Q ∧ ∀ p, xl_P g h p) → xl_Lo g k lo → xl_I g k inn → xl_O g k out → (J (nI k + (-1)) f_known f_seen f_many f_ordered st f_entered f_todo f_length f_waiting f_tellings f_last f_stopped f_steps f_left f_ran a_acts a_actV a_actC a_ends a_endV a_endX a_endY a_numbers a_byNumber a_before a_forward a_backward a_orderOf a_at a_from a_semi a_label a_up a_found a_stack a_place a_chiefs a_tails a_edges a_rulers lo inn out a_deep a_alive a_values a_present a_code a_target a_pending a_pendingOf a_begins a_openAt a_vars a_told)) :
    ∃ n : Nat, (wX_findLoops_75 post J (nI k) (nI h) f_known f_seen f_many f_ordered f_entered f_todo f_length f_waiting f_tellings f_last f_stopped f_steps f_left f_ran a_acts a_actV a_actC a_ends a_endV a_endX a_endY a_numbers a_byNumber a_before a_forward a_backward a_orderOf a_at a_from a_semi a_label a_up a_found a_stack a_place a_chiefs a_tails a_edges a_rulers a_loops a_innermost a_outer a_deep a_alive a_values a_present a_code a_target a_pending a_pendingOf a_begins a_openAt a_vars a_told n 0 (a_before h) f_isStraight) := by
  have hh16 := gg_R16 W hR
  have hk16 : k < 16 := by
    have := (gg_nl W hR).1
    have := df_ln W
    omega
  refine ⟨17, ?_⟩
  refine bs_lp (σ := Int32 × Int32) (fun n s t => (wX_findLoops_75 post J (nI k) (nI h) f_known f_seen f_many f_ordered f_entered f_todo f_length f_waiting f_tellings f_last f_stopped f_steps f_left f_ran a_acts a_actV a_actC a_ends a_endV a_endX a_endY a_numbers a_byNumber a_before a_forward a_backward a_orderOf a_at a_from a_semi a_label a_up a_found a_stack a_place a_chiefs a_tails a_edges a_rulers a_loops a_innermost a_outer a_deep a_alive a_values a_present a_code a_target a_pending a_pendingOf a_begins a_openAt a_vars a_told n t.1 s t.2)) (a_before h) 16 (fun i hi => ts_nt (fun hx => by have := gg_R16 W ((hB h hh16 i).mp hx).1; omega))
    (fun j t => (∀ p, bt t.1 p = true ↔ p < j ∧ gg_R g p ∧ gg_E g p h ∧ gg_D g h p) ∧ xl_F t.2 (Q ∧ ∀ p, p < j → xl_P g h p)) ?_ ?_ ?_ (0, f_isStraight) ⟨?_, ?_⟩ 17 (by omega)
  · intro n t ht
    obtain ⟨t1, t2⟩ := ht
    have hF' : xl_F t.2 (Q ∧ ∀ p, xl_P g h p) := by
      have : (Q ∧ ∀ p, p < 16 → xl_P g h p) = (Q ∧ ∀ p, xl_P g h p) := by
        apply propext
        constructor
        · intro hx; exact ⟨hx.1, fun p hr => hx.2 p (gg_R16 W hr) hr⟩
        · intro hx; exact ⟨hx.1, fun p _ => hx.2 p⟩
      rw [← this]; exact t2
    refine br_t rfl ?_
    by_cases hb : t.1 = 0
    · have hnH : ∀ h', gg_H g h' → gg_n g h' ≠ k := by
        intro h' hH e
        have := gg_ni W (gl_Rh (gl_h.mp hH)) hR (by rw [e, hk])
        subst this
        obtain ⟨p, r1, r2, r3⟩ := hH
        have := (t1 p).mpr ⟨gg_R16 W r1, r1, r2, r3⟩
        rw [hb, b_0] at this
        cases this
      have h2 := xl_sk W hnH hI hO
      refine br_t hb (nm_e (C t.2 a_loops a_innermost a_outer hF' ?_ h2.1 h2.2))
      intro m hm i
      rw [hLo m hm i]
      constructor
      · intro hx; exact ⟨hx.1, by omega⟩
      · intro hx
        refine ⟨hx.1, ?_⟩
        have := hnH m (gl_H hx.1)
        omega
    · obtain ⟨p, _, hp, _⟩ := bs_fst hb
      have hp := (t1 p).mp hp
      have hH : gg_H g h := ⟨p, hp.2⟩
      refine br_f hb ?_
      refine xl_bd W hB hH hk hI hO (fun p => ?_) ?_
      · rw [t1 p]
        constructor
        · intro hx; exact hx.2
        · intro hx; exact ⟨gg_R16 W hx.1, hx⟩
      · intro S inn' out' hS h1 h2
        refine And.intro (xg_i hh16) (nm_r (e' := upd a_loops h S) (by rw [xg_u (by omega)]) (nm_e (C t.2 _ inn' out' hF' ?_ h1 h2)))
        intro m hm i
        by_cases e : m = h
        · subst e
          rw [pk_us, hS i]
          constructor
          · intro hx; exact ⟨hx, by omega⟩
          · intro hx; exact hx.1
        · rw [pk_un e, hLo m hm i]
          constructor
          · intro hx; exact ⟨hx.1, by omega⟩
          · intro hx
            refine ⟨hx.1, ?_⟩
            by_cases e2 : gg_n g m = k
            · exact absurd (gg_ni W (gl_Rh hx.1) hR (by omega)) e
            · omega
  · intro i t hi hbi ht
    have hnp : ¬ (gg_R g i ∧ gg_E g i h) := fun hx => by rw [(hB h hh16 i).mpr hx] at hbi; cases hbi
    refine ⟨?_, ?_⟩
    · intro p
      rw [ht.1 p]
      constructor
      · intro hx; exact ⟨by omega, hx.2⟩
      · intro hx
        refine ⟨?_, hx.2⟩
        by_cases e : p = i
        · subst e; exact absurd ⟨hx.2.1, hx.2.2.1⟩ hnp
        · omega
    · have : (Q ∧ ∀ p, p < i + 1 → xl_P g h p) = (Q ∧ ∀ p, p < i → xl_P g h p) := by
        apply propext
        constructor
        · intro hx; exact ⟨hx.1, fun p hp => hx.2 p (by omega)⟩
        · intro hx
          refine ⟨hx.1, fun p hp => ?_⟩
          by_cases e : p = i
          · subst e
            intro r1 r2
            exact absurd ⟨r1, r2⟩ hnp
          · exact hx.2 p (by omega)
      rw [this]; exact ht.2
  · intro n s i t hi hbi hs hsi hsm ht ih
    obtain ⟨t1, t2⟩ := ht
    have hp := (hB h hh16 i).mp hbi
    have eQ : ∀ (b : Prop), (xl_P g h i ↔ b) → (Q ∧ ∀ p, p < i + 1 → xl_P g h p) = ((Q ∧ ∀ p, p < i → xl_P g h p) ∧ b) := by
      intro b hb
      apply propext
      constructor
      · intro hx; exact ⟨⟨hx.1, fun p hp => hx.2 p (by omega)⟩, hb.mp (hx.2 i (by omega))⟩
      · intro hx
        refine ⟨hx.1.1, fun p hp => ?_⟩
        by_cases e : p = i
        · subst e; exact hb.mpr hx.2
        · exact hx.1.2 p (by omega)
    have en : a_numbers (nI i).toNatClampNeg = nI (gg_n g i) := by rw [nI_clamp (by omega), hn.2.2.2 i hp.1]
    have hi16 : gg_n g i < 16 := by
      have := (gg_nl W hp.1).1
      have := df_ln W
      omega
    refine br_f hs (bs_lw hsi hsm (And.intro (xg_i hi) ?_))
    by_cases hle : k ≤ gg_n g i
    · refine br_t (by rw [en]; exact nI_le hle (by omega)) ?_
      refine xl_ru W hC hp.1 hh16 ?_ ?_
      · intro hD
        refine br_f (by decide) (nm_e (nm_e (ih (_, t.2) ⟨?_, ?_⟩)))
        · intro p
          show bt (t.1 ||| (1 : Int32) <<< (nI i &&& 31)) p = true ↔ _
          rw [b_or, Bool.or_eq_true, t1 p, xg_oi (m := 0) (by omega)]
          constructor
          · intro hx
            rcases hx with hx | hx
            · exact ⟨by omega, hx.2⟩
            · subst hx; exact ⟨by omega, hp.1, hp.2, hD⟩
          · intro hx
            by_cases e : p = i
            · exact Or.inr e.symm
            · exact Or.inl ⟨by omega, hx.2⟩
        · rw [eQ True ⟨fun _ => trivial, fun _ _ _ _ => hD⟩, and_true]
          exact t2
      · intro hD
        refine br_t rfl (nm_e (ih (t.1, 0) ⟨?_, ?_⟩))
        · intro p
          rw [t1 p]
          constructor
          · intro hx; exact ⟨by omega, hx.2⟩
          · intro hx
            refine ⟨?_, hx.2⟩
            by_cases e : p = i
            · subst e; exact absurd hx.2.2.2 hD
            · omega
        · rw [eQ False ⟨fun hx => hD (hx hp.1 hp.2 (by omega)), fun hx => absurd hx id⟩, and_false]
          exact Or.inr ⟨rfl, id⟩
    · refine br_f (by rw [en]; exact nI_ge (by omega) (by omega)) (nm_e (ih t ⟨?_, ?_⟩))
      · intro p
        rw [t1 p]
        constructor
        · intro hx; exact ⟨by omega, hx.2⟩
        · intro hx
          refine ⟨?_, hx.2⟩
          by_cases e : p = i
          · subst e
            exfalso
            by_cases e2 : h = p
            · rw [e2] at hk; omega
            · have := gg_nD W hp.1 hx.2.2.2 e2
              omega
          · omega
      · rw [eQ True ⟨fun _ => trivial, fun _ _ _ hx => by omega⟩, and_true]
        exact t2
  · intro p
    show bt 0 p = true ↔ _
    rw [b_0]
    constructor
    · intro hx; cases hx
    · intro hx; omega
  · have : (Q ∧ ∀ p, p < 0 → xl_P g h p) = Q := by
      apply propext
      constructor
      · intro hx; exact hx.1
      · intro hx; exact ⟨hx, fun p hp => by omega⟩
    show xl_F f_isStraight (Q ∧ ∀ p, p < 0 → xl_P g h p)
    rw [this]; exact hF
/-! how deep a node lies -/
noncomputable def xl_c (g : Nat → Nat → Nat) (m : Nat) : Nat := ct_c (fun h => pd_b (gg_L g h m ∧ h ≠ m)) 16
noncomputable def gg_dp (g : Nat → Nat → Nat) (n : Nat) : Nat := ct_c (fun h => pd_b (gg_L g h n)) 16
theorem xl_c1 (W : gg_W g) {k : Nat} (P : Nat → Prop) (hP : ∀ h, P h → h < 16) {o : Nat} (ho : P o) (hq : ∀ h, P h ↔ h = o ∨ (gg_L g h o ∧ h ≠ o)) : ct_c (fun h => pd_b (P h)) 16 = xl_c g o + 1 := by
  have := ct_rm (p := fun h => pd_b (gg_L g h o ∧ h ≠ o)) (q := fun h => pd_b (P h)) 16 o (hP o ho) ?_ ?_ ?_
  · unfold xl_c; omega
  · intro i _ hi
    show pd_b (gg_L g i o ∧ i ≠ o) = pd_b (P i)
    have : (gg_L g i o ∧ i ≠ o) = P i := by
      apply propext
      rw [hq i]
      constructor
      · intro h; exact Or.inr h
      · intro h
        rcases h with h | h
        · exact absurd h hi
        · exact h
    rw [this]
  · exact pd_f (fun h => h.2 rfl)
  · exact pd_t ho
theorem xl_184 (W : gg_W g) (hO : xl_O g 0 a_outer) {x : Nat} (hx : x < 16) {k : Int32} {post : SX → Prop} {J : Int32 → (Nat → Int32) → (Nat → Int32) → (Nat → Int32) → (Nat → Int32) → (Nat → Int32) → (Nat → Int32) → (Nat → Int32) → (Nat → Int32) → (Nat → Int32) → (Nat → Int32) → (Nat → Int32) → (Nat → Int32) → (Nat → Int32) → (Nat → Int32) → (Nat → Int32) → (Nat → Int32) → (Nat → Int32) → (Nat → Int32) → (Nat → Int32) → (Nat → Int32) → (Nat → Int32) → (Nat → Int32) → (Nat → Int32) → (Nat → Int32) → (Nat → Int32) → (Nat → Int32) → (Nat → Int32) → (Nat → Int32) → (Nat → Int32) → (Nat → Int32) → (Nat → Int32) → (Nat → Int32) → (Nat → Int32) → (Nat → Int32) → (Nat → Int32) → (Nat → Int32) → (Nat → Int32) → (Nat → Int32) → (Nat → Int32) → (Nat → Int32) → Prop} {D : Nat} (hD : D ≤ 16)
    (C : ∀ de : Nat → Int32, de x = nI D → (∀ i, i ≠ x → de i = a_deep i) → (J (k + 1) a_acts a_actV a_actC a_ends a_endV a_endX a_endY a_numbers a_byNumber a_before a_forward a_backward a_orderOf a_at a_from a_semi a_label a_up a_found a_stack a_place a_chiefs a_tails a_edges a_rulers a_loops a_innermost a_outer de a_alive a_values a_present a_code a_target a_pending a_pendingOf a_begins a_openAt a_vars a_told)) :
    ∀ (f m d : Nat) (de : Nat → Int32), gg_n g m + 1 < f → m < 16 → gg_H g m → d + 1 + xl_c g m = D → de x = nI d → (∀ i, i ≠ x → de i = a_deep i) → (wX_findLoops_184 post J k (nI x) f_known f_seen f_many f_ordered f_isStraight f_entered f_todo f_length f_waiting f_tellings f_last f_stopped f_steps f_left f_ran f (nI m) a_acts a_actV a_actC a_ends a_endV a_endX a_endY a_numbers a_byNumber a_before a_forward a_backward a_orderOf a_at a_from a_semi a_label a_up a_found a_stack a_place a_chiefs a_tails a_edges a_rulers a_loops a_innermost a_outer de a_alive a_values a_present a_code a_target a_pending a_pendingOf a_begins a_openAt a_vars a_told) := by
  intro f
  induction f with
  | zero => intro m d de h; omega
  | succ f ih =>
    intro m d de hf hm hH hd hdx hdo
    refine br_f (nI_pos (by omega)) (And.intro (xg_i hx) (And.intro (xg_i hx) (nm_r (e' := upd de x (nI (d + 1))) (by rw [nI_clamp (by omega), hdx, nI_1, bs_vbb (by omega)]) (And.intro (xg_i hm) ?_))))
    have h2 : ∀ i, i ≠ x → upd de x (nI (d + 1)) i = a_deep i := fun i hi => (pk_un hi).trans (hdo i hi)
    rcases hO m hm with ⟨o1, o2⟩ | ⟨o, o1, o2, o3, o4, o5, o6, o7⟩
    · refine nm_r (e' := -1) (by rw [nI_clamp (by omega), o1]) ?_
      obtain ⟨f', rfl⟩ : ∃ f', f = f' + 1 := ⟨f - 1, by omega⟩
      have hz : xl_c g m = 0 := by
        unfold xl_c
        rw [ct_eq 16 (q := fun _ => false)]
        · exact ct_f 16
        · intro i _
          refine pd_f (fun h => o2 ⟨hH, Nat.zero_le _⟩ i ⟨gl_H h.1, Nat.zero_le _⟩ h.2 h.1)
      refine br_t bs_n1 (nm_e (C _ ?_ h2))
      rw [pk_us]
      exact congrArg nI (by omega)
    · refine nm_r (e' := nI o) (by rw [nI_clamp (by omega), o2]) ?_
      have hlt := gl_n W o6 o5
      have hc := xl_c1 W (k := 0) (fun h => gg_L g h m ∧ h ≠ m) (fun h hh => gg_R16 W (gl_Rh hh.1)) (o := o) ⟨o6, o5⟩ (fun h => by
        constructor
        · intro hh
          by_cases e : h = o
          · exact Or.inl e
          · exact Or.inr ⟨o7 h ⟨gl_H hh.1, Nat.zero_le _⟩ hh.2 hh.1, e⟩
        · intro hh
          rcases hh with hh | hh
          · subst hh; exact ⟨o6, o5⟩
          · refine ⟨gl_tr hh.1 o6, fun e => ?_⟩
            subst e
            exact o5 (gl_as o6 hh.1))
      have hc' : xl_c g m = xl_c g o + 1 := hc
      exact ih o (d + 1) _ (by omega) o1 o4.1 (by omega) pk_us h2
def xl_De (g : Nat → Nat → Nat) (a_deep : Nat → Int32) : Prop := ∀ n, gg_R g n → a_deep n = nI (gg_dp g n)
def gg_St (g : Nat → Nat → Nat) : Prop := ∀ h p, xl_P g h p
theorem xl_162 (W : gg_W g) (hn : xn_N g f_seen f_many a_byNumber a_numbers) (hI : xl_I g 0 a_innermost) (hO : xl_O g 0 a_outer) (hd : ∀ n, n < 16 → a_deep n = 0) {post : SX → Prop}
    (C : ∀ de : Nat → Int32, xl_De g de → post (f_known, f_seen, f_many, f_ordered, f_isStraight, f_entered, f_todo, f_length, f_waiting, f_tellings, f_last, f_stopped, f_steps, f_left, f_ran, a_acts, a_actV, a_actC, a_ends, a_endV, a_endX, a_endY, a_numbers, a_byNumber, a_before, a_forward, a_backward, a_orderOf, a_at, a_from, a_semi, a_label, a_up, a_found, a_stack, a_place, a_chiefs, a_tails, a_edges, a_rulers, a_loops, a_innermost, a_outer, de, a_alive, a_values, a_present, a_code, a_target, a_pending, a_pendingOf, a_begins, a_openAt, a_vars, a_told)) : ∃ n : Nat, (wX_findLoops_162 post f_known f_seen f_many f_ordered f_isStraight f_entered f_todo f_length f_waiting f_tellings f_last f_stopped f_steps f_left f_ran n 0 a_acts a_actV a_actC a_ends a_endV a_endX a_endY a_numbers a_byNumber a_before a_forward a_backward a_orderOf a_at a_from a_semi a_label a_up a_found a_stack a_place a_chiefs a_tails a_edges a_rulers a_loops a_innermost a_outer a_deep a_alive a_values a_present a_code a_target a_pending a_pendingOf a_begins a_openAt a_vars a_told) := by
  obtain ⟨n1, n2, n3, n4⟩ := hn
  subst n2
  have hlen := df_ln W
  refine loop_0 (σ := Nat → Int32) (fun n i s => (wX_findLoops_162 post f_known f_seen (nI (df_o g).length) f_ordered f_isStraight f_entered f_todo f_length f_waiting f_tellings f_last f_stopped f_steps f_left f_ran n (nI i) a_acts a_actV a_actC a_ends a_endV a_endX a_endY a_numbers a_byNumber a_before a_forward a_backward a_orderOf a_at a_from a_semi a_label a_up a_found a_stack a_place a_chiefs a_tails a_edges a_rulers a_loops a_innermost a_outer s a_alive a_values a_present a_code a_target a_pending a_pendingOf a_begins a_openAt a_vars a_told))
    (fun i s => ∀ n, gg_R g n → s n = if gg_n g n < i then nI (gg_dp g n) else 0) (df_o g).length a_deep ?_ ?_ ?_
  · intro n hR
    rw [if_neg (by omega)]
    exact hd n (gg_R16 W hR)
  · intro n s hs
    refine br_t (nI_le (Nat.le_refl _) (by omega)) (C s ?_)
    intro m hm
    rw [hs m hm, if_pos (gg_nl W hm).1]
  · intro n i s hi hs ih
    have hgn := gg_ng W hi
    have hx16 := gg_R16 W hgn.1
    have hbn : a_byNumber (nI i).toNatClampNeg = nI ((df_o g).getD i 0) := by rw [nI_clamp (by omega), n3 i hi]
    have hlt := fun m hm => gg_lt W hi (m := m) hm
    refine br_f (nI_ge hi (by omega)) (And.intro (xg_i (by omega)) (nm_r hbn (And.intro (xg_i hx16) ?_)))
    generalize hx : (df_o g).getD i 0 = x at *
    have hD : gg_dp g x ≤ 16 := ct_le _ 16
    have hsx : s x = 0 := by rw [hs x hgn.1, if_neg (by omega)]
    have nx : ∀ de : Nat → Int32, de x = nI (gg_dp g x) → (∀ i, i ≠ x → de i = s i) → ∀ n, gg_R g n → de n = if gg_n g n < i + 1 then nI (gg_dp g n) else 0 := by
      intro de h1 h2 n hR
      by_cases e : n = x
      · subst e; rw [if_pos (by omega)]; exact h1
      · rw [h2 n e, hs n hR]
        have : (gg_n g n < i + 1) = (gg_n g n < i) := by
          apply propext
          rw [hlt n hR]
          constructor
          · intro h
            rcases h with h | h
            · exact h
            · exact absurd h e
          · intro h; exact Or.inl h
        simp only [this]
    refine nm_r (e' := a_innermost x) (by rw [nI_clamp (by omega)]) ?_
    rcases hI x hx16 with ⟨i1, i2⟩ | ⟨m, i1, i2, i3, i4, i5⟩
    · rw [i1]
      refine ⟨1, br_t bs_n1 (nm_r (nI_1 i) (ih s (nx s ?_ (fun _ _ => rfl))))⟩
      have : gg_dp g x = 0 := by
        unfold gg_dp
        rw [ct_eq 16 (q := fun _ => false)]
        · exact ct_f 16
        · intro j _
          exact pd_f (fun h => i2 j ⟨gl_H h, Nat.zero_le _⟩ h)
      rw [this, hsx]; rfl
    · rw [i2]
      have hc := xl_c1 W (k := 0) (fun h => gg_L g h x) (fun h hh => gg_R16 W (gl_Rh hh)) (o := m) i4 (fun h => by
        constructor
        · intro hh
          by_cases e : h = m
          · exact Or.inl e
          · exact Or.inr ⟨i5 h ⟨gl_H hh, Nat.zero_le _⟩ hh, e⟩
        · intro hh
          rcases hh with hh | hh
          · subst hh; exact i4
          · exact gl_tr hh.1 i4)
      have hc' : gg_dp g x = xl_c g m + 1 := hc
      refine ⟨gg_n g m + 2, xl_184 (a_deep := s) W hO hx16 hD ?_ _ m 0 s (by omega) i1 i3.1 (by omega) hsx (fun _ _ => rfl)⟩
      intro de h1 h2
      rw [nI_1]
      exact ih de (nx de h1 h2)
theorem xl_54 (W : gg_W g) (hn : xn_N g f_seen f_many a_byNumber a_numbers) (hB : xr_B g a_before) (hC : xr_C g a_chiefs) (hd : ∀ n, n < 16 → a_deep n = 0) {post : SX → Prop}
    (C : ∀ (st : Int32) (lo inn out de : Nat → Int32), xl_F st (gg_St g) → xl_Lo g 0 lo → xl_I g 0 inn → xl_De g de → post (f_known, f_seen, f_many, f_ordered, st, f_entered, f_todo, f_length, f_waiting, f_tellings, f_last, f_stopped, f_steps, f_left, f_ran, a_acts, a_actV, a_actC, a_ends, a_endV, a_endX, a_endY, a_numbers, a_byNumber, a_before, a_forward, a_backward, a_orderOf, a_at, a_from, a_semi, a_label, a_up, a_found, a_stack, a_place, a_chiefs, a_tails, a_edges, a_rulers, lo, inn, out, de, a_alive, a_values, a_present, a_code, a_target, a_pending, a_pendingOf, a_begins, a_openAt, a_vars, a_told)) :
    ∀ (f K : Nat) (st : Int32) (lo inn out : Nat → Int32), K < f → K ≤ (df_o g).length → xl_F st (∀ h p, K ≤ gg_n g h → xl_P g h p) → xl_Lo g K lo → xl_I g K inn → xl_O g K out →
      (wX_findLoops_54 post f (nI K - 1) f_known f_seen f_many f_ordered st f_entered f_todo f_length f_waiting f_tellings f_last f_stopped f_steps f_left f_ran a_acts a_actV a_actC a_ends a_endV a_endX a_endY a_numbers a_byNumber a_before a_forward a_backward a_orderOf a_at a_from a_semi a_label a_up a_found a_stack a_place a_chiefs a_tails a_edges a_rulers lo inn out a_deep a_alive a_values a_present a_code a_target a_pending a_pendingOf a_begins a_openAt a_vars a_told) := by
  have hlen := df_ln W
  intro f
  induction f with
  | zero => intro K st lo inn out h; omega
  | succ f ih =>
    intro K st lo inn out hf hK hF hLo hI hO
    cases K with
    | zero =>
      refine br_t (by decide) (xl_162 (f_isStraight := st) (a_loops := lo) (a_innermost := inn) (a_outer := out) W hn hI hO hd (fun de hde => C st lo inn out de ?_ hLo hI hde))
      have : (∀ h p, 0 ≤ gg_n g h → xl_P g h p) = gg_St g := by
        apply propext
        constructor
        · intro hx h p; exact hx h p (Nat.zero_le _)
        · intro hx h p _; exact hx h p
      rw [← this]; exact hF
    | succ k =>
      have hi : k < (df_o g).length := by omega
      have hgn := gg_ng W hi
      have hx16 := gg_R16 W hgn.1
      rw [show nI (k + 1) - 1 = nI k from nI_pred k]
      refine br_f (nI_pos (by omega)) (And.intro (xg_i (by omega)) (nm_r (e' := nI ((df_o g).getD k 0)) (by rw [nI_clamp (by omega), hn.2.2.1 k hi]) (And.intro (xg_i hx16) (nm_r (e' := a_before ((df_o g).getD k 0)) (by rw [nI_clamp (by omega)]) ?_))))
      refine xl_75 (f_isStraight := st) (a_loops := lo) (a_innermost := inn) (a_outer := out) W hn hB hC hgn.1 hgn.2 hI hO hLo hF ?_
      intro st' lo' inn' out' hF' hLo' hI' hO'
      rw [show nI k + (-1) = nI k - 1 from (Int32.sub_eq_add_neg _ _).symm]
      refine ih k st' lo' inn' out' (by omega) (by omega) ?_ hLo' hI' hO'
      have : ((∀ h p, k + 1 ≤ gg_n g h → xl_P g h p) ∧ ∀ p, xl_P g ((df_o g).getD k 0) p) = (∀ h p, k ≤ gg_n g h → xl_P g h p) := by
        apply propext
        constructor
        · intro hx h p hk r1 r2 r3
          by_cases e : gg_n g h = k
          · have := gg_ni W (gr_st r1 r2 trivial) hgn.1 (by rw [e, hgn.2])
            subst this
            exact hx.2 p r1 r2 r3
          · exact hx.1 h p (by omega) r1 r2 r3
        · intro hx
          exact ⟨fun h p hk => hx h p (by omega), fun p => hx _ p (by omega)⟩
      rw [← this]; exact hF'
/-- findLoops, whole -/
theorem xl_f (W : gg_W g) (hn : xn_N g f_seen f_many a_byNumber a_numbers) (hB : xr_B g a_before) (hC : xr_C g a_chiefs) {post : SX → Prop}
    (C : ∀ (st : Int32) (lo inn out de : Nat → Int32), xl_F st (gg_St g) → xl_Lo g 0 lo → xl_I g 0 inn → xl_De g de → post (f_known, f_seen, f_many, f_ordered, st, f_entered, f_todo, f_length, f_waiting, f_tellings, f_last, f_stopped, f_steps, f_left, f_ran, a_acts, a_actV, a_actC, a_ends, a_endV, a_endX, a_endY, a_numbers, a_byNumber, a_before, a_forward, a_backward, a_orderOf, a_at, a_from, a_semi, a_label, a_up, a_found, a_stack, a_place, a_chiefs, a_tails, a_edges, a_rulers, lo, inn, out, de, a_alive, a_values, a_present, a_code, a_target, a_pending, a_pendingOf, a_begins, a_openAt, a_vars, a_told)) : (wpX_findLoops post (f_known, f_seen, f_many, f_ordered, f_isStraight, f_entered, f_todo, f_length, f_waiting, f_tellings, f_last, f_stopped, f_steps, f_left, f_ran, a_acts, a_actV, a_actC, a_ends, a_endV, a_endX, a_endY, a_numbers, a_byNumber, a_before, a_forward, a_backward, a_orderOf, a_at, a_from, a_semi, a_label, a_up, a_found, a_stack, a_place, a_chiefs, a_tails, a_edges, a_rulers, a_loops, a_innermost, a_outer, a_deep, a_alive, a_values, a_present, a_code, a_target, a_pending, a_pendingOf, a_begins, a_openAt, a_vars, a_told)) := by
  have hlen := df_ln W
  refine loop_0 (σ := (Nat → Int32) × (Nat → Int32) × (Nat → Int32) × (Nat → Int32)) (fun n i s => (wX_findLoops_7 post f_known f_seen f_many f_ordered 1 f_entered f_todo f_length f_waiting f_tellings f_last f_stopped f_steps f_left f_ran n (nI i) a_acts a_actV a_actC a_ends a_endV a_endX a_endY a_numbers a_byNumber a_before a_forward a_backward a_orderOf a_at a_from a_semi a_label a_up a_found a_stack a_place a_chiefs a_tails a_edges a_rulers s.1 s.2.1 s.2.2.1 s.2.2.2 a_alive a_values a_present a_code a_target a_pending a_pendingOf a_begins a_openAt a_vars a_told)) (fun i s => ∀ n, n < i → s.1 n = 0 ∧ s.2.1 n = -1 ∧ s.2.2.1 n = -1 ∧ s.2.2.2 n = 0) 16 (a_loops, a_innermost, a_outer, a_deep) (fun n hn => by omega) ?_ ?_
  · intro n s hI
    have hmany := hn.2.1
    refine br_t (by decide) (nm_e ⟨18, ?_⟩)
    rw [show f_many - 1 = nI (df_o g).length - 1 from by rw [hmany]]
    refine xl_54 (a_deep := s.2.2.2) W hn hB hC (fun n h => (hI n h).2.2.2) C 18 (df_o g).length 1 s.1 s.2.1 s.2.2.1 (by omega) (Nat.le_refl _) (Or.inl ⟨rfl, ?_⟩) ?_ ?_ ?_
    · intro h p hk r1 r2
      have := (gg_nl W (gr_st r1 r2 trivial)).1
      omega
    · intro h hh i
      rw [(hI h hh).1, b_0]
      constructor
      · intro hx; cases hx
      · intro hx
        have := (gg_nl W (gl_Rh hx.1)).1
        omega
    · intro n hn16
      refine Or.inl ⟨(hI n hn16).2.1, fun h hh _ => ?_⟩
      have := (gg_nl W (gl_Rh (gl_h.mp hh.1))).1
      have := hh.2
      omega
    · intro m hm
      refine Or.inl ⟨(hI m hm).2.2.1, fun hh => ?_⟩
      have := (gg_nl W (gl_Rh (gl_h.mp hh.1))).1
      have := hh.2
      omega
  · intro n i s hi hI ih
    refine br_f (nI_ge (b := 16) hi (by omega)) (And.intro (xg_i hi) (nm_r (e' := upd s.1 i 0) (by rw [xg_u (by omega)]) (And.intro (xg_i hi) (nm_r (e' := upd s.2.1 i (-1)) (by rw [bs_vm, xg_u (by omega)]) (And.intro (xg_i hi) (nm_r (e' := upd s.2.2.1 i (-1)) (by rw [bs_vm, xg_u (by omega)]) (And.intro (xg_i hi) (nm_r (e' := upd s.2.2.2 i 0) (by rw [bs_v0, xg_u (by omega)]) (nm_r (nI_1 i) (ih (_, _, _, _) ?_))))))))))
    intro j hj
    by_cases ej : j = i
    · subst ej; exact ⟨pk_us, pk_us, pk_us, pk_us⟩
    · have := hI j (by omega)
      exact ⟨(pk_un ej).trans this.1, (pk_un ej).trans this.2.1, (pk_un ej).trans this.2.2.1, (pk_un ej).trans this.2.2.2⟩
end XM
end
section
section XN
/-! live variables -/
def gg_lk (g : Nat → Nat → Nat) (n v : Nat) : Prop := ((g 4 n = 2 ∨ g 4 n = 4) ∧ g 5 n = v) ∨ (g 4 n = 3 ∧ g 6 n = v)
def gg_rp (g : Nat → Nat → Nat) (n v : Nat) : Prop := (g 4 n = 1 ∨ g 4 n = 3 ∨ g 4 n = 5) ∧ g 5 n = v
def gg_ts (g : Nat → Nat → Nat) (n v : Nat) : Prop := g 0 n = 2 ∧ g 1 n = v
def gg_V (g : Nat → Nat → Nat) (v n : Nat) : Prop := ∃ m, gr_c (fun x y => ¬ gg_rp g x v ∧ gg_E g x y) (fun _ => True) n m ∧ (gg_lk g m v ∨ (¬ gg_rp g m v ∧ gg_ts g m v))
def xa_F (g : Nat → Nat → Nat) (n : Nat) (B : Nat → Prop) (v : Nat) : Prop := gg_lk g n v ∨ (¬ gg_rp g n v ∧ (gg_ts g n v ∨ B v))
variable {g : Nat → Nat → Nat}
theorem xa_mo {n : Nat} {B B' : Nat → Prop} {v : Nat} (h : xa_F g n B v) (hB : B v → B' v) : xa_F g n B' v := by
  rcases h with h | ⟨h1, h2⟩
  · exact Or.inl h
  · refine Or.inr ⟨h1, ?_⟩
    rcases h2 with h2 | h2
    · exact Or.inl h2
    · exact Or.inr (hB h2)
theorem xa_FV {n v : Nat} (h : xa_F g n (fun v => ∃ s, gg_E g n s ∧ gg_V g v s) v) : gg_V g v n := by
  rcases h with h | ⟨h1, h2⟩
  · exact ⟨n, gr_rf, Or.inl h⟩
  · rcases h2 with h2 | ⟨s, h2, m, h3, h4⟩
    · exact ⟨n, gr_rf, Or.inr ⟨h1, h2⟩⟩
    · exact ⟨m, gr_hd ⟨h1, h2⟩ trivial h3, h4⟩
theorem xa_le {Q : Nat → Prop} {v n : Nat} (hQ : ∀ x, gg_R g x → xa_F g x (fun _ => ∃ s, gg_E g x s ∧ Q s) v → Q x) (hR : gg_R g n) (h : gg_V g v n) : Q n := by
  obtain ⟨m, h1, h2⟩ := h
  have hRm : ∀ z, gr_c (fun x y => ¬ gg_rp g x v ∧ gg_E g x y) (fun _ => True) n z → gg_R g z := fun z hz => gr_tr hR (gr_mo hz (fun x y _ e p => ⟨e.2, p⟩))
  have key : ∀ z, gr_c (fun x y => ¬ gg_rp g x v ∧ gg_E g x y) (fun _ => True) n z → Q z → Q n := by
    intro z hz
    refine gr_in (Q := fun z => Q z → Q n) hz id ?_
    intro x y hx hq e _ hy
    exact hq (hQ x (hRm x hx) (Or.inr ⟨e.1, Or.inr ⟨y, e.2, hy⟩⟩))
  refine key m h1 (hQ m (hRm m h1) ?_)
  rcases h2 with h2 | h2
  · exact Or.inl h2
  · exact Or.inr ⟨h2.1, Or.inl h2.2⟩
theorem gg_V4 (W : gg_W g) {v n : Nat} (h : gg_V g v n) : v < 4 := by
  obtain ⟨m, _, h2⟩ := h
  have hw := W m
  rcases h2 with h2 | h2
  · rcases h2 with h2 | h2
    · omega
    · have := hw.2.2.2.2.2.2.2 h2.1; omega
  · have := h2.2.2; omega
theorem bs_4 {r : Int32} (h : ∀ i, 4 ≤ i → bt r i = false) : ∃ k, k < 16 ∧ r = nI k := by
  have e : r = r &&& 15 := by
    apply b_ext
    intro i _
    have h15 : bt 15 i = decide (i < 4) := by
      rcases Nat.lt_or_ge i 32 with h | h
      · exact (by decide +kernel : ∀ i, i < 32 → bt 15 i = decide (i < 4)) i h
      · rw [b_big h, decide_eq_false (by omega)]
    rw [b_and, h15]
    by_cases h4 : i < 4
    · simp [h4]
    · rw [h i (by omega)]; simp
  obtain ⟨j, hj, ej⟩ := pk_andE r 4 (m := 15) (by decide)
  exact ⟨j, hj, by rw [e]; exact ej⟩
end XN
section XO
variable {f_known f_seen f_many f_ordered f_isStraight f_entered f_todo f_length f_waiting f_tellings f_last f_stopped f_steps f_ran : Int32} {f_left : Int64} {a_acts a_actV a_actC a_ends a_endV a_endX a_endY a_numbers a_byNumber a_before a_forward a_backward a_orderOf a_at a_from a_semi a_label a_up a_found a_stack a_place a_chiefs a_tails a_edges a_rulers a_loops a_innermost a_outer a_deep a_alive a_values a_present a_code a_target a_pending a_pendingOf a_begins a_openAt a_vars a_told : Nat → Int32} {g : Nat → Nat → Nat}
theorem xa_lb (W : gg_W g) (G : (xg_G g a_acts a_actV a_actC a_ends a_endV a_endX a_endY)) {n : Nat} (hn : n < 16) {b : Int32} {post : Int32 → Prop} (h : ∀ r, (∀ v, bt r v = true ↔ xa_F g n (fun v => bt b v = true) v) → post r) : (wpX_liveBefore post (f_known, f_seen, f_many, f_ordered, f_isStraight, f_entered, f_todo, f_length, f_waiting, f_tellings, f_last, f_stopped, f_steps, f_left, f_ran, a_acts, a_actV, a_actC, a_ends, a_endV, a_endX, a_endY, a_numbers, a_byNumber, a_before, a_forward, a_backward, a_orderOf, a_at, a_from, a_semi, a_label, a_up, a_found, a_stack, a_place, a_chiefs, a_tails, a_edges, a_rulers, a_loops, a_innermost, a_outer, a_deep, a_alive, a_values, a_present, a_code, a_target, a_pending, a_pendingOf, a_begins, a_openAt, a_vars, a_told) (nI n) b) := by
  have hw := W n
  have hG := G n hn
  have e0 : a_ends (nI n).toNatClampNeg = nI (g 0 n) := by rw [nI_clamp (by omega), hG.1]
  have e1 : a_endV (nI n).toNatClampNeg = nI (g 1 n) := by rw [nI_clamp (by omega), hG.2.1]
  have e4 : a_acts (nI n).toNatClampNeg = nI (g 4 n) := by rw [nI_clamp (by omega), hG.2.2.2.2.1]
  have e5 : a_actV (nI n).toNatClampNeg = nI (g 5 n) := by rw [nI_clamp (by omega), hG.2.2.2.2.2.1]
  have e6 : a_actC (nI n).toNatClampNeg = nI (g 6 n) := by rw [nI_clamp (by omega), hG.2.2.2.2.2.2]
  have ne : ∀ k, k ≤ 5 → g 4 n ≠ k → ¬ nI (g 4 n) = nI k := fun k hk h1 h2 => h1 (bs_inj h2 (by omega) (by omega))
  have o5 := fun i => xg_oi (m := 0) (n := g 5 n) (by omega) i
  have o6 := fun i => xg_oi (m := 0) (n := g 6 n) (by omega) i
  have mid : ∀ x3 : Int32, (∀ v, bt x3 v = true ↔ gg_ts g n v ∨ bt b v = true) → (wX_liveBefore_23 post (nI n) x3 f_known f_seen f_many f_ordered f_isStraight f_entered f_todo f_length f_waiting f_tellings f_last f_stopped f_steps f_left f_ran a_acts a_actV a_actC a_ends a_endV a_endX a_endY a_numbers a_byNumber a_before a_forward a_backward a_orderOf a_at a_from a_semi a_label a_up a_found a_stack a_place a_chiefs a_tails a_edges a_rulers a_loops a_innermost a_outer a_deep a_alive a_values a_present a_code a_target a_pending a_pendingOf a_begins a_openAt a_vars a_told) := by
    intro x3 hx3
    refine And.intro (xg_i hn) (nm_r (e' := (1 : Int32) <<< (nI (g 5 n) &&& 31)) (by rw [e5]) (And.intro (xg_i hn) (nm_r e4 ?_)))
    have hnt : ∀ v, bt (x3 &&& (((1 : Int32) <<< (nI (g 5 n) &&& 31)) ^^^ (-1))) v = true ↔ (gg_ts g n v ∨ bt b v = true) ∧ ¬ g 5 n = v := by
      intro v
      rw [bs_nt, Bool.and_eq_true, Bool.not_eq_true', hx3 v]
      refine and_congr Iff.rfl ?_
      constructor
      · intro hh hv
        rw [(o5 v).mpr hv] at hh
        cases hh
      · intro hh
        exact ts_nt (fun hv => hh ((o5 v).mp hv))
    have hor : ∀ v, bt (x3 ||| ((1 : Int32) <<< (nI (g 5 n) &&& 31))) v = true ↔ (gg_ts g n v ∨ bt b v = true) ∨ g 5 n = v := by
      intro v
      rw [b_or, Bool.or_eq_true, hx3 v, o5 v]
    by_cases k0 : g 4 n = 0
    · refine br_t (by rw [k0]; decide) (h x3 (fun v => ?_))
      rw [hx3 v]
      unfold xa_F gg_lk gg_rp
      constructor
      · intro hh; exact Or.inr ⟨by omega, hh⟩
      · intro hh
        rcases hh with hh | hh
        · omega
        · exact hh.2
    · refine br_f (nI_nlt (b := 1) (by omega) (by omega)) (br_f (nI_nlt (a := 5) (by omega) (by omega)) ?_)
      by_cases k1 : g 4 n = 1
      · refine br_t (by rw [k1]; rfl) (h _ (fun v => ?_))
        rw [hnt v]
        unfold xa_F gg_lk gg_rp
        constructor
        · intro hh; exact Or.inr ⟨fun h2 => hh.2 h2.2, hh.1⟩
        · intro hh
          rcases hh with hh | hh
          · omega
          · exact ⟨hh.2, fun h2 => hh.1 ⟨Or.inl k1, h2⟩⟩
      · refine br_f (ne 1 (by omega) k1) ?_
        by_cases k2 : g 4 n = 2
        · refine br_t (by rw [k2]; rfl) (h _ (fun v => ?_))
          rw [hor v]
          unfold xa_F gg_lk gg_rp
          constructor
          · intro hh
            rcases hh with hh | hh
            · exact Or.inr ⟨by omega, hh⟩
            · exact Or.inl (Or.inl ⟨Or.inl k2, hh⟩)
          · intro hh
            rcases hh with hh | hh
            · rcases hh with hh | hh
              · exact Or.inr hh.2
              · omega
            · exact Or.inl hh.2
        · refine br_f (ne 2 (by omega) k2) ?_
          by_cases k3 : g 4 n = 3
          · refine br_t (by rw [k3]; rfl) (And.intro (xg_i hn) ?_)
            rw [e6]
            refine h _ (fun v => ?_)
            rw [b_or, Bool.or_eq_true, hnt v, o6 v]
            unfold xa_F gg_lk gg_rp
            constructor
            · intro hh
              rcases hh with hh | hh
              · exact Or.inr ⟨fun h2 => hh.2 h2.2, hh.1⟩
              · exact Or.inl (Or.inr ⟨k3, hh⟩)
            · intro hh
              rcases hh with hh | hh
              · rcases hh with hh | hh
                · omega
                · exact Or.inr hh.2
              · exact Or.inl ⟨hh.2, fun h2 => hh.1 ⟨Or.inr (Or.inl k3), h2⟩⟩
          · refine br_f (ne 3 (by omega) k3) ?_
            by_cases k4 : g 4 n = 4
            · refine br_t (by rw [k4]; rfl) (h _ (fun v => ?_))
              rw [hor v]
              unfold xa_F gg_lk gg_rp
              constructor
              · intro hh
                rcases hh with hh | hh
                · exact Or.inr ⟨by omega, hh⟩
                · exact Or.inl (Or.inl ⟨Or.inr k4, hh⟩)
              · intro hh
                rcases hh with hh | hh
                · rcases hh with hh | hh
                  · exact Or.inr hh.2
                  · omega
                · exact Or.inl hh.2
            · refine br_f (ne 4 (by omega) k4) ?_
              have k5 : g 4 n = 5 := by omega
              refine br_t (by rw [k5]; rfl) (h _ (fun v => ?_))
              rw [hnt v]
              unfold xa_F gg_lk gg_rp
              constructor
              · intro hh; exact Or.inr ⟨fun h2 => hh.2 h2.2, hh.1⟩
              · intro hh
                rcases hh with hh | hh
                · omega
                · exact ⟨hh.2, fun h2 => hh.1 ⟨Or.inr (Or.inr k5), h2⟩⟩
  refine And.intro (xg_i hn) ?_
  by_cases h2 : g 0 n = 2
  · refine br_t (by rw [e0, h2]; rfl) (And.intro (xg_i hn) (nm_e (mid _ (fun v => ?_))))
    rw [e1, b_or, Bool.or_eq_true, xg_oi (m := 0) (by omega)]
    unfold gg_ts
    constructor
    · intro hh
      rcases hh with hh | hh
      · exact Or.inr hh
      · exact Or.inl ⟨h2, hh⟩
    · intro hh
      rcases hh with hh | hh
      · exact Or.inr hh.2
      · exact Or.inl hh
  · refine br_f (by rw [e0]; exact fun e => h2 (bs_inj (b := 2) e (by omega) (by omega))) (mid _ (fun v => ?_))
    unfold gg_ts
    constructor
    · intro hh; exact Or.inr hh
    · intro hh
      rcases hh with hh | hh
      · omega
      · exact hh
def xa_A (g : Nat → Nat → Nat) (a_alive : Nat → Int32) : Prop := ∀ n, gg_R g n → ∀ v, bt (a_alive n) v = true ↔ gg_V g v n
def xa_B (g : Nat → Nat → Nat) (al : Nat → Int32) (n v : Nat) : Prop := ∃ s, gg_E g n s ∧ bt (al s) v = true
def xa_m (al : Nat → Int32) : Nat := ct_s (fun n => ct_c (fun v => !bt (al n) v) 4) 16
theorem xa_50 (W : gg_W g) (G : (xg_G g a_acts a_actV a_actC a_ends a_endV a_endX a_endY)) {n : Nat} (hn : n < 16) {x1 : Int32} {s0 : Int32} (hs0 : ∀ m, bt s0 m = true ↔ gg_E g n m) {post : SX → Prop} {J : Int32 → (Nat → Int32) → (Nat → Int32) → (Nat → Int32) → (Nat → Int32) → (Nat → Int32) → (Nat → Int32) → (Nat → Int32) → (Nat → Int32) → (Nat → Int32) → (Nat → Int32) → (Nat → Int32) → (Nat → Int32) → (Nat → Int32) → (Nat → Int32) → (Nat → Int32) → (Nat → Int32) → (Nat → Int32) → (Nat → Int32) → (Nat → Int32) → (Nat → Int32) → (Nat → Int32) → (Nat → Int32) → (Nat → Int32) → (Nat → Int32) → (Nat → Int32) → (Nat → Int32) → (Nat → Int32) → (Nat → Int32) → (Nat → Int32) → (Nat → Int32) → (Nat → Int32) → (Nat → Int32) → (Nat → Int32) → (Nat → Int32) → (Nat → Int32) → (Nat → Int32) → (Nat → Int32) → (Nat → Int32) → (Nat → Int32) → (Nat → Int32) → Prop}
    (C : ∀ r : Int32, (∀ v, bt r v = true ↔ xa_F g n (xa_B g a_alive n) v) → (r = a_alive n → (J x1 a_acts a_actV a_actC a_ends a_endV a_endX a_endY a_numbers a_byNumber a_before a_forward a_backward a_orderOf a_at a_from a_semi a_label a_up a_found a_stack a_place a_chiefs a_tails a_edges a_rulers a_loops a_innermost a_outer a_deep a_alive a_values a_present a_code a_target a_pending a_pendingOf a_begins a_openAt a_vars a_told)) ∧ (¬ r = a_alive n → (J (x1 ||| a_before n) a_acts a_actV a_actC a_ends a_endV a_endX a_endY a_numbers a_byNumber a_before a_forward a_backward a_orderOf a_at a_from a_semi a_label a_up a_found a_stack a_place a_chiefs a_tails a_edges a_rulers a_loops a_innermost a_outer a_deep (upd a_alive n r) a_values a_present a_code a_target a_pending a_pendingOf a_begins a_openAt a_vars a_told))) (hV : ∀ m v, m < 16 → bt (a_alive m) v = true → v < 4) :
    ∃ f : Nat, (wX_findAlive_50 post J x1 (nI n) f_known f_seen f_many f_ordered f_isStraight f_entered f_todo f_length f_waiting f_tellings f_last f_stopped f_steps f_left f_ran a_acts a_actV a_actC a_ends a_endV a_endX a_endY a_numbers a_byNumber a_before a_forward a_backward a_orderOf a_at a_from a_semi a_label a_up a_found a_stack a_place a_chiefs a_tails a_edges a_rulers a_loops a_innermost a_outer a_deep a_alive a_values a_present a_code a_target a_pending a_pendingOf a_begins a_openAt a_vars a_told f 0 s0) := by
  refine ⟨17, ?_⟩
  refine bs_lp (σ := Int32) (fun f s t => (wX_findAlive_50 post J x1 (nI n) f_known f_seen f_many f_ordered f_isStraight f_entered f_todo f_length f_waiting f_tellings f_last f_stopped f_steps f_left f_ran a_acts a_actV a_actC a_ends a_endV a_endX a_endY a_numbers a_byNumber a_before a_forward a_backward a_orderOf a_at a_from a_semi a_label a_up a_found a_stack a_place a_chiefs a_tails a_edges a_rulers a_loops a_innermost a_outer a_deep a_alive a_values a_present a_code a_target a_pending a_pendingOf a_begins a_openAt a_vars a_told f t s)) s0 16 (fun i hi => ts_nt (fun h => by have := gg_E16 W ((hs0 i).mp h); omega))
    (fun j t => ∀ v, bt t v = true ↔ ∃ s, s < j ∧ gg_E g n s ∧ bt (a_alive s) v = true) ?_ ?_ ?_ 0 ?_ 17 (by omega)
  · intro f t ht
    refine br_t rfl (xa_lb W G hn ?_)
    intro r hr
    have hr' : ∀ v, bt r v = true ↔ xa_F g n (xa_B g a_alive n) v := by
      intro v
      rw [hr v]
      have hB : bt t v = true ↔ xa_B g a_alive n v := by
        rw [ht v]
        constructor
        · intro ⟨s, _, h2, h3⟩; exact ⟨s, h2, h3⟩
        · intro ⟨s, h2, h3⟩; exact ⟨s, gg_E16 W h2, h2, h3⟩
      constructor
      · intro h; exact xa_mo h hB.mp
      · intro h; exact xa_mo h hB.mpr
    have hc := C r hr'
    have ea : a_alive (nI n).toNatClampNeg = a_alive n := by rw [nI_clamp (by omega)]
    obtain ⟨k, hk, ek⟩ := bs_4 (r := r) (fun i hi => ts_nt (fun h => by
      have h2 := (hr' i).mp h
      have hw := W n
      unfold xa_F gg_lk gg_ts xa_B at h2
      rcases h2 with h2 | h2
      · rcases h2 with h2 | h2
        · omega
        · have := hw.2.2.2.2.2.2.2 h2.1; omega
      · rcases h2.2 with h2 | ⟨s, h2, h3⟩
        · omega
        · have := hV s i (gg_E16 W h2) h3; omega))
    refine And.intro (xg_i hn) ?_
    by_cases e : r = a_alive n
    · exact br_t (by rw [ea]; exact e) (hc.1 e)
    · refine br_f (by rw [ea]; exact e) (And.intro (xg_i hn) (nm_r (e' := upd a_alive n r) (by rw [ek, bs_vbb (by omega), xg_u (by omega)]) (And.intro (xg_i hn) (nm_r (e' := x1 ||| a_before n) (by rw [nI_clamp (by omega)]) (hc.2 e)))))
  · intro i t hi hbi ht v
    rw [ht v]
    constructor
    · intro ⟨s, h1, h2⟩; exact ⟨s, by omega, h2⟩
    · intro ⟨s, h1, h2⟩
      refine ⟨s, ?_, h2⟩
      by_cases e : s = i
      · subst e; rw [(hs0 s).mpr h2.1] at hbi; cases hbi
      · omega
  · intro f s i t hi hbi hs hsi hsm ht ih
    refine br_f hs (bs_lw hsi hsm (And.intro (xg_i hi) (nm_e (nm_e (ih _ ?_)))))
    intro v
    rw [nI_clamp (by omega), b_or, Bool.or_eq_true, ht v]
    constructor
    · intro h
      rcases h with ⟨s, h1, h2⟩ | h
      · exact ⟨s, by omega, h2⟩
      · exact ⟨i, by omega, (hs0 i).mp hbi, h⟩
    · intro ⟨s, h1, h2⟩
      by_cases e : s = i
      · subst e; exact Or.inr h2.2
      · exact Or.inl ⟨s, by omega, h2⟩
  · intro v
    rw [b_0]
    constructor
    · intro h; cases h
    · intro ⟨s, h1, _⟩; omega
theorem xa_26 (W : gg_W g) (G : (xg_G g a_acts a_actV a_actC a_ends a_endV a_endX a_endY)) (hB : xr_B g a_before) {post : SX → Prop} (C : ∀ al : Nat → Int32, xa_A g al → post (f_known, f_seen, f_many, f_ordered, f_isStraight, f_entered, f_todo, f_length, f_waiting, f_tellings, f_last, f_stopped, f_steps, f_left, f_ran, a_acts, a_actV, a_actC, a_ends, a_endV, a_endX, a_endY, a_numbers, a_byNumber, a_before, a_forward, a_backward, a_orderOf, a_at, a_from, a_semi, a_label, a_up, a_found, a_stack, a_place, a_chiefs, a_tails, a_edges, a_rulers, a_loops, a_innermost, a_outer, a_deep, al, a_values, a_present, a_code, a_target, a_pending, a_pendingOf, a_begins, a_openAt, a_vars, a_told)) :
    ∀ (f : Nat) (T : Int32) (al : Nat → Int32), 17 * xa_m al + ct_c (fun i => bt T i) 16 < f → (∀ n, bt T n = true → gg_R g n) → (∀ n v, n < 16 → bt (al n) v = true → gg_V g v n) →
      (∀ n v, gg_R g n → bt (al n) v = true → xa_F g n (xa_B g al n) v) → (∀ n v, gg_R g n → bt T n = false → xa_F g n (xa_B g al n) v → bt (al n) v = true) → (wX_findAlive_26 post f_known f_seen f_many f_ordered f_isStraight f_entered f_todo f_length f_waiting f_tellings f_last f_stopped f_steps f_left f_ran f T a_acts a_actV a_actC a_ends a_endV a_endX a_endY a_numbers a_byNumber a_before a_forward a_backward a_orderOf a_at a_from a_semi a_label a_up a_found a_stack a_place a_chiefs a_tails a_edges a_rulers a_loops a_innermost a_outer a_deep al a_values a_present a_code a_target a_pending a_pendingOf a_begins a_openAt a_vars a_told) := by
  intro f
  induction f with
  | zero => intro T al h; omega
  | succ f ih =>
    intro T al hf t1 t2 t3 t4
    by_cases hT : T = 0
    · subst hT
      refine br_t rfl (C al ?_)
      intro n hR v
      constructor
      · intro h; exact t2 n v (gg_R16 W hR) h
      · intro h
        refine xa_le (Q := fun x => bt (al x) v = true) ?_ hR h
        intro x hx hF
        exact t4 x v hx (b_0 x) (xa_mo (v := v) hF id)
    · obtain ⟨l, hl32, hl, hm⟩ := bs_fst hT
      have hRl := t1 l hl
      have hl16 := gg_R16 W hRl
      have eT : ∀ i, bt (T &&& (T - 1)) i = true ↔ bt T i = true ∧ i ≠ l := by
        intro i
        rw [bs_cl hl hm, Bool.and_eq_true, decide_eq_true_iff]
      have hct : ct_c (fun i => bt (T &&& (T - 1)) i) 16 + 1 ≤ ct_c (fun i => bt T i) 16 := by
        refine ct_lt 16 l hl16 (fun i _ hi => ((eT i).mp hi).1) ?_ hl
        exact ts_nt (fun h => ((eT l).mp h).2 rfl)
      refine br_f hT (bs_lw hl hm (nm_e (xg_sc W G hl16 ?_)))
      intro s0 hs0
      refine xa_50 (a_alive := al) W G hl16 hs0 ?_ (fun m v hm16 h => gg_V4 W (t2 m v hm16 h))
      intro r hr
      constructor
      · intro e
        refine ih _ al (by omega) (fun n hn => t1 n ((eT n).mp hn).1) t2 t3 ?_
        intro n v hR hnT hF
        by_cases en : n = l
        · subst en
          rw [← e]
          exact (hr v).mpr hF
        · refine t4 n v hR (ts_nt (fun h => ?_)) hF
          rw [(eT n).mpr ⟨h, en⟩] at hnT
          cases hnT
      · intro e
        have hsub : ∀ v, bt (al l) v = true → bt r v = true := fun v h => (hr v).mpr (t3 l v hRl h)
        have hup : ∀ s v, bt (al s) v = true → bt (upd al l r s) v = true := by
          intro s v h
          by_cases es : s = l
          · subst es; rw [pk_us]; exact hsub v h
          · rw [pk_un es]; exact h
        have hrV : ∀ v, bt r v = true → gg_V g v l := by
          intro v h
          refine xa_FV (xa_mo ((hr v).mp h) ?_)
          intro ⟨s, h1, h2⟩
          exact ⟨s, h1, t2 s v (gg_E16 W h1) h2⟩
        have hmu : xa_m (upd al l r) + 1 ≤ xa_m al := by
          have hnew : ∃ v, v < 4 ∧ bt r v = true ∧ bt (al l) v = false := by
            apply Classical.byContradiction
            intro hno
            apply e
            apply b_ext
            intro i _
            by_cases hi : bt r i = true
            · have := gg_V4 W (hrV i hi)
              rw [hi]
              exact (ts_nf (fun h => hno ⟨i, this, hi, h⟩)).symm
            · rw [ts_nt hi]
              exact (ts_nt (fun h => hi (hsub i h))).symm
          obtain ⟨v, hv4, hv1, hv2⟩ := hnew
          have h1 := ct_sup (f := fun n => ct_c (fun v => !bt (upd al l r n) v) 4) (g := fun n => ct_c (fun v => !bt (al n) v) 4) 16 l hl16 (fun i _ hi => by show ct_c (fun v => !bt (upd al l r i) v) 4 = _; rw [pk_un hi])
          have h2 : ct_c (fun v => !bt (upd al l r l) v) 4 + 1 ≤ ct_c (fun v => !bt (al l) v) 4 := by
            rw [pk_us]
            refine ct_lt 4 v hv4 ?_ ?_ ?_
            · intro i _ hi
              have hi' : (!bt r i) = true := hi
              show (!bt (al l) i) = true
              rw [Bool.not_eq_true'] at hi' ⊢
              exact ts_nt (fun h => by rw [hsub i h] at hi'; cases hi')
            · show (!bt r v) = false
              rw [hv1]; rfl
            · show (!bt (al l) v) = true
              rw [hv2]; rfl
          have h1' : xa_m (upd al l r) + ct_c (fun v => !bt (al l) v) 4 = xa_m al + ct_c (fun v => !bt (upd al l r l) v) 4 := h1
          omega
        have hTb : ∀ i, bt ((T &&& (T - 1)) ||| a_before l) i = true ↔ (bt T i = true ∧ i ≠ l) ∨ (gg_R g i ∧ gg_E g i l) := by
          intro i
          rw [b_or, Bool.or_eq_true, eT i, hB l hl16 i]
        have hct2 := ct_le (fun i => bt ((T &&& (T - 1)) ||| a_before l) i) 16
        have hct3 : 1 ≤ ct_c (fun i => bt T i) 16 := by omega
        refine ih _ _ (by omega) ?_ ?_ ?_ ?_
        · intro n hn
          rcases (hTb n).mp hn with h | h
          · exact t1 n h.1
          · exact h.1
        · intro n v hn16 h
          by_cases en : n = l
          · subst en; rw [pk_us] at h; exact hrV v h
          · rw [pk_un en] at h; exact t2 n v hn16 h
        · intro n v hR h
          have hB' : xa_B g al n v → xa_B g (upd al l r) n v := fun ⟨s, h1, h2⟩ => ⟨s, h1, hup s v h2⟩
          by_cases en : n = l
          · subst en
            rw [pk_us] at h
            exact xa_mo ((hr v).mp h) hB'
          · rw [pk_un en] at h
            exact xa_mo (t3 n v hR h) hB'
        · intro n v hR hnT hF
          have hnE : ¬ gg_E g n l := fun h => by
            rw [(hTb n).mpr (Or.inr ⟨hR, h⟩)] at hnT
            cases hnT
          have hB' : xa_B g (upd al l r) n v → xa_B g al n v := by
            intro ⟨s, h1, h2⟩
            have es : s ≠ l := by
              intro e
              rw [e] at h1
              exact hnE h1
            rw [pk_un es] at h2
            exact ⟨s, h1, h2⟩
          have hF' := xa_mo hF hB'
          by_cases en : n = l
          · subst en
            rw [pk_us]
            exact (hr v).mpr hF'
          · rw [pk_un en]
            refine t4 n v hR (ts_nt (fun h => ?_)) hF'
            rw [(hTb n).mpr (Or.inl ⟨h, en⟩)] at hnT
            cases hnT
/-- findAlive, whole -/
theorem xa_f (W : gg_W g) (G : (xg_G g a_acts a_actV a_actC a_ends a_endV a_endX a_endY)) (hn : xn_N g f_seen f_many a_byNumber a_numbers) (hB : xr_B g a_before) {post : SX → Prop} (C : ∀ al : Nat → Int32, xa_A g al → post (f_known, f_seen, f_many, f_ordered, f_isStraight, f_entered, f_todo, f_length, f_waiting, f_tellings, f_last, f_stopped, f_steps, f_left, f_ran, a_acts, a_actV, a_actC, a_ends, a_endV, a_endX, a_endY, a_numbers, a_byNumber, a_before, a_forward, a_backward, a_orderOf, a_at, a_from, a_semi, a_label, a_up, a_found, a_stack, a_place, a_chiefs, a_tails, a_edges, a_rulers, a_loops, a_innermost, a_outer, a_deep, al, a_values, a_present, a_code, a_target, a_pending, a_pendingOf, a_begins, a_openAt, a_vars, a_told)) : (wpX_findAlive post (f_known, f_seen, f_many, f_ordered, f_isStraight, f_entered, f_todo, f_length, f_waiting, f_tellings, f_last, f_stopped, f_steps, f_left, f_ran, a_acts, a_actV, a_actC, a_ends, a_endV, a_endX, a_endY, a_numbers, a_byNumber, a_before, a_forward, a_backward, a_orderOf, a_at, a_from, a_semi, a_label, a_up, a_found, a_stack, a_place, a_chiefs, a_tails, a_edges, a_rulers, a_loops, a_innermost, a_outer, a_deep, a_alive, a_values, a_present, a_code, a_target, a_pending, a_pendingOf, a_begins, a_openAt, a_vars, a_told)) := by
  refine loop_0 (σ := Nat → Int32) (fun n i s => (wX_findAlive_2 post f_known f_seen f_many f_ordered f_isStraight f_entered f_todo f_length f_waiting f_tellings f_last f_stopped f_steps f_left f_ran n (nI i) a_acts a_actV a_actC a_ends a_endV a_endX a_endY a_numbers a_byNumber a_before a_forward a_backward a_orderOf a_at a_from a_semi a_label a_up a_found a_stack a_place a_chiefs a_tails a_edges a_rulers a_loops a_innermost a_outer a_deep s a_values a_present a_code a_target a_pending a_pendingOf a_begins a_openAt a_vars a_told)) (fun i s => ∀ n, n < i → s n = 0) 16 a_alive (fun n hn => by omega) ?_ ?_
  · intro n s hI
    refine br_t (by decide) ⟨2000, ?_⟩
    refine xa_26 W G hB C 2000 f_seen s ?_ (fun n h => (hn.1 n).mp h) ?_ ?_ ?_
    · have h1 := ct_sle (f := fun n => ct_c (fun v => !bt (s n) v) 4) (g := fun _ => 4) 16 (fun i _ => ct_le _ 4)
      rw [ct_sc] at h1
      have h2 := ct_le (fun i => bt f_seen i) 16
      have h1' : xa_m s ≤ 64 := h1
      omega
    · intro n v hn16 h
      rw [hI n hn16, b_0] at h
      cases h
    · intro n v hR h
      rw [hI n (gg_R16 W hR), b_0] at h
      cases h
    · intro n v hR h
      rw [(hn.1 n).mpr hR] at h
      cases h
  · intro n i s hi hI ih
    refine br_f (nI_ge (b := 16) hi (by omega)) (And.intro (xg_i hi) (nm_r (e' := upd s i 0) (by rw [bs_v0, xg_u (by omega)]) (nm_r (nI_1 i) (ih _ ?_))))
    intro j hj
    by_cases ej : j = i
    · subst ej; exact pk_us
    · exact (pk_un ej).trans (hI j (by omega))
end XO
end
section
section VA
variable {g : Nat → Nat → Nat}
/-! what is known: 0 .. 15 a value, 16 several, 17 not come to -/
def vl_le (a b : Nat) : Prop := a = 17 ∨ a = b ∨ b = 16
def vl_j (a b : Nat) : Nat := if a = 17 then b else if a = b then a else 16
def vl_m (g : Nat → Nat → Nat) (n v : Nat) (f : Nat → Nat) : Nat :=
  if g 4 n = 0 ∨ g 4 n = 4 ∨ g 5 n ≠ v then f v else if g 4 n = 1 then g 6 n else if g 4 n = 2 then (if f v = 16 then 16 else (f v + g 6 n) % 16) else if g 4 n = 3 then f (g 6 n) else 16
def vl_t (g : Nat → Nat → Nat) (n m t : Nat) : Prop := gg_E g n m ∧ (g 0 n = 2 → t = 16 ∨ (t = 0 ∧ m = g 2 n) ∨ (t ≠ 0 ∧ m = g 3 n))
def vl_a (g : Nat → Nat → Nat) (n m : Nat) (f : Nat → Nat) : Prop := vl_t g n m (vl_m g n (g 1 n) f)
def vl_U (s : Nat → Nat → Nat) : Prop := ∀ n, n < 16 → (∀ v, v < 4 → s n v = 17) ∨ (∀ v, v < 4 → s n v ≤ 16)
def vl_S (g : Nat → Nat → Nat) (s : Nat → Nat → Nat) (n : Nat) : Prop := s n 0 ≠ 17 → ∀ m, vl_a g n m (s n) → ∀ v, v < 4 → vl_le (vl_m g n v (s n)) (s m v)
def vl_C (g : Nat → Nat → Nat) (s : Nat → Nat → Nat) : Prop := vl_U s ∧ (∀ v, v < 4 → vl_le 0 (s 0 v)) ∧ ∀ n, n < 16 → vl_S g s n
def vl_B (g : Nat → Nat → Nat) (s : Nat → Nat → Nat) : Prop := ∀ s', vl_C g s' → ∀ n, n < 16 → ∀ v, v < 4 → vl_le (s n v) (s' n v)
def vl_F (g : Nat → Nat → Nat) (s : Nat → Nat → Nat) : Prop := vl_C g s ∧ vl_B g s
theorem vl_rf (a : Nat) : vl_le a a := Or.inr (Or.inl rfl)
theorem vl_tr {a b c : Nat} (h1 : vl_le a b) (h2 : vl_le b c) : vl_le a c := by
  unfold vl_le at *
  omega
theorem vl_an {a b : Nat} (h1 : vl_le a b) (h2 : vl_le b a) : a = b := by
  unfold vl_le at *
  omega
theorem vl_un {s s' : Nat → Nat → Nat} (h : vl_F g s) (h' : vl_F g s') {n v : Nat} (hn : n < 16) (hv : v < 4) : s n v = s' n v := vl_an (h.2 s' h'.1 n hn v hv) (h'.2 s h.1 n hn v hv)
theorem vl_j1 (a b : Nat) : vl_le a (vl_j a b) := by
  unfold vl_le vl_j
  split
  · omega
  · split <;> omega
theorem vl_j2 (a b : Nat) : vl_le b (vl_j a b) := by
  unfold vl_le vl_j
  split
  · omega
  · split <;> omega
theorem vl_j3 {a b c : Nat} (hb : b ≤ 16) (h1 : vl_le a c) (h2 : vl_le b c) : vl_le (vl_j a b) c := by
  unfold vl_le vl_j at *
  split
  · omega
  · split <;> omega
theorem vl_j16 {a b : Nat} (ha : a ≤ 17) (hb : b ≤ 16) : vl_j a b ≤ 16 := by
  unfold vl_j
  split
  · omega
  · split <;> omega
theorem vl_m16 (W : gg_W g) {n v : Nat} {f : Nat → Nat} (hv : v < 4) (hf : ∀ v, v < 4 → f v ≤ 16) : vl_m g n v f ≤ 16 := by
  have hw := W n
  have h1 := hf v hv
  unfold vl_m
  split
  · exact h1
  · split
    · omega
    · split
      · split
        · omega
        · omega
      · split
        · rename_i h3
          exact hf _ (hw.2.2.2.2.2.2.2 h3)
        · omega
theorem vl_mc (W : gg_W g) {n v : Nat} {f f' : Nat → Nat} (hv : v < 4) (h : ∀ v, v < 4 → f v = f' v) : vl_m g n v f = vl_m g n v f' := by
  have hw := W n
  have h1 := h v hv
  unfold vl_m
  split
  · exact h1
  · split
    · rfl
    · split
      · rw [h1]
      · split
        · rename_i h3
          exact h _ (hw.2.2.2.2.2.2.2 h3)
        · rfl
theorem vl_mm (W : gg_W g) {n v : Nat} {f f' : Nat → Nat} (hv : v < 4) (hf : ∀ v, v < 4 → f v ≤ 16) (h : ∀ v, v < 4 → vl_le (f v) (f' v)) : vl_le (vl_m g n v f) (vl_m g n v f') := by
  have hw := W n
  have h1 := h v hv
  have h2 := hf v hv
  unfold vl_m
  split
  · exact h1
  · split
    · exact vl_rf _
    · split
      · unfold vl_le at *
        split
        · rename_i h3
          rw [if_pos (by omega)]; omega
        · split
          · omega
          · right; left
            rw [show f v = f' v by omega]
      · split
        · rename_i h3
          exact h _ (hw.2.2.2.2.2.2.2 h3)
        · exact vl_rf _
theorem vl_tm {n m t t' : Nat} (ht : t ≤ 16) (h : vl_le t t') (ha : vl_t g n m t) : vl_t g n m t' := by
  refine ⟨ha.1, fun h2 => ?_⟩
  have h3 := ha.2 h2
  unfold vl_le at h
  rcases h with h | h | h
  · omega
  · rw [← h]; exact h3
  · exact Or.inl h
/-- a value given to a node -/
def vl_g (s : Nat → Nat → Nat) (m : Nat) (p : Nat → Nat) : Nat → Nat → Nat := fun n v => if n = m then vl_j (s m v) (p v) else s n v
theorem vl_gs {s : Nat → Nat → Nat} {m v : Nat} {p : Nat → Nat} : vl_g s m p m v = vl_j (s m v) (p v) := if_pos rfl
theorem vl_gn {s : Nat → Nat → Nat} {m n v : Nat} {p : Nat → Nat} (h : n ≠ m) : vl_g s m p n v = s n v := if_neg h
theorem vl_gl {s : Nat → Nat → Nat} {m n v : Nat} {p : Nat → Nat} : vl_le (s n v) (vl_g s m p n v) := by
  by_cases h : n = m
  · subst h; rw [vl_gs]; exact vl_j1 _ _
  · rw [vl_gn h]; exact vl_rf _
theorem vl_U7 {s : Nat → Nat → Nat} (U : vl_U s) {n v : Nat} (hn : n < 16) (hv : v < 4) : s n v ≤ 17 := by
  rcases U n hn with h | h
  · have := h v hv; omega
  · have := h v hv; omega
theorem vl_U6 {s : Nat → Nat → Nat} (U : vl_U s) {n : Nat} (hn : n < 16) (h0 : s n 0 ≠ 17) : ∀ v, v < 4 → s n v ≤ 16 := by
  rcases U n hn with h | h
  · exact absurd (h 0 (by omega)) h0
  · exact h
theorem vl_gU {s : Nat → Nat → Nat} (U : vl_U s) {m : Nat} {p : Nat → Nat} (hp : ∀ v, v < 4 → p v ≤ 16) : vl_U (vl_g s m p) := by
  intro n hn
  by_cases h : n = m
  · subst h
    refine Or.inr (fun v hv => ?_)
    rw [vl_gs]
    exact vl_j16 (vl_U7 U hn hv) (hp v hv)
  · rcases U n hn with h2 | h2
    · exact Or.inl (fun v hv => by rw [vl_gn h]; exact h2 v hv)
    · exact Or.inr (fun v hv => by rw [vl_gn h]; exact h2 v hv)
theorem vl_gB {s : Nat → Nat → Nat} (B : vl_B g s) {m : Nat} {p : Nat → Nat} (hp : ∀ v, v < 4 → p v ≤ 16) (h : ∀ s', vl_C g s' → ∀ v, v < 4 → vl_le (p v) (s' m v)) : vl_B g (vl_g s m p) := by
  intro s' hC n hn v hv
  by_cases e : n = m
  · subst e
    rw [vl_gs]
    exact vl_j3 (hp v hv) (B s' hC n hn v hv) (h s' hC v hv)
  · rw [vl_gn e]; exact B s' hC n hn v hv
theorem vl_e0 {s s' : Nat → Nat → Nat} {n : Nat} (h : vl_le (s n 0) (s' n 0)) (h0 : s n 0 ≠ 17) : s' n 0 ≠ 17 := by
  unfold vl_le at h
  omega
theorem vl_pS (W : gg_W g) {s : Nat → Nat → Nat} (U : vl_U s) (B : vl_B g s) {n m : Nat} (hn : n < 16) (h0 : s n 0 ≠ 17) {t : Nat} (ht : vl_le t (vl_m g n (g 1 n) (s n))) (ht6 : t ≤ 16) (ha : vl_t g n m t) : ∀ s', vl_C g s' → ∀ v, v < 4 → vl_le (vl_m g n v (s n)) (s' m v) := by
  intro s' hC v hv
  have hb := B s' hC n hn
  have h0' := vl_e0 (hb 0 (by omega)) h0
  have h6 := vl_U6 U hn h0
  have hm := vl_mm W (n := n) (v := g 1 n) (f := s n) (f' := s' n) (W n).2.1 h6 hb
  exact vl_tr (vl_mm W hv h6 hb) (hC.2.2 n hn h0' m (vl_tm ht6 (vl_tr ht hm) ha) v hv)
theorem vl_Sk (W : gg_W g) {s s' : Nat → Nat → Nat} {n : Nat} (h : vl_S g s n) (he : ∀ v, v < 4 → s' n v = s n v) (hl : ∀ m v, m < 16 → v < 4 → vl_le (s m v) (s' m v)) : vl_S g s' n := by
  intro h0 m ha v hv
  rw [he 0 (by omega)] at h0
  unfold vl_a at ha
  rw [vl_mc W (W n).2.1 he] at ha
  rw [vl_mc W hv he]
  exact vl_tr (h h0 m ha v hv) (hl m v (gg_E16 W ha.1) hv)
def vl_h (a : Nat) : Nat := if a = 17 then 2 else if a = 16 then 0 else 1
theorem vl_hl {a b : Nat} (h : vl_le a b) : vl_h b ≤ vl_h a := by
  unfold vl_le at h
  unfold vl_h
  split <;> split <;> (try split) <;> (try split) <;> omega
theorem vl_hs {a b : Nat} (h : vl_le a b) (hb : b ≤ 17) (hne : b ≠ a) : vl_h b < vl_h a := by
  unfold vl_le at h
  unfold vl_h
  split <;> split <;> (try split) <;> (try split) <;> omega
theorem ct_slt {f f' : Nat → Nat} : ∀ n k, k < n → (∀ i, i < n → f i ≤ f' i) → f k < f' k → ct_s f n + 1 ≤ ct_s f' n
  | 0, _, hk, _, _ => by omega
  | n + 1, k, hk, h, hlt => by
    show ct_s f n + f n + 1 ≤ ct_s f' n + f' n
    by_cases e : k = n
    · subst e
      have := ct_sle (f := f) (g := f') k (fun i hi => h i (by omega))
      omega
    · have h1 := ct_slt n k (by omega) (fun i hi => h i (by omega)) hlt
      have := h n (by omega)
      omega
def vl_H (s : Nat → Nat → Nat) : Nat := ct_s (fun i => vl_h (s (i / 4) (i % 4))) 64
theorem vl_Hl {s s' : Nat → Nat → Nat} (h : ∀ n v, n < 16 → v < 4 → vl_le (s n v) (s' n v)) : vl_H s' ≤ vl_H s := by
  unfold vl_H
  exact ct_sle 64 (fun i hi => vl_hl (h _ _ (by omega) (by omega)))
theorem vl_Hs {s s' : Nat → Nat → Nat} (h : ∀ n v, n < 16 → v < 4 → vl_le (s n v) (s' n v)) {n v : Nat} (hn : n < 16) (hv : v < 4) (h7 : s' n v ≤ 17) (hne : s' n v ≠ s n v) : vl_H s' + 1 ≤ vl_H s := by
  unfold vl_H
  refine ct_slt 64 (4 * n + v) (by omega) (fun i hi => vl_hl (h _ _ (by omega) (by omega))) ?_
  rw [show (4 * n + v) / 4 = n by omega, show (4 * n + v) % 4 = v by omega]
  exact vl_hs (h n v hn hv) h7 hne
theorem vl_H7 {s : Nat → Nat → Nat} : vl_H s ≤ 128 := by
  unfold vl_H
  have := ct_sle (f := fun i => vl_h (s (i / 4) (i % 4))) (g := fun _ => 2) 64 (fun i _ => by unfold vl_h; split <;> (try split) <;> omega)
  rw [ct_sc] at this
  omega
/-! the values as ints -/
def vl_i (a : Nat) : Int32 := if a = 17 then -1 else nI a
theorem vl_i7 : vl_i 17 = -1 := rfl
theorem vl_in {a : Nat} (h : a ≤ 16) : vl_i a = nI a := if_neg (by omega)
theorem vl_ij {a b : Nat} (ha : a ≤ 17) (hb : b ≤ 17) : vl_i a = vl_i b ↔ a = b := by
  constructor
  · intro h
    unfold vl_i at h
    by_cases h1 : a = 17
    · by_cases h2 : b = 17
      · omega
      · rw [if_pos h1, if_neg h2] at h
        exact absurd h (bs_ne' (by omega))
    · by_cases h2 : b = 17
      · rw [if_neg h1, if_pos h2] at h
        exact absurd h (bs_ne (by omega))
      · rw [if_neg h1, if_neg h2] at h
        exact bs_inj h (by omega) (by omega)
  · intro h; rw [h]
theorem vl_il {a : Nat} (ha : a ≤ 17) : vl_i a < 0 ↔ a = 17 := by
  unfold vl_i
  by_cases h : a = 17
  · rw [if_pos h]; exact ⟨fun _ => h, fun _ => bs_n1⟩
  · rw [if_neg h]; exact ⟨fun h2 => absurd h2 (nI_pos (by omega)), fun h2 => absurd h2 h⟩
def vl_A (s : Nat → Nat → Nat) (va : Nat → Int32) : Prop := ∀ n v, n < 16 → v < 4 → va (4 * n + v) = vl_i (s n v)
theorem vl_ix (n v : Nat) : 4 * nI n + nI v = nI (4 * n + v) := by
  rw [show (4 : Int32) * nI n = nI 4 * nI n from rfl, pk_mul, nI_add]
def vl_p (s : Nat → Nat → Nat) (m v x : Nat) : Nat → Nat → Nat := fun n v' => if n = m ∧ v' = v then x else s n v'
theorem vl_ps {s : Nat → Nat → Nat} {m v x : Nat} : vl_p s m v x m v = x := if_pos ⟨rfl, rfl⟩
theorem vl_pn {s : Nat → Nat → Nat} {m v x n v' : Nat} (h : ¬ (n = m ∧ v' = v)) : vl_p s m v x n v' = s n v' := if_neg h
theorem vl_Au {s : Nat → Nat → Nat} {va : Nat → Int32} (A : vl_A s va) {m v x : Nat} (hm : m < 16) (hv : v < 4) : vl_A (vl_p s m v x) (upd va (4 * m + v) (vl_i x)) := by
  intro n v' hn hv'
  by_cases e : n = m ∧ v' = v
  · obtain ⟨e1, e2⟩ := e
    subst e1 e2
    rw [pk_us, vl_ps]
  · rw [pk_un (by omega), vl_pn e]
    exact A n v' hn hv'
end VA
end
section
section XP
variable {f_known f_seen f_many f_ordered f_isStraight f_entered f_todo f_length f_waiting f_tellings f_last f_stopped f_steps f_ran : Int32} {f_left : Int64} {a_acts a_actV a_actC a_ends a_endV a_endX a_endY a_numbers a_byNumber a_before a_forward a_backward a_orderOf a_at a_from a_semi a_label a_up a_found a_stack a_place a_chiefs a_tails a_edges a_rulers a_loops a_innermost a_outer a_deep a_alive a_values a_present a_code a_target a_pending a_pendingOf a_begins a_openAt a_vars a_told : Nat → Int32} {g : Nat → Nat → Nat}
/-! X: give -/
def xv_E (s : Nat → Nat → Nat) (en : Int32) : Prop := ∀ n, bt en n = true ↔ n < 16 ∧ s n 0 ≠ 17
theorem xv_nb {a : Nat} (h : a ≤ 17) : vp_nar .byte ((vl_i a).toInt8.toInt32) = vl_i a := by
  by_cases e : a = 17
  · subst e
    rw [vl_i7, vp_nar_byte]; decide
  · rw [vl_in (by omega), bs_vbb (by omega)]
def xv_q (s : Nat → Nat → Nat) (m : Nat) (p : Nat → Nat) (j : Nat) : Nat → Nat → Nat := fun n v => if n = m ∧ v < j then vl_g s m p n v else s n v
theorem xv_q1 {s : Nat → Nat → Nat} {m j v : Nat} {p : Nat → Nat} (h : v < j) : xv_q s m p j m v = vl_g s m p m v := if_pos ⟨rfl, h⟩
theorem xv_q0 {s : Nat → Nat → Nat} {m j n v : Nat} {p : Nat → Nat} (h : ¬ (n = m ∧ v < j)) : xv_q s m p j n v = s n v := if_neg h
theorem xv_gv {s : Nat → Nat → Nat} {m : Nat} {p : Nat → Nat} (hm : m < 16) (U : vl_U s) (hE : xv_E s f_entered) (hA : vl_A s a_values) (hp : ∀ v, v < 4 → p v ≤ 16 ∧ a_present v = nI (p v)) {post : SX → Prop}
    (C : ∀ (en td : Int32) (va : Nat → Int32), xv_E (vl_g s m p) en → vl_A (vl_g s m p) va → (∀ i, bt td i = true ↔ bt f_todo i = true ∨ (i = m ∧ ∃ v, v < 4 ∧ vl_g s m p m v ≠ s m v)) → post (f_known, f_seen, f_many, f_ordered, f_isStraight, en, td, f_length, f_waiting, f_tellings, f_last, f_stopped, f_steps, f_left, f_ran, a_acts, a_actV, a_actC, a_ends, a_endV, a_endX, a_endY, a_numbers, a_byNumber, a_before, a_forward, a_backward, a_orderOf, a_at, a_from, a_semi, a_label, a_up, a_found, a_stack, a_place, a_chiefs, a_tails, a_edges, a_rulers, a_loops, a_innermost, a_outer, a_deep, a_alive, va, a_present, a_code, a_target, a_pending, a_pendingOf, a_begins, a_openAt, a_vars, a_told)) : (wpX_give post (f_known, f_seen, f_many, f_ordered, f_isStraight, f_entered, f_todo, f_length, f_waiting, f_tellings, f_last, f_stopped, f_steps, f_left, f_ran, a_acts, a_actV, a_actC, a_ends, a_endV, a_endX, a_endY, a_numbers, a_byNumber, a_before, a_forward, a_backward, a_orderOf, a_at, a_from, a_semi, a_label, a_up, a_found, a_stack, a_place, a_chiefs, a_tails, a_edges, a_rulers, a_loops, a_innermost, a_outer, a_deep, a_alive, a_values, a_present, a_code, a_target, a_pending, a_pendingOf, a_begins, a_openAt, a_vars, a_told) (nI m)) := by
  have hE' : xv_E (vl_g s m p) (f_entered ||| (1 : Int32) <<< (nI m &&& 31)) := by
    intro n
    rw [b_or, Bool.or_eq_true, hE n, xg_oi (m := 0) (by omega)]
    constructor
    · intro h
      rcases h with h | h
      · exact ⟨h.1, vl_e0 vl_gl h.2⟩
      · subst h
        refine ⟨hm, ?_⟩
        rw [vl_gs]
        have := vl_j16 (vl_U7 U hm (v := 0) (by omega)) (hp 0 (by omega)).1
        omega
    · intro h
      by_cases e : n = m
      · exact Or.inr e.symm
      · rw [vl_gn e] at h; exact Or.inl h
  have mid : ∀ z0 : Int32, (z0 = 0 ∨ z0 = 1) → (z0 = 1 → ∃ v, v < 4 ∧ vl_g s m p m v ≠ s m v) → (wX_give_16 post (nI m) z0 f_known f_seen f_many f_ordered f_isStraight f_entered f_todo f_length f_waiting f_tellings f_last f_stopped f_steps f_left f_ran a_acts a_actV a_actC a_ends a_endV a_endX a_endY a_numbers a_byNumber a_before a_forward a_backward a_orderOf a_at a_from a_semi a_label a_up a_found a_stack a_place a_chiefs a_tails a_edges a_rulers a_loops a_innermost a_outer a_deep a_alive a_values a_present a_code a_target a_pending a_pendingOf a_begins a_openAt a_vars a_told) := by
    intro z0 hz hz1
    refine nm_e ?_
    refine loop_0 (σ := Int32 × (Nat → Int32)) (fun n i t => (wX_give_31 post (nI m) f_known f_seen f_many f_ordered f_isStraight (f_entered ||| (1 : Int32) <<< (nI m &&& 31)) f_todo f_length f_waiting f_tellings f_last f_stopped f_steps f_left f_ran n t.1 (nI i) a_acts a_actV a_actC a_ends a_endV a_endX a_endY a_numbers a_byNumber a_before a_forward a_backward a_orderOf a_at a_from a_semi a_label a_up a_found a_stack a_place a_chiefs a_tails a_edges a_rulers a_loops a_innermost a_outer a_deep a_alive t.2 a_present a_code a_target a_pending a_pendingOf a_begins a_openAt a_vars a_told))
      (fun j t => vl_A (xv_q s m p j) t.2 ∧ (t.1 = 0 ∨ t.1 = 1) ∧ (t.1 = 1 ↔ z0 = 1 ∨ ∃ v, v < j ∧ vl_g s m p m v ≠ s m v)) 4 (z0, a_values) ⟨?_, hz, ?_⟩ ?_ ?_
    · intro n v hn hv
      show a_values (4 * n + v) = vl_i (xv_q s m p 0 n v)
      rw [xv_q0 (by omega)]
      exact hA n v hn hv
    · show z0 = 1 ↔ _
      constructor
      · intro h; exact Or.inl h
      · intro h
        rcases h with h | ⟨v, hv, _⟩
        · exact h
        · omega
    · intro n t ht
      obtain ⟨t1, t2, t3⟩ := ht
      have hA' : vl_A (vl_g s m p) t.2 := by
        intro n v hn hv
        rw [t1 n v hn hv]
        by_cases e : n = m
        · subst e; rw [xv_q1 hv]
        · rw [xv_q0 (fun h => e h.1), vl_gn e]
      refine br_t (by decide) ?_
      rcases t2 with e | e
      · refine br_t e (C _ f_todo t.2 hE' hA' ?_)
        intro i
        constructor
        · intro h; exact Or.inl h
        · intro h
          rcases h with h | h
          · exact h
          · have := t3.mpr (Or.inr h.2)
            rw [e] at this
            exact absurd this (by decide)
      · refine br_f (by rw [e]; decide) (nm_e (C _ _ t.2 hE' hA' ?_))
        intro i
        rw [b_or, Bool.or_eq_true, xg_oi (m := 0) (by omega)]
        constructor
        · intro h
          rcases h with h | h
          · exact Or.inl h
          · refine Or.inr ⟨h.symm, ?_⟩
            rcases t3.mp e with h2 | h2
            · exact hz1 h2
            · exact h2
        · intro h
          rcases h with h | h
          · exact Or.inl h
          · exact Or.inr h.1.symm
    · intro n i t hi ht ih
      obtain ⟨t1, t2, t3⟩ := ht
      have hpi := hp i hi
      have h7 := vl_U7 U hm hi
      have ev : t.2 (4 * nI m + nI i).toNatClampNeg = vl_i (s m i) := by
        rw [vl_ix, nI_clamp (by omega), t1 m i hm hi, xv_q0 (by omega)]
      have i64 : vp_in (4 * nI m + nI i) 64 := by rw [vl_ix]; exact vp_in_nI (by omega) (by omega)
      have i4 : vp_in (nI i) 4 := vp_in_nI hi (by omega)
      have ep : a_present (nI i).toNatClampNeg = nI (p i) := by rw [nI_clamp (by omega)]; exact hpi.2
      have hj16 := vl_j16 h7 hpi.1
      have fin : ∀ (q : Nat) (x2 : Int32), q = vl_j (s m i) (p i) → (x2 = 0 ∨ x2 = 1) → (x2 = 1 ↔ t.1 = 1 ∨ q ≠ s m i) → (wX_give_86 post (wX_give_31 post (nI m) f_known f_seen f_many f_ordered f_isStraight (f_entered ||| (1 : Int32) <<< (nI m &&& 31)) f_todo f_length f_waiting f_tellings f_last f_stopped f_steps f_left f_ran n) (nI m) x2 (nI i) (vl_i q) f_known f_seen f_many f_ordered f_isStraight (f_entered ||| (1 : Int32) <<< (nI m &&& 31)) f_todo f_length f_waiting f_tellings f_last f_stopped f_steps f_left f_ran a_acts a_actV a_actC a_ends a_endV a_endX a_endY a_numbers a_byNumber a_before a_forward a_backward a_orderOf a_at a_from a_semi a_label a_up a_found a_stack a_place a_chiefs a_tails a_edges a_rulers a_loops a_innermost a_outer a_deep a_alive t.2 a_present a_code a_target a_pending a_pendingOf a_begins a_openAt a_vars a_told) := by
        intro q x2 hq h01 hx2
        refine And.intro i64 (nm_r (e' := upd t.2 (4 * m + i) (vl_i q)) (by rw [vl_ix, xv_nb (by omega), xg_u (by omega)]) (nm_r (nI_1 i) (ih (x2, upd t.2 (4 * m + i) (vl_i q)) ⟨?_, h01, ?_⟩)))
        · intro n' v hn' hv
          have hA2 := vl_Au (s := xv_q s m p i) (x := q) t1 hm hi n' v hn' hv
          refine hA2.trans ?_
          by_cases e : n' = m ∧ v = i
          · obtain ⟨e1, e2⟩ := e
            subst e1 e2
            rw [vl_ps, xv_q1 (by omega), vl_gs, hq]
          · rw [vl_pn e]
            by_cases e2 : n' = m ∧ v < i
            · obtain ⟨e3, e4⟩ := e2
              subst e3
              rw [xv_q1 e4, xv_q1 (by omega)]
            · rw [xv_q0 e2, xv_q0 (by omega)]
        · show x2 = 1 ↔ _
          rw [hx2, t3]
          constructor
          · intro h
            rcases h with h | h
            · rcases h with h | ⟨v, hv, h⟩
              · exact Or.inl h
              · exact Or.inr ⟨v, by omega, h⟩
            · exact Or.inr ⟨i, by omega, by rw [vl_gs, ← hq]; exact h⟩
          · intro h
            rcases h with h | ⟨v, hv, h⟩
            · exact Or.inl (Or.inl h)
            · by_cases e : v = i
              · subst e
                rw [vl_gs, ← hq] at h
                exact Or.inr h
              · exact Or.inl (Or.inr ⟨v, by omega, h⟩)
      have fin2 : ∀ (q : Nat), q ≤ 16 → q = vl_j (s m i) (p i) → (wX_give_75 post (wX_give_31 post (nI m) f_known f_seen f_many f_ordered f_isStraight (f_entered ||| (1 : Int32) <<< (nI m &&& 31)) f_todo f_length f_waiting f_tellings f_last f_stopped f_steps f_left f_ran n) (nI m) t.1 (nI i) (vl_i (s m i)) (nI q) f_known f_seen f_many f_ordered f_isStraight (f_entered ||| (1 : Int32) <<< (nI m &&& 31)) f_todo f_length f_waiting f_tellings f_last f_stopped f_steps f_left f_ran a_acts a_actV a_actC a_ends a_endV a_endX a_endY a_numbers a_byNumber a_before a_forward a_backward a_orderOf a_at a_from a_semi a_label a_up a_found a_stack a_place a_chiefs a_tails a_edges a_rulers a_loops a_innermost a_outer a_deep a_alive t.2 a_present a_code a_target a_pending a_pendingOf a_begins a_openAt a_vars a_told) := by
        intro q hq16 hq
        rw [← vl_in hq16]
        by_cases e : q = s m i
        · refine br_t (by rw [e]) (fin q t.1 hq t2 ?_)
          constructor
          · intro h; exact Or.inl h
          · intro h
            rcases h with h | h
            · exact h
            · exact absurd e h
        · refine br_f (fun h => e ((vl_ij (by omega) h7).mp h)) (fin q 1 hq (Or.inr rfl) ?_)
          exact ⟨fun _ => Or.inr e, fun _ => rfl⟩
      refine br_f (nI_ge (b := 4) hi (by omega)) (And.intro i64 (nm_r ev ?_))
      by_cases h17 : s m i = 17
      · refine br_t ((vl_il h7).mpr h17) (And.intro i4 ?_)
        rw [ep]
        exact fin2 (p i) hpi.1 (by unfold vl_j; rw [if_pos h17])
      · refine br_f (fun h => h17 ((vl_il h7).mp h)) (And.intro i4 ?_)
        by_cases e : s m i = p i
        · refine br_t (by rw [ep, vl_in (by omega), e]) (And.intro i4 ?_)
          rw [ep]
          exact fin2 (p i) hpi.1 (by unfold vl_j; rw [if_neg h17, if_pos e]; exact e.symm)
        · refine br_f (by rw [ep, vl_in (by omega)]; exact fun h => e (bs_inj h (by omega) (by omega))) ?_
          exact fin2 16 (by omega) (by unfold vl_j; rw [if_neg h17, if_neg e])
  by_cases he : bt f_entered m = true
  · refine br_f (fun h => ?_) (mid 0 (Or.inl rfl) (fun h => absurd h (by decide)))
    rw [bs_g0 _ (by omega), he] at h
    cases h
  · refine br_t ((bs_g0 _ (by omega)).mpr (ts_nt he)) (mid 1 (Or.inr rfl) (fun _ => ⟨0, by omega, ?_⟩))
    have h17 : s m 0 = 17 := Classical.byContradiction (fun h => he ((hE m).mpr ⟨hm, h⟩))
    rw [vl_gs]
    have := vl_j16 (vl_U7 U hm (v := 0) (by omega)) (hp 0 (by omega)).1
    omega
end XP
end
section
section XQ
variable {f_known f_seen f_many f_ordered f_isStraight f_entered f_todo f_length f_waiting f_tellings f_last f_stopped f_steps f_ran : Int32} {f_left : Int64} {a_acts a_actV a_actC a_ends a_endV a_endX a_endY a_numbers a_byNumber a_before a_forward a_backward a_orderOf a_at a_from a_semi a_label a_up a_found a_stack a_place a_chiefs a_tails a_edges a_rulers a_loops a_innermost a_outer a_deep a_alive a_values a_present a_code a_target a_pending a_pendingOf a_begins a_openAt a_vars a_told : Nat → Int32} {g : Nat → Nat → Nat}
/-! X: goOn, findValues -/
def xv_N (g : Nat → Nat → Nat) (n : Nat) (T : Int32) (s : Nat → Nat → Nat) (en td : Int32) (va : Nat → Int32) (s' : Nat → Nat → Nat) : Prop :=
  vl_U s' ∧ vl_B g s' ∧ xv_E s' en ∧ vl_A s' va ∧ (∀ m v, m < 16 → v < 4 → vl_le (s m v) (s' m v)) ∧ (∀ i, bt T i = true → bt td i = true) ∧ (∀ i, bt td i = true → i < 16 ∧ s' i 0 ≠ 17) ∧
  (∀ i v, i < 16 → v < 4 → s' i v ≠ s i v → bt td i = true) ∧ 2 * vl_H s' + ct_c (fun i => bt td i) 16 ≤ 2 * vl_H s + ct_c (fun i => bt T i) 16
theorem xv_56 (W : gg_W g) {n : Nat} (hn : n < 16) {s : Nat → Nat → Nat} (U : vl_U s) (B : vl_B g s) (hE : xv_E s f_entered) (hA : vl_A s a_values) (h0 : s n 0 ≠ 17)
    (hp : ∀ v, v < 4 → a_present v = nI (vl_m g n v (s n))) (hT : ∀ i, bt f_todo i = true → i < 16 ∧ s i 0 ≠ 17) {S : Int32} (hS : ∀ m, bt S m = true ↔ vl_a g n m (s n)) {post : SX → Prop}
    (C : ∀ (en td : Int32) (va : Nat → Int32) (s' : Nat → Nat → Nat), xv_N g n f_todo s en td va s' → (∀ m, vl_a g n m (s n) → ∀ v, v < 4 → vl_le (vl_m g n v (s n)) (s' m v)) → post (f_known, f_seen, f_many, f_ordered, f_isStraight, en, td, f_length, f_waiting, f_tellings, f_last, f_stopped, f_steps, f_left, f_ran, a_acts, a_actV, a_actC, a_ends, a_endV, a_endX, a_endY, a_numbers, a_byNumber, a_before, a_forward, a_backward, a_orderOf, a_at, a_from, a_semi, a_label, a_up, a_found, a_stack, a_place, a_chiefs, a_tails, a_edges, a_rulers, a_loops, a_innermost, a_outer, a_deep, a_alive, va, a_present, a_code, a_target, a_pending, a_pendingOf, a_begins, a_openAt, a_vars, a_told)) :
    ∃ f : Nat, (wX_goOn_56 post f S f_known f_seen f_many f_ordered f_isStraight f_entered f_todo f_length f_waiting f_tellings f_last f_stopped f_steps f_left f_ran a_acts a_actV a_actC a_ends a_endV a_endX a_endY a_numbers a_byNumber a_before a_forward a_backward a_orderOf a_at a_from a_semi a_label a_up a_found a_stack a_place a_chiefs a_tails a_edges a_rulers a_loops a_innermost a_outer a_deep a_alive a_values a_present a_code a_target a_pending a_pendingOf a_begins a_openAt a_vars a_told) := by
  have h6 := vl_U6 U hn h0
  have hp6 : ∀ v, v < 4 → vl_m g n v (s n) ≤ 16 := fun v hv => vl_m16 W hv h6
  have hp' : ∀ v, v < 4 → vl_m g n v (s n) ≤ 16 ∧ a_present v = nI (vl_m g n v (s n)) := fun v hv => ⟨hp6 v hv, hp v hv⟩
  refine ⟨17, ?_⟩
  refine bs_lp (σ := Int32 × Int32 × (Nat → Int32)) (fun f x t => (wX_goOn_56 post f x f_known f_seen f_many f_ordered f_isStraight t.1 t.2.1 f_length f_waiting f_tellings f_last f_stopped f_steps f_left f_ran a_acts a_actV a_actC a_ends a_endV a_endX a_endY a_numbers a_byNumber a_before a_forward a_backward a_orderOf a_at a_from a_semi a_label a_up a_found a_stack a_place a_chiefs a_tails a_edges a_rulers a_loops a_innermost a_outer a_deep a_alive t.2.2 a_present a_code a_target a_pending a_pendingOf a_begins a_openAt a_vars a_told)) S 16 (fun i hi => ts_nt (fun h => by have := gg_E16 W ((hS i).mp h).1; omega))
    (fun j t => ∃ s', xv_N g n f_todo s t.1 t.2.1 t.2.2 s' ∧ ∀ m, m < j → vl_a g n m (s n) → ∀ v, v < 4 → vl_le (vl_m g n v (s n)) (s' m v)) ?_ ?_ ?_ (f_entered, f_todo, a_values) ?_ 17 (by omega)
  · intro f t ht
    obtain ⟨s', h1, h2⟩ := ht
    exact br_t rfl (C t.1 t.2.1 t.2.2 s' h1 (fun m ha => h2 m (gg_E16 W ha.1) ha))
  · intro i t hi hbi ht
    obtain ⟨s', h1, h2⟩ := ht
    refine ⟨s', h1, fun m hm ha => ?_⟩
    by_cases e : m = i
    · subst e; rw [(hS m).mpr ha] at hbi; cases hbi
    · exact h2 m (by omega) ha
  · intro f x i t hi hbi hx hxi hxm ht ih
    obtain ⟨s', h1, h2⟩ := ht
    obtain ⟨n1, n2, n3, n4, n5, n6, n7, n8, n9⟩ := h1
    refine br_f hx (bs_lw hxi hxm ?_)
    refine xv_gv (f_entered := t.1) (f_todo := t.2.1) (a_values := t.2.2) hi n1 n3 n4 hp' ?_
    intro en td va k1 k2 k3
    have hle : ∀ m v, m < 16 → v < 4 → vl_le (s m v) (vl_g s' i (fun v => vl_m g n v (s n)) m v) := fun m v hm hv => vl_tr (n5 m v hm hv) vl_gl
    have hU' := vl_gU n1 (m := i) hp6
    refine nm_e (ih (en, td, va) ⟨vl_g s' i (fun v => vl_m g n v (s n)), ⟨hU', vl_gB n2 hp6 (vl_pS W U B hn h0 (vl_rf _) (hp6 _ (W n).2.1) ((hS i).mp hbi)), k1, k2, hle, ?_, ?_, ?_, ?_⟩, ?_⟩)
    · intro j hj
      exact (k3 j).mpr (Or.inl (n6 j hj))
    · intro j hj
      rcases (k3 j).mp hj with h | h
      · have := n7 j h
        exact ⟨this.1, vl_e0 vl_gl this.2⟩
      · obtain ⟨h3, v, hv, _⟩ := h
        subst h3
        refine ⟨hi, ?_⟩
        rw [vl_gs]
        have := vl_j16 (vl_U7 n1 hi (v := 0) (by omega)) (hp6 0 (by omega))
        omega
    · intro j v hj hv hne
      by_cases e : s' j v = s j v
      · refine (k3 j).mpr (Or.inr ?_)
        rw [← e] at hne
        by_cases e2 : j = i
        · subst e2
          exact ⟨rfl, v, hv, hne⟩
        · exact absurd (vl_gn e2) hne
      · exact (k3 j).mpr (Or.inl (n8 j v hj hv e))
    · show 2 * vl_H (vl_g s' i (fun v => vl_m g n v (s n))) + ct_c (fun j => bt td j) 16 ≤ 2 * vl_H s + ct_c (fun j => bt f_todo j) 16
      have hmono : ∀ m v, m < 16 → v < 4 → vl_le (s' m v) (vl_g s' i (fun v => vl_m g n v (s n)) m v) := fun m v _ _ => vl_gl
      by_cases hch : ∃ v, v < 4 ∧ vl_g s' i (fun v => vl_m g n v (s n)) i v ≠ s' i v
      · obtain ⟨v, hv, hne⟩ := hch
        have h3 := vl_Hs hmono hi hv (vl_U7 hU' hi hv) hne
        have h4 : ct_c (fun j => bt td j) 16 ≤ ct_c (fun j => bt t.2.1 j) 16 + 1 := by
          have h5 := ct_mo (p := fun j => bt td j) (q := fun j => bt t.2.1 j || decide (j = i)) 16 (fun j _ hj => by
            show (bt t.2.1 j || decide (j = i)) = true
            rcases (k3 j).mp hj with h | h
            · rw [h]; rfl
            · rw [h.1]; simp)
          have h6 := ct_or (fun j => bt t.2.1 j) (fun j => decide (j = i)) 16
          rw [ct_1, if_pos hi] at h6
          omega
        have n9' : 2 * vl_H s' + ct_c (fun j => bt t.2.1 j) 16 ≤ 2 * vl_H s + ct_c (fun j => bt f_todo j) 16 := n9
        omega
      · have h3 := vl_Hl hmono
        have h4 : ct_c (fun j => bt td j) 16 ≤ ct_c (fun j => bt t.2.1 j) 16 := ct_mo 16 (fun j _ hj => by
          rcases (k3 j).mp hj with h | h
          · exact h
          · exact absurd h.2 hch)
        have n9' : 2 * vl_H s' + ct_c (fun j => bt t.2.1 j) 16 ≤ 2 * vl_H s + ct_c (fun j => bt f_todo j) 16 := n9
        omega
    · intro m hm ha v hv
      by_cases e : m = i
      · subst e
        rw [vl_gs]
        exact vl_j2 _ _
      · rw [vl_gn e]
        exact h2 m (by omega) ha v hv
  · exact ⟨s, ⟨U, B, hE, hA, fun m v _ _ => vl_rf _, fun i h => h, hT, fun i v _ _ h => absurd rfl h, Nat.le_refl _⟩, fun m hm => by omega⟩
theorem xv_go (W : gg_W g) (G : (xg_G g a_acts a_actV a_actC a_ends a_endV a_endX a_endY)) {n : Nat} (hn : n < 16) {s : Nat → Nat → Nat} (U : vl_U s) (B : vl_B g s) (hE : xv_E s f_entered) (hA : vl_A s a_values) (h0 : s n 0 ≠ 17)
    (hp : ∀ v, v < 4 → a_present v = nI (vl_m g n v (s n))) (hT : ∀ i, bt f_todo i = true → i < 16 ∧ s i 0 ≠ 17) {post : SX → Prop}
    (C : ∀ (en td : Int32) (va : Nat → Int32) (s' : Nat → Nat → Nat), xv_N g n f_todo s en td va s' → (∀ m, vl_a g n m (s n) → ∀ v, v < 4 → vl_le (vl_m g n v (s n)) (s' m v)) → post (f_known, f_seen, f_many, f_ordered, f_isStraight, en, td, f_length, f_waiting, f_tellings, f_last, f_stopped, f_steps, f_left, f_ran, a_acts, a_actV, a_actC, a_ends, a_endV, a_endX, a_endY, a_numbers, a_byNumber, a_before, a_forward, a_backward, a_orderOf, a_at, a_from, a_semi, a_label, a_up, a_found, a_stack, a_place, a_chiefs, a_tails, a_edges, a_rulers, a_loops, a_innermost, a_outer, a_deep, a_alive, va, a_present, a_code, a_target, a_pending, a_pendingOf, a_begins, a_openAt, a_vars, a_told)) : (wpX_goOn post (f_known, f_seen, f_many, f_ordered, f_isStraight, f_entered, f_todo, f_length, f_waiting, f_tellings, f_last, f_stopped, f_steps, f_left, f_ran, a_acts, a_actV, a_actC, a_ends, a_endV, a_endX, a_endY, a_numbers, a_byNumber, a_before, a_forward, a_backward, a_orderOf, a_at, a_from, a_semi, a_label, a_up, a_found, a_stack, a_place, a_chiefs, a_tails, a_edges, a_rulers, a_loops, a_innermost, a_outer, a_deep, a_alive, a_values, a_present, a_code, a_target, a_pending, a_pendingOf, a_begins, a_openAt, a_vars, a_told) (nI n)) := by
  have hw := W n
  have hG := G n hn
  have e0 : a_ends (nI n).toNatClampNeg = nI (g 0 n) := by rw [nI_clamp (by omega), hG.1]
  have e1 : a_endV (nI n).toNatClampNeg = nI (g 1 n) := by rw [nI_clamp (by omega), hG.2.1]
  have e2 : a_endX (nI n).toNatClampNeg = nI (g 2 n) := by rw [nI_clamp (by omega), hG.2.2.1]
  have e3 : a_endY (nI n).toNatClampNeg = nI (g 3 n) := by rw [nI_clamp (by omega), hG.2.2.2.1]
  have ht6 : vl_m g n (g 1 n) (s n) ≤ 16 := vl_m16 W hw.2.1 (vl_U6 U hn h0)
  unfold wpX_goOn
  refine xg_sc W G hn ?_
  intro r hr
  refine And.intro (xg_i hn) (And.intro (by rw [e1]; exact vp_in_nI hw.2.1 (by omega)) (nm_r (e' := nI (vl_m g n (g 1 n) (s n))) (by rw [e1, nI_clamp (by omega)]; exact hp _ hw.2.1) (And.intro (xg_i hn) ?_)))
  by_cases h2 : g 0 n = 2
  · refine br_t (by rw [e0, h2]; rfl) ?_
    by_cases t16 : vl_m g n (g 1 n) (s n) = 16
    · refine br_t (by rw [t16]; rfl) (xv_56 W hn U B hE hA h0 hp hT (fun m => ?_) C)
      rw [hr m]
      unfold vl_a vl_t
      constructor
      · intro h; exact ⟨h, fun _ => Or.inl t16⟩
      · intro h; exact h.1
    · refine br_f (fun h => t16 (bs_inj (b := 16) h (by omega) (by omega))) ?_
      by_cases t0 : vl_m g n (g 1 n) (s n) = 0
      · refine br_t (by rw [t0]; rfl) (And.intro (xg_i hn) (nm_r (e' := (1 : Int32) <<< (nI (g 2 n) &&& 31)) (by rw [e2]) (xv_56 W hn U B hE hA h0 hp hT (fun m => ?_) C)))
        rw [xg_oi (m := 0) (by omega)]
        unfold vl_a vl_t
        constructor
        · intro h; exact ⟨Or.inl ⟨by omega, h⟩, fun _ => Or.inr (Or.inl ⟨t0, h.symm⟩)⟩
        · intro h
          rcases h.2 h2 with h | h | h
          · exact absurd h t16
          · exact h.2.symm
          · exact absurd t0 h.1
      · refine br_f (fun h => t0 (bs_inj (b := 0) h (by omega) (by omega))) (And.intro (xg_i hn) (nm_r (e' := (1 : Int32) <<< (nI (g 3 n) &&& 31)) (by rw [e3]) (xv_56 W hn U B hE hA h0 hp hT (fun m => ?_) C)))
        rw [xg_oi (m := 0) (by omega)]
        unfold vl_a vl_t
        constructor
        · intro h; exact ⟨Or.inr ⟨h2, h⟩, fun _ => Or.inr (Or.inr ⟨t0, h.symm⟩)⟩
        · intro h
          rcases h.2 h2 with h | h | h
          · exact absurd h t16
          · exact absurd h.1 t0
          · exact h.2.symm
  · refine br_f (by rw [e0]; exact fun e => h2 (bs_inj (b := 2) e (by omega) (by omega))) (xv_56 W hn U B hE hA h0 hp hT (fun m => ?_) C)
    rw [hr m]
    unfold vl_a vl_t
    constructor
    · intro h; exact ⟨h, fun h3 => absurd h3 h2⟩
    · intro h; exact h.1
theorem xv_83 (W : gg_W g) (G : (xg_G g a_acts a_actV a_actC a_ends a_endV a_endX a_endY)) {n : Nat} (hn : n < 16) {s : Nat → Nat → Nat} (U : vl_U s) (B : vl_B g s) (hE : xv_E s f_entered) (hA : vl_A s a_values) (h0 : s n 0 ≠ 17)
    (hT : ∀ i, bt f_todo i = true → i < 16 ∧ s i 0 ≠ 17) {post : SX → Prop} {J : Int32 → Int32 → Int32 → Int32 → Int32 → Int32 → Int32 → Int32 → Int32 → Int32 → Int32 → Int32 → Int32 → Int64 → Int32 → (Nat → Int32) → (Nat → Int32) → (Nat → Int32) → (Nat → Int32) → (Nat → Int32) → (Nat → Int32) → (Nat → Int32) → (Nat → Int32) → (Nat → Int32) → (Nat → Int32) → (Nat → Int32) → (Nat → Int32) → (Nat → Int32) → (Nat → Int32) → (Nat → Int32) → (Nat → Int32) → (Nat → Int32) → (Nat → Int32) → (Nat → Int32) → (Nat → Int32) → (Nat → Int32) → (Nat → Int32) → (Nat → Int32) → (Nat → Int32) → (Nat → Int32) → (Nat → Int32) → (Nat → Int32) → (Nat → Int32) → (Nat → Int32) → (Nat → Int32) → (Nat → Int32) → (Nat → Int32) → (Nat → Int32) → (Nat → Int32) → (Nat → Int32) → (Nat → Int32) → (Nat → Int32) → (Nat → Int32) → (Nat → Int32) → (Nat → Int32) → Prop}
    (C : ∀ (en td : Int32) (va pr : Nat → Int32) (s' : Nat → Nat → Nat), xv_N g n f_todo s en td va s' → (∀ m, vl_a g n m (s n) → ∀ v, v < 4 → vl_le (vl_m g n v (s n)) (s' m v)) → (J  f_known f_seen f_many f_ordered f_isStraight en td f_length f_waiting f_tellings f_last f_stopped f_steps f_left f_ran a_acts a_actV a_actC a_ends a_endV a_endX a_endY a_numbers a_byNumber a_before a_forward a_backward a_orderOf a_at a_from a_semi a_label a_up a_found a_stack a_place a_chiefs a_tails a_edges a_rulers a_loops a_innermost a_outer a_deep a_alive va pr a_code a_target a_pending a_pendingOf a_begins a_openAt a_vars a_told)) :
    ∃ f : Nat, (wX_findValues_83 post J (nI n) f_known f_seen f_many f_ordered f_isStraight f_entered f_todo f_length f_waiting f_tellings f_last f_stopped f_steps f_left f_ran f 0 a_acts a_actV a_actC a_ends a_endV a_endX a_endY a_numbers a_byNumber a_before a_forward a_backward a_orderOf a_at a_from a_semi a_label a_up a_found a_stack a_place a_chiefs a_tails a_edges a_rulers a_loops a_innermost a_outer a_deep a_alive a_values a_present a_code a_target a_pending a_pendingOf a_begins a_openAt a_vars a_told) := by
  have hw := W n
  have hG := G n hn
  have h6 := vl_U6 U hn h0
  have e4 : a_acts (nI n).toNatClampNeg = nI (g 4 n) := by rw [nI_clamp (by omega), hG.2.2.2.2.1]
  have e5 : a_actV (nI n).toNatClampNeg = nI (g 5 n) := by rw [nI_clamp (by omega), hG.2.2.2.2.2.1]
  have e6 : a_actC (nI n).toNatClampNeg = nI (g 6 n) := by rw [nI_clamp (by omega), hG.2.2.2.2.2.2]
  have i5 : vp_in (nI (g 5 n)) 4 := vp_in_nI hw.2.2.2.2.2.1 (by omega)
  refine loop_0 (σ := Nat → Int32) (fun f i t => (wX_findValues_83 post J (nI n) f_known f_seen f_many f_ordered f_isStraight f_entered f_todo f_length f_waiting f_tellings f_last f_stopped f_steps f_left f_ran f (nI i) a_acts a_actV a_actC a_ends a_endV a_endX a_endY a_numbers a_byNumber a_before a_forward a_backward a_orderOf a_at a_from a_semi a_label a_up a_found a_stack a_place a_chiefs a_tails a_edges a_rulers a_loops a_innermost a_outer a_deep a_alive a_values t a_code a_target a_pending a_pendingOf a_begins a_openAt a_vars a_told)) (fun i t => ∀ v, v < i → t v = nI (s n v)) 4 a_present (fun v hv => by omega) ?_ ?_
  · intro f t ht
    have go : ∀ pr : Nat → Int32, (∀ v, v < 4 → pr v = nI (vl_m g n v (s n))) → (wX_findValues_244 post J (nI n) f_known f_seen f_many f_ordered f_isStraight f_entered f_todo f_length f_waiting f_tellings f_last f_stopped f_steps f_left f_ran a_acts a_actV a_actC a_ends a_endV a_endX a_endY a_numbers a_byNumber a_before a_forward a_backward a_orderOf a_at a_from a_semi a_label a_up a_found a_stack a_place a_chiefs a_tails a_edges a_rulers a_loops a_innermost a_outer a_deep a_alive a_values pr a_code a_target a_pending a_pendingOf a_begins a_openAt a_vars a_told) := by
      intro pr hpr
      exact xv_go (a_present := pr) W G hn U B hE hA h0 hpr hT (fun en td va s' h1 h2 => C en td va pr s' h1 h2)
    have ne : ∀ k, k ≤ 5 → g 4 n ≠ k → ¬ nI (g 4 n) = nI k := fun k hk h1 h2 => h1 (bs_inj h2 (by omega) (by omega))
    have upd1 : ∀ x : Nat, (vl_m g n (g 5 n) (s n) = x) → (∀ v, v < 4 → v ≠ g 5 n → vl_m g n v (s n) = s n v) → ∀ v, v < 4 → upd t (g 5 n) (nI x) v = nI (vl_m g n v (s n)) := by
      intro x hx ho v hv
      by_cases e : v = g 5 n
      · rw [e, pk_us, hx]
      · rw [pk_un e, ho v hv e]; exact ht v hv
    have oth : ∀ v, v < 4 → v ≠ g 5 n → vl_m g n v (s n) = s n v := fun v _ hv => by unfold vl_m; rw [if_pos (Or.inr (Or.inr (Ne.symm hv)))]
    refine br_t (by decide) (And.intro (xg_i hn) (nm_r e5 (And.intro (xg_i hn) (nm_r e4 ?_))))
    by_cases k0 : g 4 n = 0
    · refine br_t (by rw [k0]; decide) (go t (fun v hv => ?_))
      unfold vl_m
      rw [if_pos (Or.inl k0)]
      exact ht v hv
    · refine br_f (nI_nlt (b := 1) (by omega) (by omega)) (br_f (nI_nlt (a := 5) (by omega) (by omega)) ?_)
      by_cases k1 : g 4 n = 1
      · refine br_t (by rw [k1]; rfl) (And.intro (xg_i hn) (And.intro i5 (nm_r (e' := upd t (g 5 n) (nI (g 6 n))) (by rw [e6, bs_vb (by omega), xg_u (by omega)]) (go _ (upd1 _ ?_ oth)))))
        unfold vl_m
        rw [if_neg (by omega), if_pos k1]
      · refine br_f (ne 1 (by omega) k1) ?_
        by_cases k2 : g 4 n = 2
        · refine br_t (by rw [k2]; rfl) (And.intro i5 ?_)
          have et : t (nI (g 5 n)).toNatClampNeg = nI (s n (g 5 n)) := by rw [nI_clamp (by omega)]; exact ht _ hw.2.2.2.2.2.1
          have h5 := h6 (g 5 n) hw.2.2.2.2.2.1
          by_cases ks : s n (g 5 n) = 16
          · refine br_t (by rw [et, ks]; rfl) (And.intro i5 (nm_r (e' := upd t (g 5 n) (nI 16)) (by rw [xg_u (by omega)]; exact congrArg (upd t (g 5 n)) (bs_vbb (k := 16) (by omega))) (go _ (upd1 _ ?_ oth))))
            unfold vl_m
            rw [if_neg (by omega), if_neg k1, if_pos k2, if_pos ks]
          · refine br_f (by rw [et]; exact fun h => ks (bs_inj (b := 16) h (by omega) (by omega))) (And.intro i5 (And.intro (xg_i hn) (And.intro i5 (nm_r (e' := upd t (g 5 n) (nI ((s n (g 5 n) + g 6 n) % 16))) (by rw [et, e6, nI_add, pk_andN (by omega) 4 (by decide), bs_vbb (by omega), xg_u (by omega)]) (go _ (upd1 _ ?_ oth))))))
            unfold vl_m
            rw [if_neg (by omega), if_neg k1, if_pos k2, if_neg ks]
        · refine br_f (ne 2 (by omega) k2) ?_
          by_cases k3 : g 4 n = 3
          · have h64 := hw.2.2.2.2.2.2.2 k3
            have h66 := h6 _ h64
            refine br_t (by rw [k3]; rfl) (And.intro (xg_i hn) (And.intro (by rw [e6]; exact vp_in_nI h64 (by omega)) (And.intro i5 (nm_r (e' := upd t (g 5 n) (nI (s n (g 6 n)))) (by rw [e6, nI_clamp (by omega), nI_clamp (by omega), ht _ h64, bs_vb (by omega)]) (go _ (upd1 _ ?_ oth))))))
            unfold vl_m
            rw [if_neg (by omega), if_neg k1, if_neg k2, if_pos k3]
          · refine br_f (ne 3 (by omega) k3) ?_
            by_cases k4 : g 4 n = 4
            · refine br_t (by rw [k4]; rfl) (go t (fun v hv => ?_))
              unfold vl_m
              rw [if_pos (Or.inr (Or.inl k4))]
              exact ht v hv
            · refine br_f (ne 4 (by omega) k4) ?_
              have k5 : g 4 n = 5 := by omega
              refine br_t (by rw [k5]; rfl) (And.intro i5 (nm_r (e' := upd t (g 5 n) (nI 16)) (by rw [xg_u (by omega)]; exact congrArg (upd t (g 5 n)) (bs_vb (k := 16) (by omega))) (go _ (upd1 _ ?_ oth))))
              unfold vl_m
              rw [if_neg (by omega), if_neg k1, if_neg k2, if_neg k3]
  · intro f i t hi ht ih
    have h7 := h6 i hi
    refine br_f (nI_ge (b := 4) hi (by omega)) (And.intro (by rw [vl_ix]; exact vp_in_nI (by omega) (by omega)) (And.intro (vp_in_nI hi (by omega)) (nm_r (e' := upd t i (nI (s n i))) (by rw [vl_ix, nI_clamp (by omega), nI_clamp (by omega), hA n i hn hi, vl_in h7, bs_vb (by omega)]) (nm_r (nI_1 i) (ih _ ?_)))))
    intro v hv
    by_cases e : v = i
    · subst e; exact pk_us
    · exact (pk_un e).trans (ht v (by omega))
def xv_R (g : Nat → Nat → Nat) (en : Int32) (va : Nat → Int32) : Prop := ∃ s, vl_F g s ∧ xv_E s en ∧ vl_A s va
theorem xv_51 (W : gg_W g) (G : (xg_G g a_acts a_actV a_actC a_ends a_endV a_endX a_endY)) {post : SX → Prop} (C : ∀ (en td : Int32) (va pr : Nat → Int32), xv_R g en va → post (f_known, f_seen, f_many, f_ordered, f_isStraight, en, td, f_length, f_waiting, f_tellings, f_last, f_stopped, f_steps, f_left, f_ran, a_acts, a_actV, a_actC, a_ends, a_endV, a_endX, a_endY, a_numbers, a_byNumber, a_before, a_forward, a_backward, a_orderOf, a_at, a_from, a_semi, a_label, a_up, a_found, a_stack, a_place, a_chiefs, a_tails, a_edges, a_rulers, a_loops, a_innermost, a_outer, a_deep, a_alive, va, pr, a_code, a_target, a_pending, a_pendingOf, a_begins, a_openAt, a_vars, a_told)) :
    ∀ (f : Nat) (en td : Int32) (va pr : Nat → Int32) (s : Nat → Nat → Nat), 2 * vl_H s + ct_c (fun i => bt td i) 16 < f → vl_U s → vl_B g s → xv_E s en → vl_A s va → (∀ v, v < 4 → vl_le 0 (s 0 v)) → (∀ i, bt td i = true → i < 16 ∧ s i 0 ≠ 17) → (∀ n, n < 16 → bt td n = false → vl_S g s n) →
      (wX_findValues_51 post f f_known f_seen f_many f_ordered f_isStraight en td f_length f_waiting f_tellings f_last f_stopped f_steps f_left f_ran a_acts a_actV a_actC a_ends a_endV a_endX a_endY a_numbers a_byNumber a_before a_forward a_backward a_orderOf a_at a_from a_semi a_label a_up a_found a_stack a_place a_chiefs a_tails a_edges a_rulers a_loops a_innermost a_outer a_deep a_alive va pr a_code a_target a_pending a_pendingOf a_begins a_openAt a_vars a_told) := by
  intro f
  induction f with
  | zero => intro en td va pr s h; omega
  | succ f ih =>
    intro en td va pr s hf U B hE hA h00 hT hS
    by_cases ht : td = 0
    · subst ht
      exact br_t rfl (C en 0 va pr ⟨s, ⟨⟨U, h00, fun n hn => hS n hn (b_0 n)⟩, B⟩, hE, hA⟩)
    · obtain ⟨l, hl32, hl, hm⟩ := bs_fst ht
      have hTl := hT l hl
      have eT : ∀ i, bt (td &&& (td - 1)) i = true ↔ bt td i = true ∧ i ≠ l := by
        intro i
        rw [bs_cl hl hm, Bool.and_eq_true, decide_eq_true_iff]
      have hct : ct_c (fun i => bt (td &&& (td - 1)) i) 16 + 1 ≤ ct_c (fun i => bt td i) 16 := by
        refine ct_lt 16 l hTl.1 (fun i _ hi => ((eT i).mp hi).1) ?_ hl
        exact ts_nt (fun h => ((eT l).mp h).2 rfl)
      refine br_f ht (bs_lw hl hm (nm_e ?_))
      refine xv_83 (f_entered := en) (f_todo := td &&& (td - 1)) (a_values := va) (a_present := pr) W G hTl.1 U B hE hA hTl.2 (fun i hi => hT i ((eT i).mp hi).1) ?_
      intro en' td' va' pr' s' hN hal
      obtain ⟨n1, n2, n3, n4, n5, n6, n7, n8, n9⟩ := hN
      refine ih en' td' va' pr' s' (by omega) n1 n2 n3 n4 (fun v hv => vl_tr (h00 v hv) (n5 0 v (by omega) hv)) n7 ?_
      intro n hn hnt
      have hsame : ∀ v, v < 4 → s' n v = s n v := fun v hv => Classical.byContradiction (fun h => by
        rw [n8 n v hn hv h] at hnt
        cases hnt)
      by_cases en2 : n = l
      · subst en2
        intro _ m ha v hv
        unfold vl_a at ha
        rw [vl_mc W (W n).2.1 hsame] at ha
        rw [vl_mc W hv hsame]
        exact hal m ha v hv
      · refine vl_Sk W (hS n hn (ts_nt (fun h => ?_))) hsame n5
        rw [n6 n ((eT n).mpr ⟨h, en2⟩)] at hnt
        cases hnt
def xv_0 : Nat → Nat → Nat := fun n _ => if n = 0 then 0 else 17
/-- findValues, whole -/
theorem xv_f (W : gg_W g) (G : (xg_G g a_acts a_actV a_actC a_ends a_endV a_endX a_endY)) {post : SX → Prop} (C : ∀ (en td : Int32) (va pr : Nat → Int32), xv_R g en va → post (f_known, f_seen, f_many, f_ordered, f_isStraight, en, td, f_length, f_waiting, f_tellings, f_last, f_stopped, f_steps, f_left, f_ran, a_acts, a_actV, a_actC, a_ends, a_endV, a_endX, a_endY, a_numbers, a_byNumber, a_before, a_forward, a_backward, a_orderOf, a_at, a_from, a_semi, a_label, a_up, a_found, a_stack, a_place, a_chiefs, a_tails, a_edges, a_rulers, a_loops, a_innermost, a_outer, a_deep, a_alive, va, pr, a_code, a_target, a_pending, a_pendingOf, a_begins, a_openAt, a_vars, a_told)) : (wpX_findValues post (f_known, f_seen, f_many, f_ordered, f_isStraight, f_entered, f_todo, f_length, f_waiting, f_tellings, f_last, f_stopped, f_steps, f_left, f_ran, a_acts, a_actV, a_actC, a_ends, a_endV, a_endX, a_endY, a_numbers, a_byNumber, a_before, a_forward, a_backward, a_orderOf, a_at, a_from, a_semi, a_label, a_up, a_found, a_stack, a_place, a_chiefs, a_tails, a_edges, a_rulers, a_loops, a_innermost, a_outer, a_deep, a_alive, a_values, a_present, a_code, a_target, a_pending, a_pendingOf, a_begins, a_openAt, a_vars, a_told)) := by
  refine loop_0 (σ := Nat → Int32) (fun n i s => (wX_findValues_7 post f_known f_seen f_many f_ordered f_isStraight 1 f_todo f_length f_waiting f_tellings f_last f_stopped f_steps f_left f_ran n (nI i) a_acts a_actV a_actC a_ends a_endV a_endX a_endY a_numbers a_byNumber a_before a_forward a_backward a_orderOf a_at a_from a_semi a_label a_up a_found a_stack a_place a_chiefs a_tails a_edges a_rulers a_loops a_innermost a_outer a_deep a_alive s a_present a_code a_target a_pending a_pendingOf a_begins a_openAt a_vars a_told)) (fun i s => ∀ j, j < i → s j = -1) 64 a_values (fun n hn => by omega) ?_ ?_
  · intro n s hI
    refine br_t (by decide) ?_
    refine loop_0 (σ := Nat → Int32) (fun n i t => (wX_findValues_28 post f_known f_seen f_many f_ordered f_isStraight 1 f_todo f_length f_waiting f_tellings f_last f_stopped f_steps f_left f_ran n (nI i) a_acts a_actV a_actC a_ends a_endV a_endX a_endY a_numbers a_byNumber a_before a_forward a_backward a_orderOf a_at a_from a_semi a_label a_up a_found a_stack a_place a_chiefs a_tails a_edges a_rulers a_loops a_innermost a_outer a_deep a_alive t a_present a_code a_target a_pending a_pendingOf a_begins a_openAt a_vars a_told)) (fun i t => (∀ j, j < i → t j = 0) ∧ ∀ j, i ≤ j → j < 64 → t j = -1) 4 s ⟨fun n hn => by omega, fun j _ hj => hI j hj⟩ ?_ ?_
    · intro n t ht
      have hx : ∀ n v, n < 16 → v < 4 → xv_0 n v ≤ 17 ∧ (xv_0 n v = 17 ↔ n ≠ 0) := by
        intro n v _ _
        unfold xv_0
        split <;> omega
      refine br_t (by decide) ⟨300, xv_51 W G C 300 1 1 t a_present xv_0 ?_ ?_ ?_ ?_ ?_ ?_ ?_ ?_⟩
      · have h1 := vl_H7 (s := xv_0)
        have h2 := ct_le (fun i => bt 1 i) 16
        omega
      · intro n hn
        by_cases e : n = 0
        · refine Or.inr (fun v hv => ?_)
          unfold xv_0; rw [if_pos e]; omega
        · refine Or.inl (fun v hv => ?_)
          unfold xv_0; rw [if_neg e]
      · intro s' hC n hn v hv
        unfold xv_0
        split
        · rename_i e; rw [e]; exact hC.2.1 v hv
        · exact Or.inl rfl
      · intro n
        rw [bs_1, decide_eq_true_iff]
        unfold xv_0
        constructor
        · intro e; rw [if_pos e]; omega
        · intro h
          apply Classical.byContradiction
          intro e
          rw [if_neg e] at h
          omega
      · intro n v hn hv
        unfold xv_0
        by_cases e : n = 0
        · rw [if_pos e, ht.1 _ (by omega)]; rfl
        · rw [if_neg e, ht.2 _ (by omega) (by omega)]; rfl
      · intro v hv
        exact vl_rf 0
      · intro i hi
        rw [bs_1, decide_eq_true_iff] at hi
        subst hi
        unfold xv_0
        exact ⟨by omega, by rw [if_pos rfl]; omega⟩
      · intro n hn hb h0
        exfalso
        unfold xv_0 at h0
        by_cases e : n = 0
        · subst e
          rw [bs_1] at hb
          cases hb
        · rw [if_neg e] at h0
          exact h0 rfl
    · intro n i t hi ht ih
      refine br_f (nI_ge (b := 4) hi (by omega)) (And.intro (vp_in_nI (by omega) (by omega)) (nm_r (e' := upd t i 0) (by rw [bs_v0, xg_u (by omega)]) (nm_r (nI_1 i) (ih _ ⟨?_, ?_⟩))))
      · intro j hj
        by_cases e : j = i
        · subst e; exact pk_us
        · exact (pk_un e).trans (ht.1 j (by omega))
      · intro j hj hj2
        exact (pk_un (by omega)).trans (ht.2 j (by omega) hj2)
  · intro n i s hi hI ih
    refine br_f (nI_ge (b := 64) hi (by omega)) (And.intro (vp_in_nI hi (by omega)) (nm_r (e' := upd s i (-1)) (by rw [bs_vm, xg_u (by omega)]) (nm_r (nI_1 i) (ih _ ?_))))
    intro j hj
    by_cases ej : j = i
    · subst ej; exact pk_us
    · exact (pk_un ej).trans (hI j (by omega))
end XQ
end
section
section CA
variable {g : Nat → Nat → Nat}
/-! every node but the root has a chief -/
theorem dm_ex {E : Nat → Nat → Prop} {r n : Nat} (h17 : ∀ m, dm_R E r m → m < 17) (hn : dm_R E r n) (h0 : n ≠ r) : ∃ d, dm_I E r d n := by
  have key : ∀ k, (∃ d, d ≠ n ∧ dm_D E r d n ∧ 17 - dm_n E r d ≤ k) → ∃ d, dm_I E r d n := by
    intro k
    induction k with
    | zero =>
      intro ⟨d, h1, h2, h3⟩
      refine ⟨d, h1, h2, fun e he hD => ?_⟩
      rcases dm_ln hn hD h2 with h | h
      · exact h
      · by_cases ed : e = d
        · rw [ed]; exact dm_rf
        · exfalso
          have hR := dm_re hn hD
          have hlt : dm_n E r d + 1 ≤ dm_n E r e := ct_lt 17 e (h17 e hR) (fun i _ hi => pd_t (dm_tr ((pd_i _).mp hi) h)) (pd_f (fun h4 => ed (dm_an hR h4 h))) (pd_t dm_rf)
          have := dm_n7 (E := E) (r := r) (n := e)
          omega
    | succ k ih =>
      intro ⟨d, h1, h2, h3⟩
      by_cases hd : ∀ e, e ≠ n → dm_D E r e n → dm_D E r e d
      · exact ⟨d, h1, h2, hd⟩
      · obtain ⟨e, he⟩ := Classical.not_forall.mp hd
        have he1 : e ≠ n := Classical.byContradiction (fun h => he (fun h2 => absurd h2 h))
        have he2 : dm_D E r e n := Classical.byContradiction (fun h => he (fun _ h2 => absurd h2 h))
        have he3 : ¬ dm_D E r e d := fun h => he (fun _ _ => h)
        rcases dm_ln hn he2 h2 with h | h
        · exact absurd h he3
        · have hR := dm_re hn he2
          have ed : e ≠ d := fun h => he3 (by rw [h]; exact dm_rf)
          have hlt : dm_n E r d + 1 ≤ dm_n E r e := ct_lt 17 e (h17 e hR) (fun i _ hi => pd_t (dm_tr ((pd_i _).mp hi) h)) (pd_f (fun h4 => ed (dm_an hR h4 h))) (pd_t dm_rf)
          exact ih ⟨e, he1, he2, by omega⟩
  exact key 17 ⟨r, Ne.symm h0, dm_r0, by omega⟩
theorem gg_ex (W : gg_W g) {n : Nat} (hn : gg_R g n) (h0 : n ≠ 0) : ∃ d, dm_I (gg_E g) 0 d n := dm_ex (fun m hm => by have := gg_R16 W hm; omega) hn h0
theorem gg_n0 (W : gg_W g) {n : Nat} (hn : gg_R g n) (h0 : n ≠ 0) : gg_n g 0 < gg_n g n := gg_nD W hn dm_r0 (Ne.symm h0)
/-! meetings -/
noncomputable def gg_mc (g : Nat → Nat → Nat) (s : Nat) : Nat := ct_c (fun p => pd_b (gg_R g p ∧ gg_E g p s ∧ gg_n g p < gg_n g s)) 16
def gg_M (g : Nat → Nat → Nat) (s : Nat) : Prop := 1 < gg_mc g s
theorem ct_2 {p : Nat → Bool} {n a b : Nat} (ha : a < n) (hb : b < n) (hab : a ≠ b) (h1 : p a = true) (h2 : p b = true) : 2 ≤ ct_c p n := by
  have h3 := ct_mo (p := fun i => decide (i = a) || decide (i = b)) (q := p) n (fun i _ hi => by
    rcases (Bool.or_eq_true _ _).mp hi with h | h
    · rw [of_decide_eq_true h]; exact h1
    · rw [of_decide_eq_true h]; exact h2)
  have h4 : ct_c (fun i => decide (i = b)) n + 1 ≤ ct_c (fun i => decide (i = a) || decide (i = b)) n :=
    ct_lt n a ha (fun i _ hi => by show (decide (i = a) || decide (i = b)) = true; rw [hi]; simp) (decide_eq_false hab) (by show (decide (a = a) || decide (a = b)) = true; simp)
  rw [ct_1, if_pos hb] at h4
  omega
theorem ct_u {p : Nat → Bool} (h : ∀ a b, p a = true → p b = true → a = b) : ∀ n, ct_c p n ≤ 1
  | 0 => by show 0 ≤ 1; omega
  | n + 1 => by
    show ct_c p n + (if p n = true then 1 else 0) ≤ 1
    have := ct_u h n
    by_cases hn : p n = true
    · rw [if_pos hn]
      have : ct_c p n = 0 := by
        rw [ct_eq n (q := fun _ => false)]
        · exact ct_f n
        · intro i hi
          exact ts_nt (fun hp => by have := h i n hp hn; omega)
      omega
    · rw [if_neg hn]; omega
def cd_Pa (g : Nat → Nat → Nat) (p m : Nat) : Prop := (gg_M g m ∧ dm_I (gg_E g) 0 p m) ∨ (¬ gg_M g m ∧ gg_R g p ∧ gg_E g p m ∧ gg_n g p < gg_n g m)
theorem cd_Pu (W : gg_W g) {p q m : Nat} (hm : gg_R g m) (h1 : cd_Pa g p m) (h2 : cd_Pa g q m) : p = q := by
  rcases h1 with h1 | h1
  · rcases h2 with h2 | h2
    · exact dm_un hm h1.2 h2.2
    · exact absurd h1.1 h2.1
  · rcases h2 with h2 | h2
    · exact absurd h2.1 h1.1
    · apply Classical.byContradiction
      intro hne
      apply h1.1
      exact ct_2 (gg_R16 W h1.2.1) (gg_R16 W h2.2.1) hne (pd_t h1.2) (pd_t h2.2)
noncomputable def cd_m (g : Nat → Nat → Nat) (n : Nat) : Nat → List Nat
  | 0 => []
  | k + 1 => if pd_b (dm_I (gg_E g) 0 n ((df_o g).getD k 0) ∧ gg_M g ((df_o g).getD k 0)) = true then (df_o g).getD k 0 :: cd_m g n k else cd_m g n k
noncomputable def cd_ms (g : Nat → Nat → Nat) (n : Nat) : List Nat := cd_m g n (df_o g).length
theorem cd_ml (n : Nat) : ∀ k, (cd_m g n k).length = ct_c (fun j => pd_b (dm_I (gg_E g) 0 n ((df_o g).getD j 0) ∧ gg_M g ((df_o g).getD j 0))) k
  | 0 => rfl
  | k + 1 => by
    show (if pd_b (dm_I (gg_E g) 0 n ((df_o g).getD k 0) ∧ gg_M g ((df_o g).getD k 0)) = true then (df_o g).getD k 0 :: cd_m g n k else cd_m g n k).length = ct_c _ k + (if pd_b (dm_I (gg_E g) 0 n ((df_o g).getD k 0) ∧ gg_M g ((df_o g).getD k 0)) = true then 1 else 0)
    rw [← cd_ml n k]
    split
    · rw [List.length_cons]
    · rfl
theorem cd_mi (W : gg_W g) (n m : Nat) : ∀ k, k ≤ (df_o g).length → (m ∈ cd_m g n k ↔ gg_R g m ∧ gg_n g m < k ∧ dm_I (gg_E g) 0 n m ∧ gg_M g m)
  | 0, _ => by
    constructor
    · intro h; cases h
    · intro h; omega
  | k + 1, hk => by
    have ih := cd_mi W n m k (by omega)
    have hgn := gg_ng W (show k < (df_o g).length by omega)
    show m ∈ (if pd_b (dm_I (gg_E g) 0 n ((df_o g).getD k 0) ∧ gg_M g ((df_o g).getD k 0)) = true then (df_o g).getD k 0 :: cd_m g n k else cd_m g n k) ↔ _
    have hlt := fun hm => gg_lt W (show k < (df_o g).length by omega) (m := m) hm
    generalize (df_o g).getD k 0 = x at *
    split
    · rename_i h
      have h := (pd_i _).mp h
      rw [List.mem_cons, ih]
      constructor
      · intro hx
        rcases hx with hx | hx
        · subst hx; exact ⟨hgn.1, by omega, h⟩
        · exact ⟨hx.1, by omega, hx.2.2⟩
      · intro hx
        rcases (hlt hx.1).mp hx.2.1 with h' | h'
        · exact Or.inr ⟨hx.1, h', hx.2.2⟩
        · exact Or.inl h'
    · rename_i h
      rw [ih]
      constructor
      · intro hx; exact ⟨hx.1, by omega, hx.2.2⟩
      · intro hx
        rcases (hlt hx.1).mp hx.2.1 with h' | h'
        · exact ⟨hx.1, h', hx.2.2⟩
        · subst h'; exact absurd (pd_t hx.2.2) h
theorem cd_mn (W : gg_W g) (n : Nat) : ∀ k, k ≤ (df_o g).length → (cd_m g n k).Nodup
  | 0, _ => List.nodup_nil
  | k + 1, hk => by
    have ih := cd_mn W n k (by omega)
    have hgn := gg_ng W (show k < (df_o g).length by omega)
    have hmi := cd_mi W n ((df_o g).getD k 0) k (by omega)
    show (if pd_b (dm_I (gg_E g) 0 n ((df_o g).getD k 0) ∧ gg_M g ((df_o g).getD k 0)) = true then (df_o g).getD k 0 :: cd_m g n k else cd_m g n k).Nodup
    split
    · rw [List.nodup_cons]
      refine ⟨fun h => ?_, ih⟩
      have := hmi.mp h
      omega
    · exact ih
theorem cd_in (W : gg_W g) {n m : Nat} : m ∈ cd_ms g n ↔ gg_R g m ∧ dm_I (gg_E g) 0 n m ∧ gg_M g m := by
  unfold cd_ms
  rw [cd_mi W n m _ (Nat.le_refl _)]
  constructor
  · intro h; exact ⟨h.1, h.2.2⟩
  · intro h; exact ⟨h.1, (gg_nl W h.1).1, h.2⟩
theorem cd_sl (W : gg_W g) : ct_s (fun n => (cd_ms g n).length) 16 ≤ 16 := by
  have e1 : ct_s (fun n => (cd_ms g n).length) 16 = ct_s (fun n => ct_s (fun j => if pd_b (dm_I (gg_E g) 0 n ((df_o g).getD j 0) ∧ gg_M g ((df_o g).getD j 0)) = true then 1 else 0) (df_o g).length) 16 := by
    refine ct_seq 16 (fun i _ => ?_)
    show (cd_m g i _).length = _
    rw [cd_ml, ct_cs]
  rw [e1, ct_sw]
  have h2 := ct_sle (f := fun j => ct_s (fun n => if pd_b (dm_I (gg_E g) 0 n ((df_o g).getD j 0) ∧ gg_M g ((df_o g).getD j 0)) = true then 1 else 0) 16) (g := fun _ => 1) (df_o g).length (fun j hj => by
    show ct_s (fun n => if pd_b (dm_I (gg_E g) 0 n ((df_o g).getD j 0) ∧ gg_M g ((df_o g).getD j 0)) = true then 1 else 0) 16 ≤ 1
    rw [← ct_cs (fun n => pd_b (dm_I (gg_E g) 0 n ((df_o g).getD j 0) ∧ gg_M g ((df_o g).getD j 0)))]
    refine ct_u (fun a b ha hb => ?_) 16
    exact dm_un (gg_ng W hj).1 ((pd_i _).mp ha).1 ((pd_i _).mp hb).1)
  rw [ct_sc] at h2
  have := df_ln W
  omega
/-! what is written for a node, and what waits behind it (the next first) -/
noncomputable def cd_wy (g : Nat → Nat → Nat) (n s : Nat) : Nat × Nat × Nat := if gg_n g s ≤ gg_n g n then (6, s, 0) else if pd_b (gg_M g s) = true then (7, s, 0) else (0, s, 0)
noncomputable def cd_wo (g : Nat → Nat → Nat) (n : Nat) : List Nat :=
  (if pd_b (gg_H g n) = true then [16 + n] else []) ++ ((cd_ms g n).map (fun m => 32 + m) ++ (n :: (if g 0 n = 0 then [128] else if g 0 n = 1 ∨ g 2 n = g 3 n then [] else [48 + g 1 n])))
def cd_pb : List Nat → List (Nat × Nat × Nat)
  | [] => []
  | m :: ms => cd_pb ms ++ [(5, 0, m + 1), (0, m, 0)]
noncomputable def cd_pw (g : Nat → Nat → Nat) (n : Nat) : List (Nat × Nat × Nat) := if g 0 n = 0 then [] else if g 0 n = 1 ∨ g 2 n = g 3 n then [cd_wy g n (g 2 n)] else [cd_wy g n (g 2 n), (4, 0, n), cd_wy g n (g 3 n), (5, 0, 0)]
noncomputable def cd_pu (g : Nat → Nat → Nat) (n : Nat) : List (Nat × Nat × Nat) := cd_pw g n ++ (cd_pb (cd_ms g n) ++ (if pd_b (gg_H g n) = true then [(5, 0, 0)] else []))
noncomputable def cd_r (g : Nat → Nat → Nat) : Nat → List (Nat × Nat × Nat) → List Nat → Option (List Nat)
  | 0, _, _ => none
  | _ + 1, [], ws => some ws
  | f + 1, it :: st, ws => if it.1 = 0 then cd_r g f (cd_pu g it.2.1 ++ st) (ws ++ cd_wo g it.2.1) else cd_r g f st (ws ++ [16 * it.1 + it.2.1])
theorem cd_pbl : ∀ ms : List Nat, (cd_pb ms).length = 2 * ms.length
  | [] => rfl
  | m :: ms => by
    show (cd_pb ms ++ [(5, 0, m + 1), (0, m, 0)]).length = _
    rw [List.length_append, cd_pbl ms, List.length_cons, List.length_cons, List.length_cons, List.length_nil]
    omega
theorem cd_pul (n : Nat) : (cd_pu g n).length ≤ 5 + 2 * (cd_ms g n).length := by
  unfold cd_pu cd_pw
  rw [List.length_append, List.length_append, cd_pbl]
  have h1 : (if pd_b (gg_H g n) = true then [((5 : Nat), (0 : Nat), (0 : Nat))] else []).length ≤ 1 := by split <;> simp
  have h2 : (if g 0 n = 0 then [] else if g 0 n = 1 ∨ g 2 n = g 3 n then [cd_wy g n (g 2 n)] else [cd_wy g n (g 2 n), (4, 0, n), cd_wy g n (g 3 n), (5, 0, 0)]).length ≤ 4 := by
    split
    · simp
    · split <;> simp
  omega
theorem cd_wol (n : Nat) : (cd_wo g n).length ≤ 3 + (cd_ms g n).length := by
  unfold cd_wo
  rw [List.length_append, List.length_append, List.length_map, List.length_cons]
  have h1 : (if pd_b (gg_H g n) = true then [16 + n] else []).length ≤ 1 := by split <;> simp
  have h2 : (if g 0 n = 0 then [128] else if g 0 n = 1 ∨ g 2 n = g 3 n then [] else [48 + g 1 n]).length ≤ 1 := by
    split
    · simp
    · split <;> simp
  omega
/-! nodes that wait; who was opened -/
def cp_n : List (Nat × Nat × Nat) → List Nat
  | [] => []
  | it :: st => if it.1 = 0 then it.2.1 :: cp_n st else cp_n st
theorem cp_na : ∀ a b : List (Nat × Nat × Nat), cp_n (a ++ b) = cp_n a ++ cp_n b
  | [], _ => rfl
  | it :: a, b => by
    show (if it.1 = 0 then it.2.1 :: cp_n (a ++ b) else cp_n (a ++ b)) = (if it.1 = 0 then it.2.1 :: cp_n a else cp_n a) ++ cp_n b
    rw [cp_na a b]
    split <;> rfl
theorem cp_nm {m : Nat} : ∀ st : List (Nat × Nat × Nat), m ∈ cp_n st ↔ ∃ i, (0, m, i) ∈ st
  | [] => by
    constructor
    · intro h; cases h
    · intro ⟨i, h⟩; cases h
  | it :: st => by
    have ih := cp_nm (m := m) st
    show m ∈ (if it.1 = 0 then it.2.1 :: cp_n st else cp_n st) ↔ _
    obtain ⟨k, n, j⟩ := it
    split
    · rename_i h
      have h : k = 0 := h
      subst h
      rw [List.mem_cons, ih]
      constructor
      · intro hx
        rcases hx with hx | ⟨i, hx⟩
        · have : m = n := hx
          subst this; exact ⟨j, List.mem_cons_self⟩
        · exact ⟨i, List.mem_cons_of_mem _ hx⟩
      · intro ⟨i, hx⟩
        rcases List.mem_cons.mp hx with hx | hx
        · exact Or.inl (congrArg (fun t => t.2.1) hx)
        · exact Or.inr ⟨i, hx⟩
    · rename_i h
      rw [ih]
      constructor
      · intro ⟨i, hx⟩; exact ⟨i, List.mem_cons_of_mem _ hx⟩
      · intro ⟨i, hx⟩
        rcases List.mem_cons.mp hx with hx | hx
        · exact absurd (congrArg (fun t => t.1) hx).symm h
        · exact ⟨i, hx⟩
theorem cp_pb : ∀ ms : List Nat, cp_n (cd_pb ms) = ms.reverse
  | [] => rfl
  | m :: ms => by
    show cp_n (cd_pb ms ++ [(5, 0, m + 1), (0, m, 0)]) = _
    rw [cp_na, cp_pb ms, List.reverse_cons]
    rfl
theorem cd_pbi {it : Nat × Nat × Nat} : ∀ ms : List Nat, it ∈ cd_pb ms → ∃ m, m ∈ ms ∧ (it = (5, 0, m + 1) ∨ it = (0, m, 0))
  | [], h => by cases h
  | m :: ms, h => by
    rcases List.mem_append.mp h with h | h
    · obtain ⟨m', h1, h2⟩ := cd_pbi ms h
      exact ⟨m', List.mem_cons_of_mem _ h1, h2⟩
    · rcases List.mem_cons.mp h with h | h
      · exact ⟨m, List.mem_cons_self, Or.inl h⟩
      · rcases List.mem_cons.mp h with h | h
        · exact ⟨m, List.mem_cons_self, Or.inr h⟩
        · cases h
def cp_k (g : Nat → Nat → Nat) (op : Nat → Bool) (it : Nat × Nat × Nat) : Prop :=
  (it.1 = 0 ∧ it.2.2 = 0) ∨ (it.1 = 4 ∧ it.2.1 = 0) ∨ (it.1 = 5 ∧ it.2.1 = 0) ∨ (it.1 = 6 ∧ op it.2.1 = true ∧ gg_H g it.2.1) ∨ (it.1 = 7 ∧ gg_R g it.2.1 ∧ ∃ c, op c = true ∧ it.2.1 ∈ cd_ms g c)
noncomputable def cp_u (g : Nat → Nat → Nat) (op : Nat → Bool) : Nat := ct_s (fun n => if op n = true then 0 else (cd_pu g n).length) 16
noncomputable def cp_v (g : Nat → Nat → Nat) (op : Nat → Bool) : Nat := ct_s (fun n => if op n = true then 0 else (cd_pu g n).length + (cd_wo g n).length) 16
def cp_P (g : Nat → Nat → Nat) (st : List (Nat × Nat × Nat)) (op : Nat → Bool) : Prop :=
  (∀ n, op n = true → gg_R g n) ∧ (∀ n d, op n = true → gg_D g d n → op d = true) ∧ (∀ m, m ∈ cp_n st → gg_R g m ∧ op m = false) ∧ (cp_n st).Nodup ∧
  (∀ m, (op m = true ∨ m ∈ cp_n st) → m ≠ 0 → ∃ p, op p = true ∧ cd_Pa g p m) ∧ (∀ it, it ∈ st → cp_k g op it)
theorem cp_P1 {it : Nat × Nat × Nat} {st : List (Nat × Nat × Nat)} {op : Nat → Bool} (h : cp_P g (it :: st) op) (hk : it.1 ≠ 0) : cp_P g st op := by
  obtain ⟨h1, h2, h3, h4, h5, h6⟩ := h
  have e : cp_n (it :: st) = cp_n st := if_neg hk
  rw [e] at h3 h4 h5
  exact ⟨h1, h2, h3, h4, h5, fun i hi => h6 i (List.mem_cons_of_mem _ hi)⟩
theorem cd_wyc (g : Nat → Nat → Nat) (n s : Nat) : (cd_wy g n s = (6, s, 0) ∧ gg_n g s ≤ gg_n g n) ∨ (cd_wy g n s = (7, s, 0) ∧ gg_n g n < gg_n g s ∧ gg_M g s) ∨ (cd_wy g n s = (0, s, 0) ∧ gg_n g n < gg_n g s ∧ ¬ gg_M g s) := by
  unfold cd_wy
  by_cases h1 : gg_n g s ≤ gg_n g n
  · rw [if_pos h1]; exact Or.inl ⟨rfl, h1⟩
  · rw [if_neg h1]
    by_cases h2 : gg_M g s
    · rw [if_pos (pd_t h2)]; exact Or.inr (Or.inl ⟨rfl, by omega, h2⟩)
    · rw [if_neg (by rw [pd_f h2]; exact Bool.noConfusion)]; exact Or.inr (Or.inr ⟨rfl, by omega, h2⟩)
/-- a node opened -/
theorem cp_P2 (W : gg_W g) (hSt : gg_St g) {n i : Nat} {st : List (Nat × Nat × Nat)} {op : Nat → Bool} (h : cp_P g ((0, n, i) :: st) op) : cp_P g (cd_pu g n ++ st) (df_m op n) ∧ gg_R g n ∧ op n = false := by
  obtain ⟨h1, h2, h3, h4, h5, h6⟩ := h
  have e : cp_n ((0, n, i) :: st) = n :: cp_n st := if_pos rfl
  rw [e] at h3 h4 h5
  have hn := h3 n List.mem_cons_self
  have hnd := List.nodup_cons.mp h4
  refine ⟨?_, hn⟩
  have hdom : ∀ d, gg_D g d n → df_m op n d = true := by
    intro d hD
    by_cases ed : d = n
    · rw [ed]; exact df_mm
    · refine df_mt ?_
      by_cases e0 : n = 0
      · rw [e0] at hD ed
        exact absurd (dm_rt hD) ed
      · obtain ⟨p, hp, hPa⟩ := h5 n (Or.inr List.mem_cons_self) e0
        refine h2 p d hp ?_
        rcases hPa with hPa | hPa
        · exact hPa.2.2.2 d ed hD
        · exact dm_pr hD ed hPa.2.2.1
  -- a node that waits newly is new
  have hnew : ∀ m, gg_R g m → cd_Pa g n m → gg_n g n < gg_n g m → df_m op n m = false ∧ m ∉ cp_n st := by
    intro m hm hPa hlt
    have hmn : m ≠ n := by intro e2; subst e2; omega
    have hm0 : m ≠ 0 := by
      intro e2
      subst e2
      by_cases e3 : n = 0
      · subst e3; omega
      · have := gg_n0 W hn.1 e3
        omega
    have hno : ¬ (op m = true ∨ m ∈ n :: cp_n st) := by
      intro hx
      obtain ⟨p, hp, hPp⟩ := h5 m hx hm0
      have := cd_Pu W hm hPp hPa
      subst this
      rw [hn.2] at hp
      cases hp
    refine ⟨?_, fun hx => hno (Or.inr (List.mem_cons_of_mem _ hx))⟩
    rw [df_mn hmn]
    exact ts_nt (fun hx => hno (Or.inl hx))
  have hpw : ∀ s, gg_E g n s → ∀ it, it = cd_wy g n s → cp_k g (df_m op n) it ∧ (it.1 = 0 → gg_R g s ∧ it.2.1 = s ∧ cd_Pa g n s ∧ gg_n g n < gg_n g s ∧ ¬ gg_M g s) := by
    intro s hE it hit
    have hRs : gg_R g s := gr_st hn.1 hE trivial
    rcases cd_wyc g n s with ⟨e1, e2⟩ | ⟨e1, e2, e3⟩ | ⟨e1, e2, e3⟩
    · rw [e1] at hit
      subst hit
      have hD := hSt s n hn.1 hE e2
      exact ⟨Or.inr (Or.inr (Or.inr (Or.inl ⟨rfl, hdom s hD, n, hn.1, hE, hD⟩))), fun hx => absurd (show (6 : Nat) = 0 from hx) (by decide)⟩
    · rw [e1] at hit
      subst hit
      have hs0 : s ≠ 0 := by
        intro e4
        subst e4
        by_cases e5 : n = 0
        · subst e5; omega
        · have := gg_n0 W hn.1 e5
          omega
      obtain ⟨c, hc⟩ := gg_ex W hRs hs0
      exact ⟨Or.inr (Or.inr (Or.inr (Or.inr ⟨rfl, hRs, c, hdom c (dm_pr hc.2.1 hc.1 hE), (cd_in W).mpr ⟨hRs, hc, e3⟩⟩))), fun hx => absurd (show (7 : Nat) = 0 from hx) (by decide)⟩
    · rw [e1] at hit
      subst hit
      exact ⟨Or.inl ⟨rfl, rfl⟩, fun _ => ⟨hRs, rfl, Or.inr ⟨e3, hn.1, hE, e2⟩, e2, e3⟩⟩
  -- the nodes of the ways
  have hways : (∀ it, it ∈ cd_pw g n → cp_k g (df_m op n) it) ∧ (∀ m, m ∈ cp_n (cd_pw g n) → gg_R g m ∧ cd_Pa g n m ∧ gg_n g n < gg_n g m ∧ ¬ gg_M g m) ∧ (cp_n (cd_pw g n)).Nodup := by
    unfold cd_pw
    by_cases k0 : g 0 n = 0
    · rw [if_pos k0]
      exact ⟨fun it hit => by (cases hit), fun m hm => by (cases hm), List.nodup_nil⟩
    · rw [if_neg k0]
      have hEx : gg_E g n (g 2 n) := Or.inl ⟨by omega, rfl⟩
      have hx := hpw (g 2 n) hEx _ rfl
      by_cases k1 : g 0 n = 1 ∨ g 2 n = g 3 n
      · rw [if_pos k1]
        refine ⟨fun it hit => ?_, fun m hm => ?_, ?_⟩
        · rw [List.mem_singleton] at hit; rw [hit]; exact hx.1
        · have hm' : m ∈ (if (cd_wy g n (g 2 n)).1 = 0 then (cd_wy g n (g 2 n)).2.1 :: [] else []) := hm
          split at hm'
          · rename_i hz
            have := hx.2 hz
            rw [List.mem_singleton] at hm'
            rw [hm', this.2.1]
            exact ⟨this.1, this.2.2⟩
          · cases hm'
        · show (if (cd_wy g n (g 2 n)).1 = 0 then (cd_wy g n (g 2 n)).2.1 :: [] else []).Nodup
          split
          · exact List.nodup_cons.mpr ⟨List.not_mem_nil, List.nodup_nil⟩
          · exact List.nodup_nil
      · rw [if_neg k1]
        have k1a : ¬ g 0 n = 1 := fun h => k1 (Or.inl h)
        have k1b : ¬ g 2 n = g 3 n := fun h => k1 (Or.inr h)
        have hw := W n
        have hEy : gg_E g n (g 3 n) := Or.inr ⟨by omega, rfl⟩
        have hy := hpw (g 3 n) hEy _ rfl
        have ecp : cp_n [cd_wy g n (g 2 n), (4, 0, n), cd_wy g n (g 3 n), (5, 0, 0)] = (if (cd_wy g n (g 2 n)).1 = 0 then (cd_wy g n (g 2 n)).2.1 :: (if (cd_wy g n (g 3 n)).1 = 0 then [(cd_wy g n (g 3 n)).2.1] else []) else (if (cd_wy g n (g 3 n)).1 = 0 then [(cd_wy g n (g 3 n)).2.1] else [])) := rfl
        rw [ecp]
        refine ⟨fun it hit => ?_, fun m hm => ?_, ?_⟩
        · rcases List.mem_cons.mp hit with hit | hit
          · rw [hit]; exact hx.1
          · rcases List.mem_cons.mp hit with hit | hit
            · rw [hit]; exact Or.inr (Or.inl ⟨rfl, rfl⟩)
            · rcases List.mem_cons.mp hit with hit | hit
              · rw [hit]; exact hy.1
              · rw [List.mem_singleton] at hit
                rw [hit]; exact Or.inr (Or.inr (Or.inl ⟨rfl, rfl⟩))
        · have hym : ∀ m, m ∈ (if (cd_wy g n (g 3 n)).1 = 0 then [(cd_wy g n (g 3 n)).2.1] else []) → gg_R g m ∧ cd_Pa g n m ∧ gg_n g n < gg_n g m ∧ ¬ gg_M g m := by
            intro m hm
            split at hm
            · rename_i hz
              have := hy.2 hz
              rw [List.mem_singleton] at hm
              rw [hm, this.2.1]
              exact ⟨this.1, this.2.2⟩
            · cases hm
          split at hm
          · rename_i hz
            rcases List.mem_cons.mp hm with hm | hm
            · have := hx.2 hz
              rw [hm, this.2.1]
              exact ⟨this.1, this.2.2⟩
            · exact hym m hm
          · exact hym m hm
        · have hyn : (if (cd_wy g n (g 3 n)).1 = 0 then [(cd_wy g n (g 3 n)).2.1] else []).Nodup := by
            split
            · exact List.nodup_cons.mpr ⟨List.not_mem_nil, List.nodup_nil⟩
            · exact List.nodup_nil
          split
          · rename_i hz
            refine List.nodup_cons.mpr ⟨fun hm => ?_, hyn⟩
            split at hm
            · rename_i hz2
              rw [List.mem_singleton, (hx.2 hz).2.1, (hy.2 hz2).2.1] at hm
              exact k1b hm
            · cases hm
          · exact hyn
  have hpb : ∀ m, m ∈ cp_n (cd_pb (cd_ms g n)) → gg_R g m ∧ cd_Pa g n m ∧ gg_n g n < gg_n g m ∧ gg_M g m := by
    intro m hm
    rw [cp_pb, List.mem_reverse] at hm
    have := (cd_in W).mp hm
    exact ⟨this.1, Or.inl ⟨this.2.2, this.2.1⟩, gg_nD W this.1 this.2.1.2.1 this.2.1.1, this.2.2⟩
  have hlp : cp_n (if pd_b (gg_H g n) = true then [(5, 0, 0)] else []) = [] := by split <;> rfl
  have ecp : cp_n (cd_pu g n ++ st) = cp_n (cd_pw g n) ++ (cp_n (cd_pb (cd_ms g n)) ++ cp_n st) := by
    rw [cp_na]
    unfold cd_pu
    rw [cp_na, cp_na, hlp, List.append_nil, List.append_assoc]
  have hmem : ∀ m, m ∈ cp_n (cd_pu g n ++ st) → (gg_R g m ∧ cd_Pa g n m ∧ gg_n g n < gg_n g m) ∨ m ∈ cp_n st := by
    intro m hm
    rw [ecp] at hm
    rcases List.mem_append.mp hm with hm | hm
    · have := hways.2.1 m hm
      exact Or.inl ⟨this.1, this.2.1, this.2.2.1⟩
    · rcases List.mem_append.mp hm with hm | hm
      · have := hpb m hm
        exact Or.inl ⟨this.1, this.2.1, this.2.2.1⟩
      · exact Or.inr hm
  refine ⟨?_, ?_, ?_, ?_, ?_, ?_⟩
  · intro m hm
    by_cases e2 : m = n
    · rw [e2]; exact hn.1
    · rw [df_mn e2] at hm; exact h1 m hm
  · intro m d hm hD
    by_cases e2 : m = n
    · rw [e2] at hD; exact hdom d hD
    · rw [df_mn e2] at hm; exact df_mt (h2 m d hm hD)
  · intro m hm
    rcases hmem m hm with hx | hx
    · exact ⟨hx.1, (hnew m hx.1 hx.2.1 hx.2.2).1⟩
    · have := h3 m (List.mem_cons_of_mem _ hx)
      refine ⟨this.1, ?_⟩
      rw [df_mn (fun e2 => hnd.1 (by rw [← e2]; exact hx))]
      exact this.2
  · rw [ecp, List.nodup_append]
    refine ⟨hways.2.2, ?_, ?_⟩
    · rw [List.nodup_append]
      refine ⟨?_, hnd.2, ?_⟩
      · rw [cp_pb]
        exact (List.reverse_perm _).nodup_iff.mpr (cd_mn W n _ (Nat.le_refl _))
      · intro a ha b hb hab
        have := hpb a ha
        subst hab
        exact (hnew a this.1 this.2.1 this.2.2.1).2 hb
    · intro a ha b hb hab
      have := hways.2.1 a ha
      subst hab
      rcases List.mem_append.mp hb with hb | hb
      · exact this.2.2.2 (hpb a hb).2.2.2
      · exact (hnew a this.1 this.2.1 this.2.2.1).2 hb
  · intro m hm hm0
    have hold : op m = true ∨ m ∈ cp_n st → ∃ p, df_m op n p = true ∧ cd_Pa g p m := by
      intro hx
      obtain ⟨p, hp, hPa⟩ := h5 m (by
        rcases hx with hx | hx
        · exact Or.inl hx
        · exact Or.inr (List.mem_cons_of_mem _ hx)) hm0
      exact ⟨p, df_mt hp, hPa⟩
    rcases hm with hm | hm
    · by_cases e2 : m = n
      · obtain ⟨p, hp, hPa⟩ := h5 n (Or.inr List.mem_cons_self) (by rw [← e2]; exact hm0)
        exact ⟨p, df_mt hp, by rw [e2]; exact hPa⟩
      · rw [df_mn e2] at hm
        exact hold (Or.inl hm)
    · rcases hmem m hm with hx | hx
      · exact ⟨n, df_mm, hx.2.1⟩
      · exact hold (Or.inr hx)
  · intro it hit
    rcases List.mem_append.mp hit with hit | hit
    · unfold cd_pu at hit
      rcases List.mem_append.mp hit with hit | hit
      · exact hways.1 it hit
      · rcases List.mem_append.mp hit with hit | hit
        · obtain ⟨m, hm, hx⟩ := cd_pbi _ hit
          rcases hx with hx | hx
          · rw [hx]; exact Or.inr (Or.inr (Or.inl ⟨rfl, rfl⟩))
          · rw [hx]; exact Or.inl ⟨rfl, rfl⟩
        · split at hit
          · rw [List.mem_singleton] at hit
            rw [hit]; exact Or.inr (Or.inr (Or.inl ⟨rfl, rfl⟩))
          · cases hit
    · have := h6 it (List.mem_cons_of_mem _ hit)
      rcases this with h | h | h | h | h
      · exact Or.inl h
      · exact Or.inr (Or.inl h)
      · exact Or.inr (Or.inr (Or.inl h))
      · exact Or.inr (Or.inr (Or.inr (Or.inl ⟨h.1, df_mt h.2.1, h.2.2⟩)))
      · obtain ⟨ha, hb, c, hc, hd⟩ := h
        exact Or.inr (Or.inr (Or.inr (Or.inr ⟨ha, hb, c, df_mt hc, hd⟩)))
end CA
end
section
section CB
variable {g : Nat → Nat → Nat}
/-! lists by place -/
theorem gw_l : ∀ (a b : List Nat) (p : Nat), p < a.length → (a ++ b).getD p 0 = a.getD p 0
  | [], _, _, h => by cases h
  | x :: a, b, 0, _ => rfl
  | x :: a, b, p + 1, h => gw_l a b p (by rw [List.length_cons] at h; omega)
theorem gw_r : ∀ (a b : List Nat) (i : Nat), (a ++ b).getD (a.length + i) 0 = b.getD i 0
  | [], b, i => by rw [List.nil_append, List.length_nil, Nat.zero_add]
  | x :: a, b, i => by
    rw [List.length_cons, show a.length + 1 + i = (a.length + i) + 1 by omega]
    exact gw_r a b i
theorem gw_0 (a b : List Nat) : (a ++ b).getD a.length 0 = b.getD 0 0 := gw_r a b 0
theorem gw_i {w : Nat} : ∀ l : List Nat, w ∈ l → ∃ i, i < l.length ∧ l.getD i 0 = w
  | [], h => by cases h
  | x :: l, h => by
    rcases List.mem_cons.mp h with h | h
    · exact ⟨0, by rw [List.length_cons]; omega, h.symm⟩
    · obtain ⟨i, h1, h2⟩ := gw_i l h
      exact ⟨i + 1, by rw [List.length_cons]; omega, h2⟩
theorem gw_m : ∀ (l : List Nat) (i : Nat), i < l.length → l.getD i 0 ∈ l := ps_mem
/-! aim's first pass: open places (the last first), targets, where loops begin -/
def am_1 (k w : Nat) (σ : List Nat × (Nat → Nat) × (Nat → Nat)) : List Nat × (Nat → Nat) × (Nat → Nat) :=
  if w / 16 = 1 then (k :: σ.1, or_p σ.2.1 k (k + 1), or_p σ.2.2 (w % 16) k)
  else if w / 16 = 2 ∨ w / 16 = 3 then (k :: σ.1, or_p σ.2.1 k (k + 1), σ.2.2)
  else if w / 16 = 4 then (k :: σ.1.tail, or_p (or_p σ.2.1 k (k + 1)) (σ.1.headD 0) (k + 1), σ.2.2)
  else if w / 16 = 5 then (σ.1.tail, or_p (or_p σ.2.1 k (k + 1)) (σ.1.headD 0) (k + 1), σ.2.2)
  else if w / 16 = 6 then (σ.1, or_p σ.2.1 k (σ.2.2 (w % 16)), σ.2.2)
  else (σ.1, or_p σ.2.1 k (k + 1), σ.2.2)
def am_L : List Nat → Nat → List Nat × (Nat → Nat) × (Nat → Nat) → List Nat × (Nat → Nat) × (Nat → Nat)
  | [], _, σ => σ
  | w :: ws, k, σ => am_L ws (k + 1) (am_1 k w σ)
def am_W (ws : List Nat) : List Nat × (Nat → Nat) × (Nat → Nat) := am_L ws 0 ([], fun _ => 0, fun _ => 0)
theorem am_La : ∀ (a b : List Nat) (k : Nat) (σ : List Nat × (Nat → Nat) × (Nat → Nat)), am_L (a ++ b) k σ = am_L b (k + a.length) (am_L a k σ)
  | [], b, k, σ => rfl
  | w :: a, b, k, σ => by
    show am_L (a ++ b) (k + 1) (am_1 k w σ) = am_L b (k + (a.length + 1)) (am_L a (k + 1) (am_1 k w σ))
    rw [am_La a b, show k + 1 + a.length = k + (a.length + 1) by omega]
theorem am_Wa (a b : List Nat) : am_W (a ++ b) = am_L b a.length (am_W a) := by
  unfold am_W
  rw [am_La, Nat.zero_add]
theorem am_W1 (a : List Nat) (w : Nat) : am_W (a ++ [w]) = am_1 a.length w (am_W a) := am_Wa a [w]
def am_o : List Nat → Nat → List Nat
  | [], _ => []
  | w :: ws, k => am_o ws (k + 1) ++ (if 1 ≤ w / 16 ∧ w / 16 ≤ 3 then [k] else [])
theorem am_oa : ∀ (a b : List Nat) (k : Nat), am_o (a ++ b) k = am_o b (k + a.length) ++ am_o a k
  | [], b, k => (List.append_nil _).symm
  | w :: a, b, k => by
    show am_o (a ++ b) (k + 1) ++ _ = am_o b (k + (a.length + 1)) ++ (am_o a (k + 1) ++ _)
    rw [am_oa a b, List.append_assoc, show k + 1 + a.length = k + (a.length + 1) by omega]
/-- words of the kinds 0 to 3 and 8 -/
theorem am_Lw : ∀ (us : List Nat) (k : Nat) (σ : List Nat × (Nat → Nat) × (Nat → Nat)), (∀ w, w ∈ us → w / 16 ≤ 3 ∨ w / 16 = 8) →
    (am_L us k σ).1 = am_o us k ++ σ.1 ∧ (∀ p, p < k → (am_L us k σ).2.1 p = σ.2.1 p) ∧ (∀ m, (∀ w, w ∈ us → w ≠ 16 + m) → m < 16 → (am_L us k σ).2.2 m = σ.2.2 m)
  | [], k, σ, _ => ⟨rfl, fun _ _ => rfl, fun _ _ _ => rfl⟩
  | w :: us, k, σ, h => by
    have hw := h w List.mem_cons_self
    have h1 : (am_1 k w σ).1 = (if 1 ≤ w / 16 ∧ w / 16 ≤ 3 then [k] else []) ++ σ.1 ∧ (∀ p, p < k → (am_1 k w σ).2.1 p = σ.2.1 p) ∧ (∀ m, w ≠ 16 + m → m < 16 → (am_1 k w σ).2.2 m = σ.2.2 m) := by
      unfold am_1
      by_cases k1 : w / 16 = 1
      · rw [if_pos k1, if_pos (by omega)]
        exact ⟨rfl, fun p hp => or_pn (by omega), fun m hm hm16 => or_pn (by omega)⟩
      · rw [if_neg k1]
        by_cases k2 : w / 16 = 2 ∨ w / 16 = 3
        · rw [if_pos k2, if_pos (by omega)]
          exact ⟨rfl, fun p hp => or_pn (by omega), fun m _ _ => rfl⟩
        · rw [if_neg k2, if_neg (by omega), if_neg (by omega), if_neg (by omega), if_neg (by omega)]
          exact ⟨rfl, fun p hp => or_pn (by omega), fun m _ _ => rfl⟩
    have ih := am_Lw us (k + 1) (am_1 k w σ) (fun w' hw' => h w' (List.mem_cons_of_mem _ hw'))
    refine ⟨?_, ?_, ?_⟩
    · show (am_L us (k + 1) (am_1 k w σ)).1 = am_o us (k + 1) ++ _ ++ σ.1
      rw [ih.1, h1.1, List.append_assoc]
    · intro p hp
      exact (ih.2.1 p (by omega)).trans (h1.2.1 p hp)
    · intro m hm hm16
      exact (ih.2.2 m (fun w' hw' => hm w' (List.mem_cons_of_mem _ hw')) hm16).trans (h1.2.2 m (hm w List.mem_cons_self) hm16)
/-! the words of an opened node -/
def cd_if (g : Nat → Nat → Nat) (n : Nat) : Prop := g 0 n = 2 ∧ g 2 n ≠ g 3 n
def cd_bp : List Nat → Nat → List Nat
  | [], _ => []
  | _ :: ms, q => cd_bp ms (q + 1) ++ [q]
theorem am_ob : ∀ (ms : List Nat) (q : Nat), (∀ m, m ∈ ms → m < 16) → am_o (ms.map (fun m => 32 + m)) q = cd_bp ms q
  | [], _, _ => rfl
  | m :: ms, q, h => by
    show am_o (ms.map (fun m => 32 + m)) (q + 1) ++ (if 1 ≤ (32 + m) / 16 ∧ (32 + m) / 16 ≤ 3 then [q] else []) = cd_bp ms (q + 1) ++ [q]
    have := h m List.mem_cons_self
    rw [am_ob ms (q + 1) (fun m' hm' => h m' (List.mem_cons_of_mem _ hm')), if_pos (by omega)]
noncomputable def cd_h (g : Nat → Nat → Nat) (n : Nat) : Nat := if pd_b (gg_H g n) = true then 1 else 0
noncomputable def cd_os (g : Nat → Nat → Nat) (n k : Nat) : List Nat :=
  (if g 0 n = 2 ∧ g 2 n ≠ g 3 n then [k + cd_h g n + (cd_ms g n).length + 1] else []) ++ (cd_bp (cd_ms g n) (k + cd_h g n) ++ (if pd_b (gg_H g n) = true then [k] else []))
theorem cd_hl (g : Nat → Nat → Nat) (n : Nat) : (if pd_b (gg_H g n) = true then [16 + n] else []).length = cd_h g n := by
  unfold cd_h
  split <;> rfl
theorem am_ow (W : gg_W g) {n : Nat} (hn : n < 16) (k : Nat) : am_o (cd_wo g n) k = cd_os g n k := by
  have hw := W n
  have h16 : ∀ m, m ∈ cd_ms g n → m < 16 := fun m hm => gg_R16 W ((cd_in W).mp hm).1
  unfold cd_wo cd_os
  rw [am_oa, am_oa, am_ob _ _ h16, cd_hl, List.length_map]
  have e1 : am_o (if pd_b (gg_H g n) = true then [16 + n] else []) k = (if pd_b (gg_H g n) = true then [k] else []) := by
    split
    · show [] ++ (if 1 ≤ (16 + n) / 16 ∧ (16 + n) / 16 ≤ 3 then [k] else []) = [k]
      rw [if_pos (by omega)]; rfl
    · rfl
  have e2 : ∀ q, am_o (n :: (if g 0 n = 0 then [128] else if g 0 n = 1 ∨ g 2 n = g 3 n then [] else [48 + g 1 n])) q = (if g 0 n = 2 ∧ g 2 n ≠ g 3 n then [q + 1] else []) := by
    intro q
    show am_o (if g 0 n = 0 then [128] else if g 0 n = 1 ∨ g 2 n = g 3 n then [] else [48 + g 1 n]) (q + 1) ++ (if 1 ≤ n / 16 ∧ n / 16 ≤ 3 then [q] else []) = _
    rw [if_neg (show ¬ (1 ≤ n / 16 ∧ n / 16 ≤ 3) by omega), List.append_nil]
    by_cases k0 : g 0 n = 0
    · rw [if_pos k0, if_neg (by omega)]; rfl
    · rw [if_neg k0]
      by_cases k1 : g 0 n = 1 ∨ g 2 n = g 3 n
      · rw [if_pos k1, if_neg (by omega)]; rfl
      · rw [if_neg k1, if_pos (by omega)]
        show [] ++ (if 1 ≤ (48 + g 1 n) / 16 ∧ (48 + g 1 n) / 16 ≤ 3 then [q + 1] else []) = _
        rw [if_pos (by omega)]; rfl
  rw [e1, e2]
  rw [List.append_assoc]
theorem cd_wk (W : gg_W g) {n : Nat} (hn : n < 16) : ∀ w, w ∈ cd_wo g n → (w = 16 + n ∧ gg_H g n) ∨ (∃ m, m ∈ cd_ms g n ∧ w = 32 + m) ∨ w = n ∨ w = 128 ∨ (w = 48 + g 1 n ∧ cd_if g n) := by
  intro w hw
  have hW := W n
  unfold cd_wo at hw
  rcases List.mem_append.mp hw with hw | hw
  · split at hw
    · rename_i h
      rw [List.mem_singleton] at hw
      exact Or.inl ⟨hw, (pd_i _).mp h⟩
    · cases hw
  · rcases List.mem_append.mp hw with hw | hw
    · obtain ⟨m, h1, h2⟩ := List.mem_map.mp hw
      exact Or.inr (Or.inl ⟨m, h1, h2.symm⟩)
    · rcases List.mem_cons.mp hw with hw | hw
      · exact Or.inr (Or.inr (Or.inl hw))
      · split at hw
        · rw [List.mem_singleton] at hw
          exact Or.inr (Or.inr (Or.inr (Or.inl hw)))
        · split at hw
          · cases hw
          · rename_i h1 h2
            rw [List.mem_singleton] at hw
            exact Or.inr (Or.inr (Or.inr (Or.inr ⟨hw, by omega, fun h => h2 (Or.inr h)⟩)))
/-- a place within the words of a node: the parts -/
theorem cd_wg (W : gg_W g) (n : Nat) : (∀ i, i < (cd_ms g n).length → (cd_wo g n).getD (cd_h g n + i) 0 = 32 + (cd_ms g n).getD i 0) ∧ (cd_wo g n).getD (cd_h g n + (cd_ms g n).length) 0 = n ∧
    (gg_H g n → (cd_wo g n).getD 0 0 = 16 + n) ∧ (cd_if g n → (cd_wo g n).length = cd_h g n + (cd_ms g n).length + 2 ∧ (cd_wo g n).getD (cd_h g n + (cd_ms g n).length + 1) 0 = 48 + g 1 n) ∧
    (g 0 n = 0 → (cd_wo g n).length = cd_h g n + (cd_ms g n).length + 2) ∧ (g 0 n ≠ 0 → ¬ cd_if g n → (cd_wo g n).length = cd_h g n + (cd_ms g n).length + 1) ∧ cd_h g n + (cd_ms g n).length + 1 ≤ (cd_wo g n).length := by
  have hW := W n
  have hmap : ∀ (ms : List Nat) (i : Nat), i < ms.length → (ms.map (fun m => 32 + m)).getD i 0 = 32 + ms.getD i 0 := by
    intro ms
    induction ms with
    | nil => intro i h; cases h
    | cons m ms ih =>
      intro i h
      cases i with
      | zero => rfl
      | succ i => exact ih i (by rw [List.length_cons] at h; omega)
  have hl : (cd_wo g n).length = cd_h g n + ((cd_ms g n).length + (1 + (if g 0 n = 0 then [128] else if g 0 n = 1 ∨ g 2 n = g 3 n then [] else [48 + g 1 n]).length)) := by
    unfold cd_wo
    rw [List.length_append, List.length_append, List.length_map, List.length_cons, cd_hl]
    omega
  have hr : ∀ j, (cd_wo g n).getD (cd_h g n + j) 0 = ((cd_ms g n).map (fun m => 32 + m) ++ (n :: (if g 0 n = 0 then [128] else if g 0 n = 1 ∨ g 2 n = g 3 n then [] else [48 + g 1 n]))).getD j 0 := by
    intro j
    unfold cd_wo
    rw [← cd_hl]
    exact gw_r _ _ j
  have hr2 : ∀ j, (cd_wo g n).getD (cd_h g n + (cd_ms g n).length + j) 0 = (n :: (if g 0 n = 0 then [128] else if g 0 n = 1 ∨ g 2 n = g 3 n then [] else [48 + g 1 n])).getD j 0 := by
    intro j
    rw [Nat.add_assoc, hr]
    have := gw_r ((cd_ms g n).map (fun m => 32 + m)) (n :: (if g 0 n = 0 then [128] else if g 0 n = 1 ∨ g 2 n = g 3 n then [] else [48 + g 1 n])) j
    rw [List.length_map] at this
    exact this
  refine ⟨?_, ?_, ?_, ?_, ?_, ?_, by omega⟩
  · intro i hi
    rw [hr, gw_l _ _ _ (by rw [List.length_map]; exact hi), hmap _ _ hi]
  · exact hr2 0
  · intro h
    unfold cd_wo
    rw [if_pos (pd_t h)]; rfl
  · intro h
    unfold cd_if at h
    have hif : (if g 0 n = 0 then [128] else if g 0 n = 1 ∨ g 2 n = g 3 n then [] else [48 + g 1 n]) = [48 + g 1 n] := by
      rw [if_neg (by omega), if_neg (by omega)]
    refine ⟨?_, ?_⟩
    · rw [hl, hif, List.length_singleton]; omega
    · rw [hr2 1, hif]; rfl
  · intro h
    rw [hl, if_pos h, List.length_singleton]; omega
  · intro h1 h2
    have hif : (if g 0 n = 0 then [128] else if g 0 n = 1 ∨ g 2 n = g 3 n then [] else [48 + g 1 n]) = [] := by
      rw [if_neg h1, if_pos]
      apply Classical.byContradiction
      intro h3
      apply h2
      refine ⟨?_, fun h => h3 (Or.inr h)⟩
      have : ¬ g 0 n = 1 := fun h => h3 (Or.inl h)
      omega
    rw [hl, hif, List.length_nil]; omega
theorem cd_bpi : ∀ (ms : List Nat) (q p : Nat), p ∈ cd_bp ms q ↔ q ≤ p ∧ p < q + ms.length
  | [], q, p => by
    constructor
    · intro h; cases h
    · intro h; rw [List.length_nil] at h; omega
  | m :: ms, q, p => by
    show p ∈ cd_bp ms (q + 1) ++ [q] ↔ _
    rw [List.mem_append, cd_bpi ms, List.mem_singleton, List.length_cons]
    omega
theorem cd_oi (g : Nat → Nat → Nat) (n k p : Nat) : p ∈ cd_os g n k ↔ (cd_if g n ∧ p = k + cd_h g n + (cd_ms g n).length + 1) ∨ (k + cd_h g n ≤ p ∧ p < k + cd_h g n + (cd_ms g n).length) ∨ (gg_H g n ∧ p = k) := by
  unfold cd_os
  rw [List.mem_append, List.mem_append, cd_bpi]
  have e1 : p ∈ (if g 0 n = 2 ∧ g 2 n ≠ g 3 n then [k + cd_h g n + (cd_ms g n).length + 1] else []) ↔ (cd_if g n ∧ p = k + cd_h g n + (cd_ms g n).length + 1) := by
    unfold cd_if
    split
    · rename_i h
      rw [List.mem_singleton]
      exact ⟨fun h2 => ⟨h, h2⟩, fun h2 => h2.2⟩
    · rename_i h
      constructor
      · intro h2; cases h2
      · intro h2; exact absurd h2.1 h
  have e2 : p ∈ (if pd_b (gg_H g n) = true then [k] else []) ↔ (gg_H g n ∧ p = k) := by
    split
    · rename_i h
      rw [List.mem_singleton]
      exact ⟨fun h2 => ⟨(pd_i _).mp h, h2⟩, fun h2 => h2.2⟩
    · rename_i h
      constructor
      · intro h2; cases h2
      · intro h2; exact absurd (pd_t h2.1) h
  rw [e1, e2]
theorem cd_ol (g : Nat → Nat → Nat) (n k : Nat) : (cd_os g n k).length = (if g 0 n = 2 ∧ g 2 n ≠ g 3 n then 1 else 0) + ((cd_ms g n).length + cd_h g n) := by
  have hb : ∀ (ms : List Nat) (q : Nat), (cd_bp ms q).length = ms.length := by
    intro ms
    induction ms with
    | nil => intro q; rfl
    | cons m ms ih =>
      intro q
      show (cd_bp ms (q + 1) ++ [q]).length = _
      rw [List.length_append, ih, List.length_singleton, List.length_cons]
  unfold cd_os cd_h
  rw [List.length_append, List.length_append, hb]
  congr 1
  · split <;> rfl
  · congr 1
    split <;> rfl
/-! open places stand in falling order -/
def cd_ds : List Nat → Nat → Prop
  | [], _ => True
  | p :: os, b => p < b ∧ cd_ds os p
theorem cd_dm : ∀ (os : List Nat) (b b' : Nat), b ≤ b' → cd_ds os b → cd_ds os b'
  | [], _, _, _, _ => trivial
  | _ :: _, _, _, h, hd => ⟨by have := hd.1; omega, hd.2⟩
theorem cd_dl : ∀ (os : List Nat) (b p : Nat), cd_ds os b → p ∈ os → p < b
  | [], _, _, _, h => by cases h
  | q :: os, b, p, hd, h => by
    rcases List.mem_cons.mp h with h | h
    · rw [h]; exact hd.1
    · have := cd_dl os q p hd.2 h
      have := hd.1
      omega
theorem cd_db : ∀ (ms : List Nat) (q b : Nat) (os : List Nat), cd_ds os q → q + ms.length ≤ b → cd_ds (cd_bp ms q ++ os) b
  | [], q, b, os, hd, hb => cd_dm os q b (by rw [List.length_nil] at hb; omega) hd
  | m :: ms, q, b, os, hd, hb => by
    show cd_ds ((cd_bp ms (q + 1) ++ [q]) ++ os) b
    rw [List.append_assoc]
    refine cd_db ms (q + 1) b ([q] ++ os) ⟨by omega, hd⟩ (by rw [List.length_cons] at hb; omega)
theorem cd_do (W : gg_W g) (n k : Nat) (os : List Nat) (hd : cd_ds os k) : cd_ds (cd_os g n k ++ os) (k + (cd_wo g n).length) := by
  have hg := cd_wg W n
  unfold cd_os
  rw [List.append_assoc, List.append_assoc]
  have h1 : cd_ds ((if pd_b (gg_H g n) = true then [k] else []) ++ os) (k + cd_h g n) := by
    unfold cd_h
    split
    · exact ⟨by omega, hd⟩
    · exact hd
  have h2 := cd_db (cd_ms g n) (k + cd_h g n) (k + cd_h g n + (cd_ms g n).length) _ h1 (Nat.le_refl _)
  split
  · rename_i h
    have := (hg.2.2.2.1 h).1
    exact ⟨by omega, cd_dm _ _ _ (by omega) h2⟩
  · have := hg.2.2.2.2.2.2
    exact cd_dm _ _ _ (by omega) h2
end CB
end
section
section CC
variable {g : Nat → Nat → Nat}
/-! what waits fits what is open -/
def sc_S (g : Nat → Nat → Nat) : List (Nat × Nat × Nat) → List (Nat × Nat) → Prop
  | [], ts => ts = []
  | it :: st, ts =>
    if it.1 = 5 then ∃ t ts', ts = t :: ts' ∧ (it.2.2 = 0 → t.1 = 1 ∨ t.1 = 4) ∧ (it.2.2 ≠ 0 → t = (2, it.2.2 - 1) ∧ ∃ st', st = (0, it.2.2 - 1, 0) :: st') ∧ sc_S g st ts'
    else if it.1 = 4 then ∃ ts', ts = (3, it.2.2) :: ts' ∧ (∃ st', st = cd_wy g it.2.2 (g 3 it.2.2) :: st') ∧ sc_S g st ((4, it.2.2) :: ts')
    else sc_S g st ts
theorem sc_o {it : Nat × Nat × Nat} {st : List (Nat × Nat × Nat)} {ts : List (Nat × Nat)} (h5 : it.1 ≠ 5) (h4 : it.1 ≠ 4) : sc_S g (it :: st) ts ↔ sc_S g st ts := by
  show (if it.1 = 5 then _ else if it.1 = 4 then _ else _) ↔ _
  rw [if_neg h5, if_neg h4]
theorem sc_5 {n i : Nat} {st : List (Nat × Nat × Nat)} {ts : List (Nat × Nat)} : sc_S g ((5, n, i) :: st) ts ↔ ∃ t ts', ts = t :: ts' ∧ (i = 0 → t.1 = 1 ∨ t.1 = 4) ∧ (i ≠ 0 → t = (2, i - 1) ∧ ∃ st', st = (0, i - 1, 0) :: st') ∧ sc_S g st ts' := Iff.rfl
theorem sc_4 {n i : Nat} {st : List (Nat × Nat × Nat)} {ts : List (Nat × Nat)} : sc_S g ((4, n, i) :: st) ts ↔ ∃ ts', ts = (3, i) :: ts' ∧ (∃ st', st = cd_wy g i (g 3 i) :: st') ∧ sc_S g st ((4, i) :: ts') := Iff.rfl
theorem cd_wy5 (g : Nat → Nat → Nat) (n s : Nat) : (cd_wy g n s).1 ≠ 5 ∧ (cd_wy g n s).1 ≠ 4 ∧ (cd_wy g n s).2.1 = s := by
  rcases cd_wyc g n s with ⟨e, _⟩ | ⟨e, _⟩ | ⟨e, _⟩ <;> rw [e] <;> exact ⟨by show (_ : Nat) ≠ 5; omega, by show (_ : Nat) ≠ 4; omega, rfl⟩
noncomputable def cd_ts (g : Nat → Nat → Nat) (n : Nat) : List (Nat × Nat) :=
  (if g 0 n = 2 ∧ g 2 n ≠ g 3 n then [(3, n)] else []) ++ ((cd_ms g n).reverse.map (fun m => (2, m)) ++ (if pd_b (gg_H g n) = true then [(1, n)] else []))
theorem sc_b : ∀ (ms : List Nat) (st : List (Nat × Nat × Nat)) (ts : List (Nat × Nat)), sc_S g st ts → sc_S g (cd_pb ms ++ st) (ms.reverse.map (fun m => (2, m)) ++ ts)
  | [], _, _, h => h
  | m :: ms, st, ts, h => by
    show sc_S g ((cd_pb ms ++ [(5, 0, m + 1), (0, m, 0)]) ++ st) _
    rw [List.append_assoc, List.reverse_cons, List.map_append, List.append_assoc]
    refine sc_b ms _ _ ?_
    refine sc_5.mpr ⟨(2, m), ts, rfl, fun hx => by omega, fun _ => ⟨by rw [Nat.add_sub_cancel], st, by rw [Nat.add_sub_cancel]; rfl⟩, ?_⟩
    exact (sc_o (by show (0 : Nat) ≠ 5; omega) (by show (0 : Nat) ≠ 4; omega)).mpr h
theorem sc_n (W : gg_W g) {n : Nat} {st : List (Nat × Nat × Nat)} {ts : List (Nat × Nat)} (h : sc_S g st ts) : sc_S g (cd_pu g n ++ st) (cd_ts g n ++ ts) := by
  have hw := W n
  unfold cd_pu cd_ts
  rw [List.append_assoc, List.append_assoc, List.append_assoc, List.append_assoc]
  have h1 : sc_S g ((if pd_b (gg_H g n) = true then [(5, 0, 0)] else []) ++ st) ((if pd_b (gg_H g n) = true then [(1, n)] else []) ++ ts) := by
    split
    · exact sc_5.mpr ⟨(1, n), ts, rfl, fun _ => Or.inl rfl, fun hx => absurd rfl hx, h⟩
    · exact h
  have h2 := sc_b (cd_ms g n) _ _ h1
  unfold cd_pw
  by_cases k0 : g 0 n = 0
  · rw [if_pos k0, if_neg (show ¬ (g 0 n = 2 ∧ g 2 n ≠ g 3 n) by omega)]
    exact h2
  · rw [if_neg k0]
    have hx := cd_wy5 g n (g 2 n)
    have hy := cd_wy5 g n (g 3 n)
    by_cases k1 : g 0 n = 1 ∨ g 2 n = g 3 n
    · rw [if_pos k1, if_neg (show ¬ (g 0 n = 2 ∧ g 2 n ≠ g 3 n) by omega)]
      exact (sc_o hx.1 hx.2.1).mpr h2
    · rw [if_neg k1, if_pos (show g 0 n = 2 ∧ g 2 n ≠ g 3 n by omega)]
      refine (sc_o hx.1 hx.2.1).mpr (sc_4.mpr ⟨_, rfl, ⟨_, rfl⟩, ?_⟩)
      exact (sc_o hy.1 hy.2.1).mpr (sc_5.mpr ⟨(4, n), _, rfl, fun _ => Or.inr rfl, fun hx => absurd rfl hx, h2⟩)
noncomputable def ca_p (g : Nat → Nat → Nat) (sp : Nat → Nat) (n : Nat) : Nat := sp n + (cd_h g n + (cd_ms g n).length + 1)
def ca_t (g : Nat → Nat → Nat) (ws : List Nat) (op : Nat → Bool) (sp : Nat → Nat) (p : Nat) (t : Nat × Nat) : Prop :=
  (t.1 = 1 ∧ ws.getD p 0 / 16 = 1) ∨ (t.1 = 2 ∧ t.2 < 16 ∧ ws.getD p 0 = 32 + t.2) ∨ (t.1 = 3 ∧ op t.2 = true ∧ p = ca_p g sp t.2 ∧ cd_if g t.2) ∨ (t.1 = 4 ∧ ws.getD p 0 / 16 = 4)
def ca_T (g : Nat → Nat → Nat) (ws : List Nat) (op : Nat → Bool) (sp : Nat → Nat) : List Nat → List (Nat × Nat) → Prop
  | [], ts => ts = []
  | p :: os, ts => ∃ t ts', ts = t :: ts' ∧ ca_t g ws op sp p t ∧ ca_T g ws op sp os ts'
def ca_i (ws : List Nat) (op : Nat → Bool) (sp : Nat → Nat) (os : List Nat) (tg : Nat → Nat) (it : Nat × Nat × Nat) (q : Nat) : Prop :=
  (it.1 = 0 ∧ op it.2.1 = true ∧ sp it.2.1 = q) ∨ (it.1 = 6 ∧ q < ws.length ∧ q ∉ os ∧ ws.getD q 0 = 96 + it.2.1 ∧ op it.2.1 = true ∧ tg q = sp it.2.1) ∨
  (it.1 = 7 ∧ q < ws.length ∧ ws.getD q 0 = 112 + it.2.1 ∧ ∃ p, p < q ∧ ws.getD p 0 = 32 + it.2.1)
noncomputable def cd_on (g : Nat → Nat → Nat) (n : Nat) : Nat := (if g 0 n = 2 ∧ g 2 n ≠ g 3 n then 1 else 0) + ((cd_ms g n).length + cd_h g n)
def ca_A (g : Nat → Nat → Nat) (st : List (Nat × Nat × Nat)) (ws : List Nat) (op : Nat → Bool) (sp : Nat → Nat) (ts : List (Nat × Nat)) : Prop :=
  sc_S g st ts ∧ ca_T g ws op sp (am_W ws).1 ts ∧ cd_ds (am_W ws).1 ws.length ∧
  (∀ n, op n = true → sp n + (cd_wo g n).length ≤ ws.length ∧ ∀ i, i < (cd_wo g n).length → ws.getD (sp n + i) 0 = (cd_wo g n).getD i 0) ∧
  (∀ n, op n = true → gg_H g n → (am_W ws).2.2 n = sp n) ∧
  (∀ p m, p < ws.length → m < 16 → ws.getD p 0 = 32 + m → p ∈ (am_W ws).1 ∨ (p ∉ (am_W ws).1 ∧ (((am_W ws).2.1 p = ws.length ∧ ∃ st', st = (0, m, 0) :: st') ∨ (op m = true ∧ (am_W ws).2.1 p = sp m)))) ∧
  (∀ n, op n = true → g 0 n ≠ 0 → (sp n + (cd_wo g n).length = ws.length ∧ ∃ st', st = cd_wy g n (g 2 n) :: st') ∨ ca_i ws op sp (am_W ws).1 (am_W ws).2.1 (cd_wy g n (g 2 n)) (sp n + (cd_wo g n).length)) ∧
  (∀ n, op n = true → cd_if g n → ca_p g sp n ∈ (am_W ws).1 ∨ (ca_p g sp n ∉ (am_W ws).1 ∧ (((am_W ws).2.1 (ca_p g sp n) = ws.length ∧ ∃ st', st = cd_wy g n (g 3 n) :: st') ∨ ca_i ws op sp (am_W ws).1 (am_W ws).2.1 (cd_wy g n (g 3 n)) ((am_W ws).2.1 (ca_p g sp n))))) ∧
  ((op 0 = true ∧ sp 0 = 0) ∨ (ws = [] ∧ st = [(0, 0, 0)])) ∧ (am_W ws).1.length + ct_s (fun n => if op n = true then 0 else cd_on g n) 16 ≤ 48
/-- what stands stays -/
theorem ca_is {ws us : List Nat} {op op' : Nat → Bool} {sp sp' : Nat → Nat} {os os' : List Nat} {tg tg' : Nat → Nat} {it : Nat × Nat × Nat} {q : Nat} (h : ca_i ws op sp os tg it q)
    (hop : ∀ n, op n = true → op' n = true ∧ sp' n = sp n) (hp : ∀ p, p < ws.length → p ∉ os → p ∉ os' ∧ tg' p = tg p) : ca_i (ws ++ us) op' sp' os' tg' it q := by
  rcases h with h | h | h
  · have := hop _ h.2.1
    exact Or.inl ⟨h.1, this.1, this.2.trans h.2.2⟩
  · obtain ⟨a, b, c, d, e, f⟩ := h
    have h1 := hop _ e
    have h2 := hp q b c
    refine Or.inr (Or.inl ⟨a, by rw [List.length_append]; omega, h2.1, by rw [gw_l _ _ _ b]; exact d, h1.1, ?_⟩)
    rw [h2.2, f, h1.2]
  · obtain ⟨a, b, c, p, d, e⟩ := h
    exact Or.inr (Or.inr ⟨a, by rw [List.length_append]; omega, by rw [gw_l _ _ _ b]; exact c, p, d, by rw [gw_l _ _ _ (by omega)]; exact e⟩)
theorem ca_ts {ws us : List Nat} {op op' : Nat → Bool} {sp sp' : Nat → Nat} (hop : ∀ n, op n = true → op' n = true ∧ sp' n = sp n) {p : Nat} {t : Nat × Nat} (hp : p < ws.length) (h : ca_t g ws op sp p t) : ca_t g (ws ++ us) op' sp' p t := by
  unfold ca_t at *
  rw [gw_l _ _ _ hp]
  rcases h with h | h | h | h
  · exact Or.inl h
  · exact Or.inr (Or.inl h)
  · have := hop _ h.2.1
    refine Or.inr (Or.inr (Or.inl ⟨h.1, this.1, ?_, h.2.2.2⟩))
    unfold ca_p
    rw [this.2]
    exact h.2.2.1
  · exact Or.inr (Or.inr (Or.inr h))
theorem ca_Ts {ws us : List Nat} {op op' : Nat → Bool} {sp sp' : Nat → Nat} (hop : ∀ n, op n = true → op' n = true ∧ sp' n = sp n) : ∀ (os : List Nat) (ts : List (Nat × Nat)), (∀ p, p ∈ os → p < ws.length) → ca_T g ws op sp os ts → ca_T g (ws ++ us) op' sp' os ts
  | [], _, _, h => h
  | p :: os, ts, hp, h => by
    obtain ⟨t, ts', e, h1, h2⟩ := h
    exact ⟨t, ts', e, ca_ts hop (hp p List.mem_cons_self) h1, ca_Ts hop os ts' (fun q hq => hp q (List.mem_cons_of_mem _ hq)) h2⟩
theorem ca_Ta {ws : List Nat} {op : Nat → Bool} {sp : Nat → Nat} : ∀ (os os2 : List Nat) (ts ts2 : List (Nat × Nat)), ca_T g ws op sp os ts → ca_T g ws op sp os2 ts2 → ca_T g ws op sp (os ++ os2) (ts ++ ts2)
  | [], os2, ts, ts2, h1, h2 => by
    have : ts = [] := h1
    rw [this]; exact h2
  | p :: os, os2, ts, ts2, h1, h2 => by
    obtain ⟨t, ts', e, h3, h4⟩ := h1
    rw [e]
    exact ⟨t, ts' ++ ts2, rfl, h3, ca_Ta os os2 ts' ts2 h4 h2⟩
theorem ca_if (W : gg_W g) {st : List (Nat × Nat × Nat)} {ws : List Nat} {op : Nat → Bool} {sp : Nat → Nat} {ts : List (Nat × Nat)} (A : ca_A g st ws op sp ts) {n : Nat} (hn : op n = true) (hif : cd_if g n) :
    ca_p g sp n < ws.length ∧ ws.getD (ca_p g sp n) 0 = 48 + g 1 n ∧ ws.getD (ca_p g sp n - 1) 0 = n := by
  have h := A.2.2.2.1 n hn
  have hg := cd_wg W n
  have hl := hg.2.2.2.1 hif
  unfold ca_p
  refine ⟨by omega, ?_, ?_⟩
  · rw [h.2 _ (by omega)]; exact hl.2
  · rw [show sp n + (cd_h g n + (cd_ms g n).length + 1) - 1 = sp n + (cd_h g n + (cd_ms g n).length) by omega, h.2 _ (by omega)]
    exact hg.2.1
/-- ELSE -/
theorem ca_4 (W : gg_W g) {i : Nat} {st : List (Nat × Nat × Nat)} {ws : List Nat} {op : Nat → Bool} {sp : Nat → Nat} {ts : List (Nat × Nat)} (A : ca_A g ((4, 0, i) :: st) ws op sp ts) : ∃ ts', ca_A g st (ws ++ [64]) op sp ts' := by
  have A0 := A
  obtain ⟨a1, a2, a3, a4, a5, a6, a7, a8, a9, a10⟩ := A
  obtain ⟨ts', e1, ⟨st', e2⟩, h1⟩ := sc_4.mp a1
  subst e1
  cases hos : (am_W ws).1 with
  | nil => rw [hos] at a2; cases a2
  | cons p os =>
    rw [hos] at a2 a3
    obtain ⟨t, ts2, e3, ht, hT⟩ := a2
    injection e3 with e4 e5
    subst e4 e5
    have hp : op i = true ∧ p = ca_p g sp i ∧ cd_if g i := by
      rcases ht with h | h | h | h
      · exact absurd h.1 (by show ¬ (3 : Nat) = 1; omega)
      · exact absurd h.1 (by show ¬ (3 : Nat) = 2; omega)
      · exact h.2
      · exact absurd h.1 (by show ¬ (3 : Nat) = 4; omega)
    have hif := ca_if W A0 hp.1 hp.2.2
    have hw := W i
    have e : am_W (ws ++ [64]) = (ws.length :: os, or_p (or_p (am_W ws).2.1 ws.length (ws.length + 1)) p (ws.length + 1), (am_W ws).2.2) := by
      rw [am_W1]
      unfold am_1
      rw [if_neg (by decide), if_neg (by decide), if_pos (by decide), hos]
      rfl
    have hlt : ∀ q, q ∈ os → q < p := fun q hq => cd_dl os p q a3.2 hq
    have hst : ∀ q, q < ws.length → q ∉ p :: os → q ∉ ws.length :: os ∧ or_p (or_p (am_W ws).2.1 ws.length (ws.length + 1)) p (ws.length + 1) q = (am_W ws).2.1 q := by
      intro q hq hn
      refine ⟨fun h => ?_, ?_⟩
      · rcases List.mem_cons.mp h with h | h
        · omega
        · exact hn (List.mem_cons_of_mem _ h)
      · rw [or_pn (fun e => hn (by rw [e]; exact List.mem_cons_self)), or_pn (by omega)]
    have hop : ∀ n, op n = true → op n = true ∧ sp n = sp n := fun n h => ⟨h, rfl⟩
    have hl1 : (ws ++ [64]).length = ws.length + 1 := by rw [List.length_append]; rfl
    have hwn : ∀ n s, cd_wy g n s ≠ (4, 0, i) := fun n s h => (cd_wy5 g n s).2.1 (by rw [h])
    refine ⟨(4, i) :: ts', h1, ?_, ?_, ?_, ?_, ?_, ?_, ?_, ?_, ?_⟩
    · rw [e]
      refine ⟨(4, i), ts', rfl, Or.inr (Or.inr (Or.inr ⟨rfl, ?_⟩)), ca_Ts hop os ts' (fun q hq => by have := hlt q hq; have := a3.1; omega) hT⟩
      rw [gw_0]; rfl
    · rw [e, hl1]
      exact ⟨by omega, cd_dm os p _ (by have := a3.1; omega) a3.2⟩
    · intro n hn
      have h := a4 n hn
      refine ⟨by omega, fun j hj => ?_⟩
      rw [gw_l _ _ _ (by omega)]
      exact h.2 j hj
    · intro n hn hH
      rw [e]
      exact a5 n hn hH
    · intro q m hq hm hwq
      rw [hl1] at hq
      by_cases eq : q = ws.length
      · subst eq
        rw [gw_0] at hwq
        have : (64 : Nat) = 32 + m := hwq
        omega
      · rw [gw_l _ _ _ (by omega)] at hwq
        have h := a6 q m (by omega) hm hwq
        rw [hos] at h
        rw [e]
        rcases h with h | ⟨h2, h3⟩
        · refine Or.inl ?_
          rcases List.mem_cons.mp h with h | h
          · rw [h, hp.2.1, hif.2.1] at hwq
            omega
          · exact List.mem_cons_of_mem _ h
        · have h4 := hst q (by omega) h2
          refine Or.inr ⟨h4.1, ?_⟩
          rcases h3 with ⟨_, st2, h3⟩ | h3
          · cases h3
          · exact Or.inr ⟨h3.1, h4.2.trans h3.2⟩
    · intro n hn h0
      have h := a7 n hn h0
      rw [hos] at h
      rw [e]
      rcases h with ⟨_, st2, h⟩ | h
      · injection h with h _
        exact absurd h.symm (hwn n _)
      · exact Or.inr (ca_is h hop hst)
    · intro n hn hif2
      have h := a8 n hn hif2
      rw [hos] at h
      rw [e, hl1]
      rcases h with h | ⟨h2, h3⟩
      · rcases List.mem_cons.mp h with h | h
        · have hif3 := ca_if W A0 hn hif2
          have hni : n = i := by
            rw [← hif3.2.2, h, hp.2.1, hif.2.2]
          subst hni
          refine Or.inr ⟨fun h5 => ?_, Or.inl ⟨?_, st', e2⟩⟩
          · rcases List.mem_cons.mp h5 with h5 | h5
            · omega
            · have := hlt _ h5
              omega
          · show or_p _ p (ws.length + 1) (ca_p g sp n) = _
            rw [h, or_ps]
        · exact Or.inl (List.mem_cons_of_mem _ h)
      · have h4 := hst _ (ca_if W A0 hn hif2).1 h2
        refine Or.inr ⟨h4.1, ?_⟩
        rcases h3 with ⟨_, st2, h3⟩ | h3
        · injection h3 with h3 _
          exact absurd h3.symm (hwn n _)
        · refine Or.inr ?_
          show ca_i _ _ _ _ _ _ (or_p (or_p (am_W ws).2.1 ws.length (ws.length + 1)) p (ws.length + 1) (ca_p g sp n))
          rw [h4.2]
          exact ca_is h3 hop hst
    · rcases a9 with h | h
      · exact Or.inl h
      · cases h.2
    · rw [e]
      rw [hos] at a10
      exact a10
/-- END -/
theorem ca_5 (W : gg_W g) {i : Nat} {st : List (Nat × Nat × Nat)} {ws : List Nat} {op : Nat → Bool} {sp : Nat → Nat} {ts : List (Nat × Nat)} (A : ca_A g ((5, 0, i) :: st) ws op sp ts) : ∃ ts', ca_A g st (ws ++ [80]) op sp ts' := by
  have A0 := A
  obtain ⟨a1, a2, a3, a4, a5, a6, a7, a8, a9, a10⟩ := A
  obtain ⟨t0, ts', e1, g1, g2, h1⟩ := sc_5.mp a1
  subst e1
  cases hos : (am_W ws).1 with
  | nil => rw [hos] at a2; cases a2
  | cons p os =>
    rw [hos] at a2 a3
    obtain ⟨t, ts2, e3, ht, hT⟩ := a2
    injection e3 with e4 e5
    subst e4 e5
    have e : am_W (ws ++ [80]) = (os, or_p (or_p (am_W ws).2.1 ws.length (ws.length + 1)) p (ws.length + 1), (am_W ws).2.2) := by
      rw [am_W1]
      unfold am_1
      rw [if_neg (by decide), if_neg (by decide), if_neg (by decide), if_pos (by decide), hos]
      rfl
    have hlt : ∀ q, q ∈ os → q < p := fun q hq => cd_dl os p q a3.2 hq
    have hst : ∀ q, q < ws.length → q ∉ p :: os → q ∉ os ∧ or_p (or_p (am_W ws).2.1 ws.length (ws.length + 1)) p (ws.length + 1) q = (am_W ws).2.1 q := by
      intro q hq hn
      refine ⟨fun h => hn (List.mem_cons_of_mem _ h), ?_⟩
      rw [or_pn (fun e => hn (by rw [e]; exact List.mem_cons_self)), or_pn (by omega)]
    have hop : ∀ n, op n = true → op n = true ∧ sp n = sp n := fun n h => ⟨h, rfl⟩
    have hl1 : (ws ++ [80]).length = ws.length + 1 := by rw [List.length_append]; rfl
    have hwn : ∀ n s, cd_wy g n s ≠ (5, 0, i) := fun n s h => (cd_wy5 g n s).1 (by rw [h])
    refine ⟨ts', h1, ?_, ?_, ?_, ?_, ?_, ?_, ?_, ?_, ?_⟩
    · rw [e]
      exact ca_Ts hop os ts' (fun q hq => by have := hlt q hq; have := a3.1; omega) hT
    · rw [e, hl1]
      exact cd_dm os p _ (by have := a3.1; omega) a3.2
    · intro n hn
      have h := a4 n hn
      refine ⟨by omega, fun j hj => ?_⟩
      rw [gw_l _ _ _ (by omega)]
      exact h.2 j hj
    · intro n hn hH
      rw [e]
      exact a5 n hn hH
    · intro q m hq hm hwq
      rw [hl1] at hq
      by_cases eq : q = ws.length
      · subst eq
        rw [gw_0] at hwq
        have : (80 : Nat) = 32 + m := hwq
        omega
      · rw [gw_l _ _ _ (by omega)] at hwq
        have h := a6 q m (by omega) hm hwq
        rw [hos] at h
        rw [e, hl1]
        rcases h with h | ⟨h2, h3⟩
        · rcases List.mem_cons.mp h with h | h
          · subst h
            refine Or.inr ⟨fun h5 => by have := hlt _ h5; omega, Or.inl ⟨or_ps, ?_⟩⟩
            by_cases hi : i = 0
            · exfalso
              unfold ca_t at ht
              rw [hwq] at ht
              rcases g1 hi with g1 | g1 <;> rw [g1] at ht <;> omega
            · have g3 := g2 hi
              rw [g3.1] at ht
              unfold ca_t at ht
              rw [hwq] at ht
              have : m = i - 1 := by
                rcases ht with h | h | h | h
                · exact absurd h.1 (by show ¬ (2 : Nat) = 1; omega)
                · have h7 : 32 + m = 32 + (i - 1) := h.2.2; omega
                · exact absurd h.1 (by show ¬ (2 : Nat) = 3; omega)
                · exact absurd h.1 (by show ¬ (2 : Nat) = 4; omega)
              rw [this]
              exact g3.2
          · exact Or.inl h
        · have h4 := hst q (by omega) h2
          refine Or.inr ⟨h4.1, ?_⟩
          rcases h3 with ⟨_, st2, h3⟩ | h3
          · cases h3
          · exact Or.inr ⟨h3.1, h4.2.trans h3.2⟩
    · intro n hn h0
      have h := a7 n hn h0
      rw [hos] at h
      rw [e]
      rcases h with ⟨_, st2, h⟩ | h
      · injection h with h _
        exact absurd h.symm (hwn n _)
      · exact Or.inr (ca_is h hop hst)
    · intro n hn hif2
      have h := a8 n hn hif2
      rw [hos] at h
      rw [e, hl1]
      have hif3 := ca_if W A0 hn hif2
      rcases h with h | ⟨h2, h3⟩
      · rcases List.mem_cons.mp h with h | h
        · exfalso
          have hw := W n
          unfold ca_t at ht
          rw [← h, hif3.2.1] at ht
          by_cases hi : i = 0
          · rcases g1 hi with g1 | g1 <;> rw [g1] at ht <;> omega
          · rw [(g2 hi).1] at ht
            rcases ht with ht | ht | ht | ht
            · exact absurd ht.1 (by show ¬ (2 : Nat) = 1; omega)
            · have h7 : 48 + g 1 n = 32 + (i - 1) := ht.2.2
              have h8 : i - 1 < 16 := ht.2.1
              omega
            · exact absurd ht.1 (by show ¬ (2 : Nat) = 3; omega)
            · exact absurd ht.1 (by show ¬ (2 : Nat) = 4; omega)
        · exact Or.inl h
      · have h4 := hst _ hif3.1 h2
        refine Or.inr ⟨h4.1, ?_⟩
        rcases h3 with ⟨_, st2, h3⟩ | h3
        · injection h3 with h3 _
          exact absurd h3.symm (hwn n _)
        · refine Or.inr ?_
          show ca_i _ _ _ _ _ _ (or_p (or_p (am_W ws).2.1 ws.length (ws.length + 1)) p (ws.length + 1) (ca_p g sp n))
          rw [h4.2]
          exact ca_is h3 hop hst
    · rcases a9 with h | h
      · exact Or.inl h
      · cases h.2
    · rw [e]
      rw [hos] at a10
      have : (p :: os).length = os.length + 1 := rfl
      show os.length + _ ≤ 48
      have h2 : (p :: os).length + ct_s (fun n => if op n = true then 0 else cd_on g n) 16 ≤ 48 := a10
      omega
end CC
end
section
section CD
variable {g : Nat → Nat → Nat}
def ca_x (ws : List Nat) (s : Nat) : Prop := ∃ p, p < ws.length ∧ ws.getD p 0 = 32 + s
/-- AGAIN, LEAVE: nothing opens or closes -/
theorem ca_67 (W : gg_W g) {k s j : Nat} (hk : k = 6 ∨ k = 7) (hs : s < 16) {st : List (Nat × Nat × Nat)} {ws : List Nat} {op : Nat → Bool} {sp : Nat → Nat} {ts : List (Nat × Nat)} (A : ca_A g ((k, s, j) :: st) ws op sp ts)
    (h6 : k = 6 → op s = true ∧ gg_H g s) (h7 : k = 7 → ca_x ws s) : ∃ ts', ca_A g st (ws ++ [16 * k + s]) op sp ts' := by
  have A0 := A
  obtain ⟨a1, a2, a3, a4, a5, a6, a7, a8, a9, a10⟩ := A
  have h1 : sc_S g st ts := (sc_o (by show k ≠ 5; omega) (by show k ≠ 4; omega)).mp a1
  obtain ⟨x, hx, e⟩ : ∃ x, (k = 6 → x = sp s) ∧ am_W (ws ++ [16 * k + s]) = ((am_W ws).1, or_p (am_W ws).2.1 ws.length x, (am_W ws).2.2) := by
    rw [am_W1]
    unfold am_1
    have hd : (16 * k + s) / 16 = k := by omega
    have hm : (16 * k + s) % 16 = s := by omega
    rw [hd, hm, if_neg (by omega), if_neg (by omega), if_neg (by omega), if_neg (by omega)]
    by_cases e6 : k = 6
    · rw [if_pos e6]
      exact ⟨_, fun _ => a5 s (h6 e6).1 (h6 e6).2, rfl⟩
    · rw [if_neg e6]
      exact ⟨_, fun h => absurd h e6, rfl⟩
  have hst : ∀ q, q < ws.length → q ∉ (am_W ws).1 → q ∉ (am_W ws).1 ∧ or_p (am_W ws).2.1 ws.length x q = (am_W ws).2.1 q := fun q hq hn => ⟨hn, or_pn (by omega)⟩
  have hop : ∀ n, op n = true → op n = true ∧ sp n = sp n := fun n h => ⟨h, rfl⟩
  have hl1 : (ws ++ [16 * k + s]).length = ws.length + 1 := by rw [List.length_append]; rfl
  have hlen : ws.length ∉ (am_W ws).1 := fun h => by have := cd_dl _ _ _ a3 h; omega
  have hwl : (ws ++ [16 * k + s]).getD ws.length 0 = 16 * k + s := gw_0 ws [16 * k + s]
  -- the way itself
  have hit : ∀ n s', (k, s, j) = cd_wy g n s' → ca_i (ws ++ [16 * k + s]) op sp (am_W ws).1 (or_p (am_W ws).2.1 ws.length x) (cd_wy g n s') ws.length := by
    intro n s' h
    rw [← h]
    rcases hk with hk | hk
    · refine Or.inr (Or.inl ⟨hk, by omega, hlen, ?_, (h6 hk).1, ?_⟩)
      · rw [hwl, hk]
      · rw [or_ps]; exact hx hk
    · obtain ⟨p, hp1, hp2⟩ := h7 hk
      refine Or.inr (Or.inr ⟨hk, by omega, ?_, p, hp1, ?_⟩)
      · rw [hwl, hk]
      · rw [gw_l _ _ _ hp1]; exact hp2
  refine ⟨ts, h1, ?_, ?_, ?_, ?_, ?_, ?_, ?_, ?_, ?_⟩
  · rw [e]
    exact ca_Ts hop _ ts (fun q hq => cd_dl _ _ _ a3 hq) a2
  · rw [e, hl1]
    exact cd_dm _ _ _ (by omega) a3
  · intro n hn
    have h := a4 n hn
    refine ⟨by omega, fun i hi => ?_⟩
    rw [gw_l _ _ _ (by omega)]
    exact h.2 i hi
  · intro n hn hH
    rw [e]
    exact a5 n hn hH
  · intro q m hq hm hwq
    rw [hl1] at hq
    by_cases eq : q = ws.length
    · subst eq
      rw [hwl] at hwq
      omega
    · rw [gw_l _ _ _ (by omega)] at hwq
      rw [e]
      rcases a6 q m (by omega) hm hwq with h | ⟨h2, h3⟩
      · exact Or.inl h
      · have h4 := hst q (by omega) h2
        refine Or.inr ⟨h2, ?_⟩
        rcases h3 with ⟨_, st2, h3⟩ | h3
        · injection h3 with h3 _
          have : k = 0 := congrArg (fun t => t.1) h3
          omega
        · exact Or.inr ⟨h3.1, h4.2.trans h3.2⟩
  · intro n hn h0
    rw [e]
    rcases a7 n hn h0 with ⟨h2, st2, h⟩ | h
    · injection h with h _
      refine Or.inr ?_
      rw [h2]
      exact hit n _ h
    · exact Or.inr (ca_is h hop hst)
  · intro n hn hif
    rw [e]
    have hp := (ca_if W A0 hn hif).1
    rcases a8 n hn hif with h | ⟨h2, h3⟩
    · exact Or.inl h
    · have h4 := hst _ hp h2
      refine Or.inr ⟨h2, Or.inr ?_⟩
      show ca_i _ _ _ _ _ _ (or_p (am_W ws).2.1 ws.length x (ca_p g sp n))
      rw [h4.2]
      rcases h3 with ⟨h5, st2, h3⟩ | h3
      · injection h3 with h3 _
        rw [h5]
        exact hit n _ h3
      · exact ca_is h3 hop hst
  · rcases a9 with h | h
    · exact Or.inl h
    · have h2 := h.2
      injection h2 with h2 _
      have : k = 0 := congrArg (fun t => t.1) h2
      omega
  · rw [e]; exact a10
/-- a node opened -/
theorem ca_bT {ws : List Nat} {op : Nat → Bool} {sp : Nat → Nat} : ∀ (ms : List Nat) (q : Nat), (∀ m, m ∈ ms → m < 16) → (∀ i, i < ms.length → ws.getD (q + i) 0 = 32 + ms.getD i 0) → ca_T g ws op sp (cd_bp ms q) (ms.reverse.map (fun m => (2, m)))
  | [], _, _, _ => rfl
  | m :: ms, q, h16, h => by
    show ca_T g ws op sp (cd_bp ms (q + 1) ++ [q]) ((m :: ms).reverse.map (fun m => (2, m)))
    rw [List.reverse_cons, List.map_append]
    refine ca_Ta _ _ _ _ (ca_bT ms (q + 1) (fun m' hm' => h16 m' (List.mem_cons_of_mem _ hm')) (fun i hi => ?_)) ⟨(2, m), [], rfl, Or.inr (Or.inl ⟨rfl, h16 m List.mem_cons_self, ?_⟩), rfl⟩
    · have := h (i + 1) (by rw [List.length_cons]; omega)
      rw [show q + 1 + i = q + (i + 1) by omega, this]
      rfl
    · exact h 0 (by rw [List.length_cons]; omega)
theorem ca_n (W : gg_W g) {n : Nat} {st : List (Nat × Nat × Nat)} {ws : List Nat} {op : Nat → Bool} {sp : Nat → Nat} {ts : List (Nat × Nat)} (A : ca_A g ((0, n, 0) :: st) ws op sp ts) (hR : gg_R g n) (hop0 : op n = false) :
    ∃ ts', ca_A g (cd_pu g n ++ st) (ws ++ cd_wo g n) (df_m op n) (or_p sp n ws.length) ts' := by
  have A0 := A
  obtain ⟨a1, a2, a3, a4, a5, a6, a7, a8, a9, a10⟩ := A
  have hn16 := gg_R16 W hR
  have hw := W n
  have hg := cd_wg W n
  have h1 : sc_S g st ts := (sc_o (by show (0 : Nat) ≠ 5; omega) (by show (0 : Nat) ≠ 4; omega)).mp a1
  have hwk := cd_wk W hn16
  have h16 : ∀ m, m ∈ cd_ms g n → m < 16 := fun m hm => gg_R16 W ((cd_in W).mp hm).1
  have hLw := am_Lw (cd_wo g n) ws.length (am_W ws) (fun w hwm => by
    rcases hwk w hwm with h | ⟨m, h2, h⟩ | h | h | h
    · omega
    · have := h16 m h2; omega
    · omega
    · omega
    · omega)
  rw [← am_Wa, am_ow W hn16] at hLw
  obtain ⟨l1, l2, l3⟩ := hLw
  have hll : (ws ++ cd_wo g n).length = ws.length + (cd_wo g n).length := List.length_append
  have hop : ∀ m, op m = true → df_m op n m = true ∧ or_p sp n ws.length m = sp m := by
    intro m hm
    have : m ≠ n := by
      intro e
      rw [e, hop0] at hm
      cases hm
    exact ⟨df_mt hm, or_pn this⟩
  have hnew : ∀ p, p ∈ cd_os g n ws.length → ws.length ≤ p := by
    intro p hp
    rcases (cd_oi g n ws.length p).mp hp with h | h | h
    · omega
    · omega
    · omega
  have hst : ∀ q, q < ws.length → q ∉ (am_W ws).1 → q ∉ (am_W (ws ++ cd_wo g n)).1 ∧ (am_W (ws ++ cd_wo g n)).2.1 q = (am_W ws).2.1 q := by
    intro q hq hnq
    refine ⟨?_, l2 q hq⟩
    rw [l1]
    intro h
    rcases List.mem_append.mp h with h | h
    · have := hnew q h; omega
    · exact hnq h
  have hwn : ∀ i, i < (cd_wo g n).length → (ws ++ cd_wo g n).getD (ws.length + i) 0 = (cd_wo g n).getD i 0 := fun i _ => gw_r _ _ i
  refine ⟨cd_ts g n ++ ts, sc_n W h1, ?_, ?_, ?_, ?_, ?_, ?_, ?_, ?_, ?_⟩
  · rw [l1]
    refine ca_Ta _ _ _ _ ?_ (ca_Ts hop _ ts (fun q hq => cd_dl _ _ _ a3 hq) a2)
    unfold cd_os cd_ts
    refine ca_Ta _ _ _ _ ?_ (ca_Ta _ _ _ _ ?_ ?_)
    · split
      · rename_i h
        refine ⟨(3, n), [], rfl, Or.inr (Or.inr (Or.inl ⟨rfl, df_mm, ?_, h⟩)), rfl⟩
        show ws.length + cd_h g n + (cd_ms g n).length + 1 = or_p sp n ws.length n + (cd_h g n + (cd_ms g n).length + 1)
        rw [or_ps]
        omega
      · rfl
    · refine ca_bT _ _ h16 (fun i hi => ?_)
      rw [Nat.add_assoc, hwn _ (by have := hg.2.2.2.2.2.2; omega)]
      exact hg.1 i hi
    · split
      · rename_i h
        have hH := (pd_i _).mp h
        refine ⟨(1, n), [], rfl, Or.inl ⟨rfl, ?_⟩, rfl⟩
        rw [gw_0, hg.2.2.1 hH]
        omega
      · rfl
  · rw [l1, hll]
    exact cd_do W n _ _ a3
  · intro m hm
    by_cases e : m = n
    · subst e
      rw [or_ps, hll]
      exact ⟨Nat.le_refl _, hwn⟩
    · rw [df_mn e] at hm
      have h := a4 m hm
      rw [or_pn e, hll]
      refine ⟨by omega, fun i hi => ?_⟩
      rw [gw_l _ _ _ (by omega)]
      exact h.2 i hi
  · intro m hm hH
    by_cases e : m = n
    · subst e
      rw [or_ps, am_Wa]
      -- the first word is the LOOP
      have hwo : ∃ us, cd_wo g m = (16 + m) :: us ∧ ∀ w, w ∈ us → w ≠ 16 + m ∧ (w / 16 ≤ 3 ∨ w / 16 = 8) := by
        unfold cd_wo
        rw [if_pos (pd_t hH)]
        refine ⟨(cd_ms g m).map (fun m => 32 + m) ++ (m :: (if g 0 m = 0 then [128] else if g 0 m = 1 ∨ g 2 m = g 3 m then [] else [48 + g 1 m])), rfl, ?_⟩
        intro w hwm
        rcases List.mem_append.mp hwm with hwm | hwm
        · obtain ⟨m', h2, h3⟩ := List.mem_map.mp hwm
          have := h16 m' h2
          omega
        · rcases List.mem_cons.mp hwm with hwm | hwm
          · omega
          · split at hwm
            · rw [List.mem_singleton] at hwm; omega
            · split at hwm
              · cases hwm
              · rw [List.mem_singleton] at hwm; omega
      obtain ⟨us, e1, e2⟩ := hwo
      rw [e1]
      show (am_L us (ws.length + 1) (am_1 ws.length (16 + m) (am_W ws))).2.2 m = ws.length
      rw [(am_Lw us _ _ (fun w hw' => (e2 w hw').2)).2.2 m (fun w hw' => (e2 w hw').1) hn16]
      unfold am_1
      rw [if_pos (by omega)]
      show or_p (am_W ws).2.2 ((16 + m) % 16) ws.length m = ws.length
      rw [show (16 + m) % 16 = m by omega, or_ps]
    · rw [df_mn e] at hm
      have hm16 : m < 16 := gg_R16 W (gl_Rh (gl_h.mp hH))
      rw [or_pn e, l3 m (fun w hwm => ?_) hm16]
      · exact a5 m hm hH
      · rcases hwk w hwm with h | ⟨m', h2, h⟩ | h | h | h
        · omega
        · have := h16 m' h2; omega
        · omega
        · omega
        · omega
  · intro q m hq hm hwq
    rw [hll] at hq
    by_cases hlt : q < ws.length
    · rw [gw_l _ _ _ hlt] at hwq
      rcases a6 q m hlt hm hwq with h | ⟨h2, h3⟩
      · refine Or.inl ?_
        rw [l1]
        exact List.mem_append_right _ h
      · have h4 := hst q hlt h2
        refine Or.inr ⟨h4.1, Or.inr ?_⟩
        rcases h3 with ⟨h5, st2, h3⟩ | h3
        · injection h3 with h3 _
          have : n = m := congrArg (fun t => t.2.1) h3
          subst this
          exact ⟨df_mm, by rw [h4.2, or_ps]; exact h5⟩
        · have := hop m h3.1
          exact ⟨this.1, by rw [h4.2, this.2]; exact h3.2⟩
    · refine Or.inl ?_
      rw [l1]
      refine List.mem_append_left _ ((cd_oi g n ws.length q).mpr ?_)
      have hq2 := hwn (q - ws.length) (by omega)
      rw [show ws.length + (q - ws.length) = q by omega, hwq] at hq2
      -- a BLOCK's place
      by_cases hb : cd_h g n ≤ q - ws.length ∧ q - ws.length < cd_h g n + (cd_ms g n).length
      · exact Or.inr (Or.inl (by omega))
      · exfalso
        by_cases hb0 : q - ws.length < cd_h g n
        · have hH : gg_H g n := by
            apply Classical.byContradiction
            intro hH
            unfold cd_h at hb0
            rw [if_neg (by rw [pd_f hH]; exact Bool.noConfusion)] at hb0
            omega
          have hc1 : cd_h g n = 1 := by unfold cd_h; rw [if_pos (pd_t hH)]
          rw [show q - ws.length = 0 by omega, hg.2.2.1 hH] at hq2
          omega
        · by_cases hb1 : q - ws.length = cd_h g n + (cd_ms g n).length
          · rw [hb1, hg.2.1] at hq2
            omega
          · by_cases hif : cd_if g n
            · have := hg.2.2.2.1 hif
              rw [show q - ws.length = cd_h g n + (cd_ms g n).length + 1 by omega, this.2] at hq2
              omega
            · by_cases h0 : g 0 n = 0
              · have hm2 := gw_m (cd_wo g n) (q - ws.length) (by omega)
                rw [← hq2] at hm2
                have hl := hg.2.2.2.2.1 h0
                -- the last word is 128
                have hlast : (cd_wo g n).getD (cd_h g n + (cd_ms g n).length + 1) 0 = 128 := by
                  unfold cd_wo
                  rw [Nat.add_assoc, ← cd_hl, gw_r]
                  have := gw_r ((cd_ms g n).map (fun m => 32 + m)) (n :: (if g 0 n = 0 then [128] else if g 0 n = 1 ∨ g 2 n = g 3 n then [] else [48 + g 1 n])) 1
                  rw [List.length_map] at this
                  rw [this, if_pos h0]
                  rfl
                rw [show q - ws.length = cd_h g n + (cd_ms g n).length + 1 by omega, hlast] at hq2
                omega
              · have := hg.2.2.2.2.2.1 h0 hif
                omega
  · intro m hm h0
    by_cases e : m = n
    · subst e
      refine Or.inl ⟨by rw [or_ps, hll], ?_⟩
      unfold cd_pu cd_pw
      rw [if_neg h0]
      split
      · exact ⟨_, rfl⟩
      · exact ⟨_, rfl⟩
    · rw [df_mn e] at hm
      rw [or_pn e]
      rcases a7 m hm h0 with ⟨h2, st2, h⟩ | h
      · injection h with h _
        refine Or.inr (Or.inl ?_)
        rw [← h, h2]
        exact ⟨rfl, df_mm, or_ps⟩
      · exact Or.inr (ca_is h hop hst)
  · intro m hm hif
    by_cases e : m = n
    · subst e
      refine Or.inl ?_
      rw [l1]
      refine List.mem_append_left _ ((cd_oi g m ws.length _).mpr (Or.inl ⟨hif, ?_⟩))
      unfold ca_p
      rw [or_ps]
      omega
    · rw [df_mn e] at hm
      have ep : ca_p g (or_p sp n ws.length) m = ca_p g sp m := by unfold ca_p; rw [or_pn e]
      rw [ep]
      have hp := (ca_if W A0 hm hif).1
      rcases a8 m hm hif with h | ⟨h2, h3⟩
      · refine Or.inl ?_
        rw [l1]
        exact List.mem_append_right _ h
      · have h4 := hst _ hp h2
        refine Or.inr ⟨h4.1, Or.inr ?_⟩
        rw [h4.2]
        rcases h3 with ⟨h5, st2, h3⟩ | h3
        · injection h3 with h3 _
          rw [← h3, h5]
          exact Or.inl ⟨rfl, df_mm, or_ps⟩
        · exact ca_is h3 hop hst
  · refine Or.inl ?_
    rcases a9 with h | h
    · have := hop 0 h.1
      exact ⟨this.1, this.2.trans h.2⟩
    · have h2 := h.2
      injection h2 with h2 _
      have : n = 0 := congrArg (fun t => t.2.1) h2
      subst this
      exact ⟨df_mm, by rw [or_ps, h.1]; rfl⟩
  · rw [l1, List.length_append, cd_ol]
    have h5 := ct_sup (f := fun m => if df_m op n m = true then 0 else cd_on g m) (g := fun m => if op m = true then 0 else cd_on g m) 16 n hn16 (fun i _ hi => by show (if df_m op n i = true then 0 else cd_on g i) = _; rw [df_mn hi])
    have e1 : (if df_m op n n = true then 0 else cd_on g n) = 0 := if_pos df_mm
    have e2 : (if op n = true then 0 else cd_on g n) = cd_on g n := if_neg (by rw [hop0]; exact Bool.noConfusion)
    have h6 : ct_s (fun m => if df_m op n m = true then 0 else cd_on g m) 16 + (if op n = true then 0 else cd_on g n) = ct_s (fun m => if op m = true then 0 else cd_on g m) 16 + (if df_m op n n = true then 0 else cd_on g n) := h5
    rw [e1, e2] at h6
    have h7 : cd_on g n = (if g 0 n = 2 ∧ g 2 n ≠ g 3 n then 1 else 0) + ((cd_ms g n).length + cd_h g n) := rfl
    omega
end CD
end
section
section CE
variable {g : Nat → Nat → Nat}
/-! room, and the end -/
theorem cp_uo (f : Nat → Nat) {op : Nat → Bool} {n : Nat} (hn : n < 16) (h0 : op n = false) : ct_s (fun m => if df_m op n m = true then 0 else f m) 16 + f n = ct_s (fun m => if op m = true then 0 else f m) 16 := by
  have h5 := ct_sup (f := fun m => if df_m op n m = true then 0 else f m) (g := fun m => if op m = true then 0 else f m) 16 n hn (fun i _ hi => by show (if df_m op n i = true then 0 else f i) = _; rw [df_mn hi])
  have e1 : (if df_m op n n = true then 0 else f n) = 0 := if_pos df_mm
  have e2 : (if op n = true then 0 else f n) = f n := if_neg (by rw [h0]; exact Bool.noConfusion)
  have h6 : ct_s (fun m => if df_m op n m = true then 0 else f m) 16 + (if op n = true then 0 else f n) = ct_s (fun m => if op m = true then 0 else f m) 16 + (if df_m op n n = true then 0 else f n) := h5
  rw [e1, e2] at h6
  omega
theorem cp_0 (W : gg_W g) : cp_u g (fun _ => false) ≤ 112 ∧ cp_v g (fun _ => false) ≤ 176 ∧ ct_s (fun n => if (fun _ : Nat => false) n = true then 0 else cd_on g n) 16 ≤ 48 := by
  have hs := cd_sl W
  refine ⟨?_, ?_, ?_⟩
  · have h1 := ct_sle (f := fun n => if (fun _ : Nat => false) n = true then 0 else (cd_pu g n).length) (g := fun n => 5 + (2 * (cd_ms g n).length)) 16 (fun n _ => by
      show (if false = true then 0 else (cd_pu g n).length) ≤ _
      rw [if_neg Bool.noConfusion]; exact cd_pul n)
    rw [ct_sad, ct_sc] at h1
    have h2 : ct_s (fun n => 2 * (cd_ms g n).length) 16 = ct_s (fun n => (cd_ms g n).length + (cd_ms g n).length) 16 := ct_seq 16 (fun i _ => by show 2 * _ = _; omega)
    rw [h2, ct_sad] at h1
    unfold cp_u
    omega
  · have h1 := ct_sle (f := fun n => if (fun _ : Nat => false) n = true then 0 else (cd_pu g n).length + (cd_wo g n).length) (g := fun n => 8 + ((cd_ms g n).length + ((cd_ms g n).length + (cd_ms g n).length))) 16 (fun n _ => by
      show (if false = true then 0 else (cd_pu g n).length + (cd_wo g n).length) ≤ _
      rw [if_neg Bool.noConfusion]
      have := cd_pul (g := g) n
      have := cd_wol (g := g) n
      omega)
    rw [ct_sad, ct_sc, ct_sad, ct_sad] at h1
    unfold cp_v
    omega
  · have h1 := ct_sle (f := fun n => if (fun _ : Nat => false) n = true then 0 else cd_on g n) (g := fun n => 2 + (cd_ms g n).length) 16 (fun n _ => by
      show (if false = true then 0 else cd_on g n) ≤ _
      rw [if_neg Bool.noConfusion]
      unfold cd_on cd_h
      have h3 : (if g 0 n = 2 ∧ g 2 n ≠ g 3 n then 1 else 0) ≤ 1 := by split <;> omega
      have h4 : (if pd_b (gg_H g n) = true then 1 else 0) ≤ 1 := by split <;> omega
      omega)
    rw [ct_sad, ct_sc] at h1
    omega
/-! at every place of the words aim finds what it asks for -/
def ck_a (ws : List Nat) (k : Nat) : Prop :=
  (am_W (ws.take k)).1.length ≤ 48 ∧ (∀ p, p ∈ (am_W (ws.take k)).1 → p < k) ∧ ((ws.getD k 0 / 16 = 4 ∨ ws.getD k 0 / 16 = 5) → (am_W (ws.take k)).1 ≠ []) ∧ (ws.getD k 0 / 16 = 6 → ∃ p, p < k ∧ ws.getD p 0 = 16 + ws.getD k 0 % 16) ∧ (ws.getD k 0 / 16 = 7 → ∃ p, p < k ∧ ws.getD p 0 = 32 + ws.getD k 0 % 16) ∧ ws.getD k 0 < 256
def ck_K (ws : List Nat) : Prop := ∀ k, k < ws.length → ck_a ws k
end CE
section CF
variable {g : Nat → Nat → Nat}
theorem ck_l {ws us : List Nat} (h : ck_K ws) (hu : ∀ j, j < us.length → ck_a (ws ++ us) (ws.length + j)) : ck_K (ws ++ us) := by
  intro k hk
  by_cases hlt : k < ws.length
  · have h1 := h k hlt
    unfold ck_a at *
    have e : (ws ++ us).take k = ws.take k := by
      rw [List.take_append_of_le_length (by omega)]
    rw [e, gw_l _ _ _ hlt]
    refine ⟨h1.1, h1.2.1, h1.2.2.1, fun h6 => ?_, fun h7 => ?_, h1.2.2.2.2.2⟩
    · obtain ⟨p, hp1, hp2⟩ := h1.2.2.2.1 h6
      exact ⟨p, hp1, by rw [gw_l _ _ _ (Nat.lt_trans hp1 hlt)]; exact hp2⟩
    · obtain ⟨p, hp1, hp2⟩ := h1.2.2.2.2.1 h7
      exact ⟨p, hp1, by rw [gw_l _ _ _ (Nat.lt_trans hp1 hlt)]; exact hp2⟩
  · have := hu (k - ws.length) (by rw [List.length_append] at hk; omega)
    rw [show ws.length + (k - ws.length) = k by omega] at this
    exact this
theorem ck_t (ws us : List Nat) (j : Nat) : (ws ++ us).take (ws.length + j) = ws ++ us.take j := by
  rw [List.take_append, List.take_of_length_le (by omega), show ws.length + j - ws.length = j by omega]
theorem ck_1 {ws : List Nat} {w : Nat} (h : ck_K ws) (h1 : (am_W ws).1.length ≤ 48) (h2 : ∀ p, p ∈ (am_W ws).1 → p < ws.length) (h3 : (w / 16 = 4 ∨ w / 16 = 5) → (am_W ws).1 ≠ []) (h4 : w / 16 = 6 → ∃ p, p < ws.length ∧ ws.getD p 0 = 16 + w % 16) (h7 : w / 16 = 7 → ca_x ws (w % 16)) (h5 : w < 256) : ck_K (ws ++ [w]) := by
  refine ck_l h (fun j hj => ?_)
  have e : j = 0 := by
    have : [w].length = 1 := rfl
    omega
  subst e
  unfold ck_a
  rw [ck_t, List.take_zero, List.append_nil, gw_r]
  show _ ∧ _ ∧ ((w / 16 = 4 ∨ w / 16 = 5) → _) ∧ (w / 16 = 6 → _) ∧ (w / 16 = 7 → _) ∧ w < 256
  refine ⟨h1, h2, h3, fun h6 => ?_, fun h8 => ?_, h5⟩
  · obtain ⟨p, hp1, hp2⟩ := h4 h6
    exact ⟨p, hp1, by rw [gw_l _ _ _ hp1]; exact hp2⟩
  · obtain ⟨p, hp1, hp2⟩ := h7 h8
    exact ⟨p, hp1, by rw [gw_l _ _ _ hp1]; exact hp2⟩
theorem am_on : ∀ (us : List Nat) (k p : Nat), p ∈ am_o us k → k ≤ p ∧ p < k + us.length
  | [], _, _, h => by cases h
  | w :: us, k, p, h => by
    rcases List.mem_append.mp h with h | h
    · have := am_on us (k + 1) p h
      rw [List.length_cons]; omega
    · split at h
      · rw [List.mem_singleton] at h
        rw [List.length_cons]; omega
      · cases h
theorem ck_n (W : gg_W g) {n : Nat} (hn : n < 16) {ws : List Nat} (h : ck_K ws) (h1 : (am_W ws).1.length + (cd_os g n ws.length).length ≤ 48) (h2 : ∀ p, p ∈ (am_W ws).1 → p < ws.length) : ck_K (ws ++ cd_wo g n) := by
  have hwk := cd_wk W hn
  have h16 : ∀ m, m ∈ cd_ms g n → m < 16 := fun m hm => gg_R16 W ((cd_in W).mp hm).1
  have hw := W n
  have hkind : ∀ w, w ∈ cd_wo g n → (w / 16 ≤ 3 ∨ w / 16 = 8) ∧ w < 256 := by
    intro w hwm
    rcases hwk w hwm with h | ⟨m, h2, h⟩ | h | h | h
    · omega
    · have := h16 m h2; omega
    · omega
    · omega
    · omega
  refine ck_l h (fun j hj => ?_)
  unfold ck_a
  rw [ck_t, gw_r, am_Wa]
  have hk := hkind _ (gw_m (cd_wo g n) j hj)
  have hL := am_Lw ((cd_wo g n).take j) ws.length (am_W ws) (fun w hwm => (hkind w (List.mem_of_mem_take hwm)).1)
  rw [hL.1]
  have hsplit : cd_os g n ws.length = am_o ((cd_wo g n).drop j) (ws.length + ((cd_wo g n).take j).length) ++ am_o ((cd_wo g n).take j) ws.length := by
    rw [← am_ow W hn, ← am_oa, List.take_append_drop]
  refine ⟨?_, ?_, fun h3 => by omega, fun h3 => by omega, fun h3 => by omega, hk.2⟩
  · rw [hsplit, List.length_append] at h1
    rw [List.length_append]
    omega
  · intro p hp
    rcases List.mem_append.mp hp with hp | hp
    · have h4 := (am_on _ _ _ hp).2
      have h5 : ((cd_wo g n).take j).length ≤ j := by rw [List.length_take]; omega
      omega
    · have := h2 p hp
      omega
/-- all of it -/
theorem cd_go (W : gg_W g) (hSt : gg_St g) : ∀ (f : Nat) (st : List (Nat × Nat × Nat)) (ws : List Nat) (op : Nat → Bool) (sp : Nat → Nat) (ts : List (Nat × Nat)), cp_P g st op → ca_A g st ws op sp ts → ck_K ws → st.length + cp_u g op < f →
    ∃ (L : List Nat) (op' : Nat → Bool) (sp' : Nat → Nat), cd_r g f st ws = some L ∧ cp_P g [] op' ∧ ca_A g [] L op' sp' [] ∧ ck_K L := by
  intro f
  induction f with
  | zero => intro st ws op sp ts _ _ _ h; omega
  | succ f ih =>
    intro st ws op sp ts P A K hf
    have hds := fun p hp => cd_dl (am_W ws).1 ws.length p A.2.2.1 hp
    have hol : (am_W ws).1.length ≤ 48 := by have := A.2.2.2.2.2.2.2.2.2; omega
    cases st with
    | nil =>
      have hts : ts = [] := A.1
      subst hts
      exact ⟨ws, op, sp, rfl, P, A, K⟩
    | cons it st =>
      obtain ⟨k, n, i⟩ := it
      have hk := P.2.2.2.2.2 (k, n, i) List.mem_cons_self
      rw [List.length_cons] at hf
      by_cases k0 : k = 0
      · subst k0
        have hi : i = 0 := by
          rcases hk with h | h | h | h | h
          · exact h.2
          · exact absurd h.1 (by show ¬ (0 : Nat) = 4; omega)
          · exact absurd h.1 (by show ¬ (0 : Nat) = 5; omega)
          · exact absurd h.1 (by show ¬ (0 : Nat) = 6; omega)
          · exact absurd h.1 (by show ¬ (0 : Nat) = 7; omega)
        subst hi
        obtain ⟨P', hR, h0⟩ := cp_P2 W hSt P
        have hn16 := gg_R16 W hR
        obtain ⟨ts', A'⟩ := ca_n W A hR h0
        have hu := cp_uo (fun m => (cd_pu g m).length) hn16 h0
        have hu2 : cp_u g (df_m op n) + (cd_pu g n).length = cp_u g op := hu
        have hn2 := cp_uo (cd_on g) hn16 h0
        have K' := ck_n W hn16 K (by
          rw [cd_ol]
          have := A.2.2.2.2.2.2.2.2.2
          have h7 : cd_on g n = (if g 0 n = 2 ∧ g 2 n ≠ g 3 n then 1 else 0) + ((cd_ms g n).length + cd_h g n) := rfl
          omega) hds
        have e : cd_r g (f + 1) ((0, n, 0) :: st) ws = cd_r g f (cd_pu g n ++ st) (ws ++ cd_wo g n) := rfl
        rw [e]
        refine ih _ _ _ _ ts' P' A' K' ?_
        rw [List.length_append]
        omega
      · have P' := cp_P1 P k0
        have e : cd_r g (f + 1) ((k, n, i) :: st) ws = cd_r g f st (ws ++ [16 * k + n]) := if_neg k0
        rw [e]
        rcases hk with h | h | h | h | h
        · exact absurd h.1 k0
        · obtain ⟨h1, h2⟩ := h
          have h1 : k = 4 := h1
          have h2 : n = 0 := h2
          subst h1 h2
          obtain ⟨ts', A'⟩ := ca_4 W A
          refine ih st _ op sp ts' P' A' (ck_1 K hol hds (fun _ he => ?_) (fun h6 => absurd h6 (by decide)) (fun h6 => absurd h6 (by decide)) (by decide)) (by omega)
          have := A.2.1
          rw [he] at this
          obtain ⟨ts2, e2, _⟩ := sc_4.mp A.1
          rw [e2] at this
          cases this
        · obtain ⟨h1, h2⟩ := h
          have h1 : k = 5 := h1
          have h2 : n = 0 := h2
          subst h1 h2
          obtain ⟨ts', A'⟩ := ca_5 W A
          refine ih st _ op sp ts' P' A' (ck_1 K hol hds (fun _ he => ?_) (fun h6 => absurd h6 (by decide)) (fun h6 => absurd h6 (by decide)) (by decide)) (by omega)
          have := A.2.1
          rw [he] at this
          obtain ⟨t, ts2, e2, _⟩ := sc_5.mp A.1
          rw [e2] at this
          cases this
        · obtain ⟨h1, h2, h3⟩ := h
          have h1 : k = 6 := h1
          have h2 : op n = true := h2
          have h3 : gg_H g n := h3
          have hn16 := gg_R16 W (gl_Rh (gl_h.mp h3))
          obtain ⟨ts', A'⟩ := ca_67 W (Or.inl h1) hn16 A (fun _ => ⟨h2, h3⟩) (fun h7 => by omega)
          refine ih st _ op sp ts' P' A' (ck_1 K hol hds (fun h6 => by omega) (fun _ => ?_) (fun h6 => by omega) (by omega)) (by omega)
          have h4 := A.2.2.2.1 n h2
          have hg := cd_wg W n
          refine ⟨sp n, by have := hg.2.2.2.2.2.2; omega, ?_⟩
          have h5 := h4.2 0 (by have := hg.2.2.2.2.2.2; omega)
          rw [Nat.add_zero] at h5
          rw [h5, hg.2.2.1 h3]
          omega
        · obtain ⟨h1, h2, c, h3, h4⟩ := h
          have h1 : k = 7 := h1
          have h2 : gg_R g n := h2
          have h4 : n ∈ cd_ms g c := h4
          have hn16 := gg_R16 W h2
          have hx7 : ca_x ws n := (by
            have h5 := A.2.2.2.1 c h3
            have hg := cd_wg W c
            obtain ⟨j, hj, ej⟩ := gw_i _ h4
            refine ⟨sp c + (cd_h g c + j), by have := hg.2.2.2.2.2.2; omega, ?_⟩
            rw [h5.2 _ (by have := hg.2.2.2.2.2.2; omega), hg.1 j hj, ej])
          obtain ⟨ts', A'⟩ := ca_67 W (Or.inr h1) hn16 A (fun h7 => by omega) (fun _ => hx7)
          exact ih st _ op sp ts' P' A' (ck_1 K hol hds (fun h6 => by omega) (fun h6 => by omega) (fun _ => by rw [show (16 * k + n) % 16 = n by omega]; exact hx7) (by omega)) (by omega)
/-- the words, where nodes begin -/
noncomputable def cd_L (g : Nat → Nat → Nat) : List Nat := match cd_r g 120 [(0, 0, 0)] [] with
  | some L => L
  | none => []
theorem cd_P0 (W : gg_W g) : cp_P g [(0, 0, 0)] (fun _ => false) := by
  refine ⟨fun n h => (by cases h), fun n d h => (by cases h), ?_, ?_, ?_, ?_⟩
  · intro m hm
    have hm : m ∈ [0] := hm
    rw [List.mem_singleton] at hm
    subst hm
    exact ⟨gr_rf, rfl⟩
  · exact List.nodup_cons.mpr ⟨List.not_mem_nil, List.nodup_nil⟩
  · intro m hm h0
    rcases hm with hm | hm
    · cases hm
    · have hm : m ∈ [0] := hm
      rw [List.mem_singleton] at hm
      exact absurd hm h0
  · intro it hit
    rw [List.mem_singleton] at hit
    subst hit
    exact Or.inl ⟨rfl, rfl⟩
theorem cd_e (W : gg_W g) (hSt : gg_St g) : ∃ (op : Nat → Bool) (sp : Nat → Nat), cd_r g 120 [(0, 0, 0)] [] = some (cd_L g) ∧ cp_P g [] op ∧ ca_A g [] (cd_L g) op sp [] ∧ ck_K (cd_L g) := by
  have h0 := cp_0 W
  have A0 : ca_A g [(0, 0, 0)] [] (fun _ => false) (fun _ => 0) [] := by
    refine ⟨rfl, rfl, trivial, fun n h => (by cases h), fun n h => (by cases h), fun p m hp => (by cases hp), fun n h => (by cases h), fun n h => (by cases h), Or.inr ⟨rfl, rfl⟩, ?_⟩
    show 0 + _ ≤ 48
    have := h0.2.2
    omega
  obtain ⟨L, op, sp, h1, h2, h3, h4⟩ := cd_go W hSt 120 [(0, 0, 0)] [] (fun _ => false) (fun _ => 0) [] (cd_P0 W) A0 (fun k hk => by cases hk) (by
    have := h0.1
    have : [((0 : Nat), (0 : Nat), (0 : Nat))].length = 1 := rfl
    omega)
  have e : cd_L g = L := by unfold cd_L; rw [h1]
  rw [e]
  exact ⟨op, sp, h1, h2, h3, h4⟩
/-- what running it asks for -/
def cf_w (L : List Nat) (sp : Nat → Nat) (tg : Nat → Nat) (it : Nat × Nat × Nat) (q : Nat) : Prop :=
  (it.1 = 0 ∧ sp it.2.1 = q) ∨ ((it.1 = 6 ∨ it.1 = 7) ∧ q < L.length ∧ L.getD q 0 = 16 * it.1 + it.2.1 ∧ tg q = sp it.2.1)
def cf_F (g : Nat → Nat → Nat) (L : List Nat) (sp tg : Nat → Nat) : Prop :=
  (∀ n, gg_R g n → sp n + (cd_wo g n).length ≤ L.length ∧ ∀ i, i < (cd_wo g n).length → L.getD (sp n + i) 0 = (cd_wo g n).getD i 0) ∧ sp 0 = 0 ∧
  (∀ n, gg_R g n → g 0 n ≠ 0 → cf_w L sp tg (cd_wy g n (g 2 n)) (sp n + (cd_wo g n).length)) ∧ (∀ n, gg_R g n → cd_if g n → cf_w L sp tg (cd_wy g n (g 3 n)) (tg (ca_p g sp n)))
theorem cf_f (W : gg_W g) {L : List Nat} {op : Nat → Bool} {sp : Nat → Nat} (P : cp_P g [] op) (A : ca_A g [] L op sp []) {tg : Nat → Nat} (h0 : ∀ p, p < L.length → L.getD p 0 / 16 ≠ 7 → tg p = (am_W L).2.1 p)
    (h7 : ∀ q s, q < L.length → s < 16 → L.getD q 0 = 112 + s → (∃ p, p < q ∧ L.getD p 0 = 32 + s) → ∃ p, p < q ∧ L.getD p 0 = 32 + s ∧ tg q = (am_W L).2.1 p) : cf_F g L sp tg := by
  have A0 := A
  obtain ⟨a1, a2, a3, a4, a5, a6, a7, a8, a9, a10⟩ := A
  have hos : (am_W L).1 = [] := by
    cases h : (am_W L).1 with
    | nil => rfl
    | cons p os =>
      rw [h] at a2
      obtain ⟨t, ts', e, _⟩ := a2
      cases e
  rw [hos] at a6 a7 a8
  have b6 : ∀ p m, p < L.length → m < 16 → L.getD p 0 = 32 + m → op m = true ∧ (am_W L).2.1 p = sp m := by
    intro p m h1 h2 h3
    rcases a6 p m h1 h2 h3 with h | ⟨_, h⟩
    · cases h
    · rcases h with ⟨_, st', h⟩ | h
      · cases h
      · exact h
  have b7 : ∀ n, op n = true → g 0 n ≠ 0 → ca_i L op sp [] (am_W L).2.1 (cd_wy g n (g 2 n)) (sp n + (cd_wo g n).length) := by
    intro n h1 h2
    rcases a7 n h1 h2 with ⟨_, st', h⟩ | h
    · cases h
    · exact h
  have b8 : ∀ n, op n = true → cd_if g n → ca_i L op sp [] (am_W L).2.1 (cd_wy g n (g 3 n)) ((am_W L).2.1 (ca_p g sp n)) := by
    intro n h1 h2
    rcases a8 n h1 h2 with h | ⟨_, h⟩
    · cases h
    · rcases h with ⟨_, st', h⟩ | h
      · cases h
      · exact h
  have hi : ∀ n s q, s < 16 → ca_i L op sp [] (am_W L).2.1 (cd_wy g n s) q → op s = true ∧ cf_w L sp tg (cd_wy g n s) q := by
    intro n s q hs h
    have e := (cd_wy5 g n s).2.2
    unfold ca_i at h
    unfold cf_w
    rw [e] at h ⊢
    rcases h with h | h | h
    · exact ⟨h.2.1, Or.inl ⟨h.1, h.2.2⟩⟩
    · obtain ⟨k1, k2, _, k4, k5, k6⟩ := h
      refine ⟨k5, Or.inr ⟨Or.inl k1, k2, by rw [k4, k1], ?_⟩⟩
      rw [h0 q k2 (by rw [k4]; omega)]
      exact k6
    · obtain ⟨k1, k2, k3, k4⟩ := h
      obtain ⟨p, p1, p2, p3⟩ := h7 q s k2 hs k3 k4
      have := b6 p s (by omega) hs p2
      exact ⟨this.1, Or.inr ⟨Or.inr k1, k2, by rw [k3, k1], by rw [p3]; exact this.2⟩⟩
  have hall : ∀ n, gg_R g n → op n = true := by
    intro n hR
    refine gr_in (Q := fun n => op n = true) hR ?_ ?_
    · rcases a9 with h | h
      · exact h.1
      · cases h.2
    · intro x y hx hopx hE _
      have hw := W x
      rcases hE with ⟨e1, e2⟩ | ⟨e1, e2⟩
      · rw [← e2]; exact (hi x _ _ (by omega) (b7 x hopx (by omega))).1
      · by_cases e3 : g 2 x = g 3 x
        · rw [← e2, ← e3]; exact (hi x _ _ (by omega) (b7 x hopx (by omega))).1
        · rw [← e2]; exact (hi x _ _ (by omega) (b8 x hopx ⟨e1, e3⟩)).1
  refine ⟨fun n hR => a4 n (hall n hR), ?_, fun n hR hne => (hi n _ _ (W n).2.2.1 (b7 n (hall n hR) hne)).2, fun n hR hif => ?_⟩
  · rcases a9 with h | h
    · exact h.2
    · cases h.2
  · have hp := ca_if W A0 (hall n hR) hif
    have hw := W n
    rw [h0 _ hp.1 (by rw [hp.2.1]; omega)]
    exact (hi n _ _ (W n).2.2.2.1 (b8 n (hall n hR) hif)).2
end CF
end
section
section XR
variable {f_known f_seen f_many f_ordered f_isStraight f_entered f_todo f_length f_waiting f_tellings f_last f_stopped f_steps f_ran : Int32} {f_left : Int64} {a_acts a_actV a_actC a_ends a_endV a_endX a_endY a_numbers a_byNumber a_before a_forward a_backward a_orderOf a_at a_from a_semi a_label a_up a_found a_stack a_place a_chiefs a_tails a_edges a_rulers a_loops a_innermost a_outer a_deep a_alive a_values a_present a_code a_target a_pending a_pendingOf a_begins a_openAt a_vars a_told : Nat → Int32} {g : Nat → Nat → Nat}
/-! X: emit, later, isMeeting, way, open -/
def xc_C (ws : List Nat) (co : Nat → Int32) : Prop := ∀ j, j < ws.length → co j = nI (ws.getD j 0)
def xp_S : List (Nat × Nat × Nat) → (Nat → Int32) → (Nat → Int32) → Prop
  | [], _, _ => True
  | it :: st, pe, po => pe st.length = nI it.1 ∧ po st.length = nI it.2.1 ∧ xp_S st pe po
theorem xp_k {pe po pe' po' : Nat → Int32} : ∀ st : List (Nat × Nat × Nat), xp_S st pe po → (∀ i, i < st.length → pe' i = pe i ∧ po' i = po i) → xp_S st pe' po'
  | [], _, _ => trivial
  | it :: st, h, hk => by
    have h1 := hk st.length (by rw [List.length_cons]; omega)
    exact ⟨h1.1.trans h.1, h1.2.trans h.2.1, xp_k st h.2.2 (fun i hi => hk i (by rw [List.length_cons]; omega))⟩
theorem xc_e {ws : List Nat} {k n : Nat} {post : SX → Prop} (hc : xc_C ws a_code) (hl : ws.length < 260) (hk : 16 * k + n < 1024)
    (C : ∀ co : Nat → Int32, xc_C (ws ++ [16 * k + n]) co → post (f_known, f_seen, f_many, f_ordered, f_isStraight, f_entered, f_todo, nI (ws.length + 1), f_waiting, f_tellings, f_last, f_stopped, f_steps, f_left, f_ran, a_acts, a_actV, a_actC, a_ends, a_endV, a_endX, a_endY, a_numbers, a_byNumber, a_before, a_forward, a_backward, a_orderOf, a_at, a_from, a_semi, a_label, a_up, a_found, a_stack, a_place, a_chiefs, a_tails, a_edges, a_rulers, a_loops, a_innermost, a_outer, a_deep, a_alive, a_values, a_present, co, a_target, a_pending, a_pendingOf, a_begins, a_openAt, a_vars, a_told)) : (wpX_emit post (f_known, f_seen, f_many, f_ordered, f_isStraight, f_entered, f_todo, nI ws.length, f_waiting, f_tellings, f_last, f_stopped, f_steps, f_left, f_ran, a_acts, a_actV, a_actC, a_ends, a_endV, a_endX, a_endY, a_numbers, a_byNumber, a_before, a_forward, a_backward, a_orderOf, a_at, a_from, a_semi, a_label, a_up, a_found, a_stack, a_place, a_chiefs, a_tails, a_edges, a_rulers, a_loops, a_innermost, a_outer, a_deep, a_alive, a_values, a_present, a_code, a_target, a_pending, a_pendingOf, a_begins, a_openAt, a_vars, a_told) (nI k) (nI n)) := by
  refine nm_r (nI_1 _) (And.intro (vp_in_nI hl (by omega)) (nm_r (e' := upd a_code ws.length (nI (16 * k + n))) ?_ (C _ ?_)))
  · rw [show (nI k * 16 + nI n : Int32) = nI (16 * k + n) from by
      rw [show (nI k * 16 : Int32) = nI k * nI 16 from rfl, pk_mul, nI_add, Nat.mul_comm], bs_vss hk, xg_u (by omega)]
  · intro j hj
    rw [List.length_append, List.length_singleton] at hj
    by_cases e : j = ws.length
    · subst e
      rw [pk_us, gw_0]; rfl
    · rw [pk_un e, gw_l _ _ _ (by omega)]
      exact hc j (by omega)
theorem xc_l {st : List (Nat × Nat × Nat)} {k n : Nat} (i : Nat) {post : SX → Prop} (hs : xp_S st a_pending a_pendingOf) (hl : st.length < 160) (hk : k < 128) (hn : n < 128)
    (C : ∀ pe po : Nat → Int32, xp_S ((k, n, i) :: st) pe po → post (f_known, f_seen, f_many, f_ordered, f_isStraight, f_entered, f_todo, f_length, nI (st.length + 1), f_tellings, f_last, f_stopped, f_steps, f_left, f_ran, a_acts, a_actV, a_actC, a_ends, a_endV, a_endX, a_endY, a_numbers, a_byNumber, a_before, a_forward, a_backward, a_orderOf, a_at, a_from, a_semi, a_label, a_up, a_found, a_stack, a_place, a_chiefs, a_tails, a_edges, a_rulers, a_loops, a_innermost, a_outer, a_deep, a_alive, a_values, a_present, a_code, a_target, pe, po, a_begins, a_openAt, a_vars, a_told)) : (wpX_later post (f_known, f_seen, f_many, f_ordered, f_isStraight, f_entered, f_todo, f_length, nI st.length, f_tellings, f_last, f_stopped, f_steps, f_left, f_ran, a_acts, a_actV, a_actC, a_ends, a_endV, a_endX, a_endY, a_numbers, a_byNumber, a_before, a_forward, a_backward, a_orderOf, a_at, a_from, a_semi, a_label, a_up, a_found, a_stack, a_place, a_chiefs, a_tails, a_edges, a_rulers, a_loops, a_innermost, a_outer, a_deep, a_alive, a_values, a_present, a_code, a_target, a_pending, a_pendingOf, a_begins, a_openAt, a_vars, a_told) (nI k) (nI n)) := by
  refine And.intro (vp_in_nI hl (by omega)) (nm_r (e' := upd a_pending st.length (nI k)) (by rw [bs_vbb hk, xg_u (by omega)]) (nm_r (nI_1 _) (And.intro (vp_in_nI hl (by omega)) (nm_r (e' := upd a_pendingOf st.length (nI n)) (by rw [bs_vbb hn, xg_u (by omega)]) (C _ _ ?_)))))
  exact ⟨pk_us, pk_us, xp_k st hs (fun j hj => ⟨pk_un (by omega), pk_un (by omega)⟩)⟩
theorem xc_m (W : gg_W g) (hn : xn_N g f_seen f_many a_byNumber a_numbers) (hB : xr_B g a_before) {s : Nat} (hs : gg_R g s) {post : Int32 → Prop} (h1 : gg_M g s → post 1) (h0 : ¬ gg_M g s → post 0) : (wpX_isMeeting post (f_known, f_seen, f_many, f_ordered, f_isStraight, f_entered, f_todo, f_length, f_waiting, f_tellings, f_last, f_stopped, f_steps, f_left, f_ran, a_acts, a_actV, a_actC, a_ends, a_endV, a_endX, a_endY, a_numbers, a_byNumber, a_before, a_forward, a_backward, a_orderOf, a_at, a_from, a_semi, a_label, a_up, a_found, a_stack, a_place, a_chiefs, a_tails, a_edges, a_rulers, a_loops, a_innermost, a_outer, a_deep, a_alive, a_values, a_present, a_code, a_target, a_pending, a_pendingOf, a_begins, a_openAt, a_vars, a_told) (nI s)) := by
  have hs16 := gg_R16 W hs
  have hlen := df_ln W
  have hnum : ∀ m, gg_R g m → gg_n g m < 16 := fun m hm => by have := (gg_nl W hm).1; omega
  refine And.intro (xg_i hs16) (nm_r (e' := a_before s) (by rw [nI_clamp (by omega)]) ⟨17, ?_⟩)
  refine bs_lp (σ := Int32) (fun n x t => (wX_isMeeting_9 post (nI s) f_known f_seen f_many f_ordered f_isStraight f_entered f_todo f_length f_waiting f_tellings f_last f_stopped f_steps f_left f_ran a_acts a_actV a_actC a_ends a_endV a_endX a_endY a_numbers a_byNumber a_before a_forward a_backward a_orderOf a_at a_from a_semi a_label a_up a_found a_stack a_place a_chiefs a_tails a_edges a_rulers a_loops a_innermost a_outer a_deep a_alive a_values a_present a_code a_target a_pending a_pendingOf a_begins a_openAt a_vars a_told n t x)) (a_before s) 16 (fun i hi => ts_nt (fun h => by have := gg_R16 W ((hB s hs16 i).mp h).1; omega))
    (fun j t => t = nI (ct_c (fun p => pd_b (gg_R g p ∧ gg_E g p s ∧ gg_n g p < gg_n g s)) j)) ?_ ?_ ?_ 0 rfl 17 (by omega)
  · intro n t ht
    subst ht
    have hc := ct_le (fun p => pd_b (gg_R g p ∧ gg_E g p s ∧ gg_n g p < gg_n g s)) 16
    refine br_t rfl ?_
    by_cases hM : gg_M g s
    · exact br_f (nI_ge (a := 1) hM (by omega)) (h1 hM)
    · exact br_t (nI_le (b := 1) (by unfold gg_M gg_mc at hM; omega) (by omega)) (h0 hM)
  · intro i t hi hbi ht
    rw [ht]
    show nI _ = nI (ct_c _ i + (if pd_b (gg_R g i ∧ gg_E g i s ∧ gg_n g i < gg_n g s) = true then 1 else 0))
    rw [if_neg]
    · rfl
    · intro h
      have := (pd_i _).mp h
      rw [(hB s hs16 i).mpr ⟨this.1, this.2.1⟩] at hbi
      cases hbi
  · intro n x i t hi hbi hx hxi hxm ht ih
    have hp := (hB s hs16 i).mp hbi
    have e1 : a_numbers (nI s).toNatClampNeg = nI (gg_n g s) := by rw [nI_clamp (by omega), hn.2.2.2 s hs]
    have e2 : a_numbers (nI i).toNatClampNeg = nI (gg_n g i) := by rw [nI_clamp (by omega), hn.2.2.2 i hp.1]
    have hns := hnum s hs
    have hni := hnum i hp.1
    refine br_f hx (bs_lw hxi hxm (And.intro (xg_i hi) (And.intro (xg_i hs16) ?_)))
    by_cases hle : gg_n g s ≤ gg_n g i
    · refine br_t (by rw [e1, e2]; exact nI_le hle (by omega)) (nm_e (ih t ?_))
      rw [ht]
      show nI _ = nI (ct_c _ i + (if pd_b (gg_R g i ∧ gg_E g i s ∧ gg_n g i < gg_n g s) = true then 1 else 0))
      rw [if_neg]
      · rfl
      · intro h
        have := (pd_i _).mp h
        omega
    · refine br_f (by rw [e1, e2]; exact nI_ge (by omega) (by omega)) (nm_e (nm_e (ih _ ?_)))
      rw [ht, nI_1]
      show nI _ = nI (ct_c _ i + (if pd_b (gg_R g i ∧ gg_E g i s ∧ gg_n g i < gg_n g s) = true then 1 else 0))
      rw [if_pos (pd_t ⟨hp.1, hp.2, by omega⟩)]
theorem xc_w (W : gg_W g) (hn : xn_N g f_seen f_many a_byNumber a_numbers) (hB : xr_B g a_before) {n s : Nat} (hR : gg_R g n) (hE : gg_E g n s) {st : List (Nat × Nat × Nat)} (hst : xp_S st a_pending a_pendingOf) (hl : st.length < 160) {post : SX → Prop}
    (C : ∀ pe po : Nat → Int32, xp_S (cd_wy g n s :: st) pe po → post (f_known, f_seen, f_many, f_ordered, f_isStraight, f_entered, f_todo, f_length, nI (st.length + 1), f_tellings, f_last, f_stopped, f_steps, f_left, f_ran, a_acts, a_actV, a_actC, a_ends, a_endV, a_endX, a_endY, a_numbers, a_byNumber, a_before, a_forward, a_backward, a_orderOf, a_at, a_from, a_semi, a_label, a_up, a_found, a_stack, a_place, a_chiefs, a_tails, a_edges, a_rulers, a_loops, a_innermost, a_outer, a_deep, a_alive, a_values, a_present, a_code, a_target, pe, po, a_begins, a_openAt, a_vars, a_told)) : (wpX_way post (f_known, f_seen, f_many, f_ordered, f_isStraight, f_entered, f_todo, f_length, nI st.length, f_tellings, f_last, f_stopped, f_steps, f_left, f_ran, a_acts, a_actV, a_actC, a_ends, a_endV, a_endX, a_endY, a_numbers, a_byNumber, a_before, a_forward, a_backward, a_orderOf, a_at, a_from, a_semi, a_label, a_up, a_found, a_stack, a_place, a_chiefs, a_tails, a_edges, a_rulers, a_loops, a_innermost, a_outer, a_deep, a_alive, a_values, a_present, a_code, a_target, a_pending, a_pendingOf, a_begins, a_openAt, a_vars, a_told) (nI n) (nI s)) := by
  have hRs : gg_R g s := gr_st hR hE trivial
  have hn16 := gg_R16 W hR
  have hs16 := gg_R16 W hRs
  have hlen := df_ln W
  have hnum : ∀ m, gg_R g m → gg_n g m < 16 := fun m hm => by have := (gg_nl W hm).1; omega
  have h1 := hnum n hR
  have h2 := hnum s hRs
  have e1 : a_numbers (nI s).toNatClampNeg = nI (gg_n g s) := by rw [nI_clamp (by omega), hn.2.2.2 s hRs]
  have e2 : a_numbers (nI n).toNatClampNeg = nI (gg_n g n) := by rw [nI_clamp (by omega), hn.2.2.2 n hR]
  refine And.intro (xg_i hs16) (And.intro (xg_i hn16) ?_)
  rcases cd_wyc g n s with ⟨e, h⟩ | ⟨e, h, hM⟩ | ⟨e, h, hM⟩
  · rw [e] at C
    exact br_f (by rw [e1, e2]; exact nI_nlt h (by omega)) (xc_l 0 hst hl (k := 6) (by omega) (by omega) C)
  · rw [e] at C
    refine br_t (by rw [e1, e2]; exact nI_lt h (by omega)) (xc_m W hn hB hRs (fun _ => ?_) (fun h => absurd hM h))
    exact br_f (by decide) (xc_l 0 hst hl (k := 7) (by omega) (by omega) C)
  · rw [e] at C
    refine br_t (by rw [e1, e2]; exact nI_lt h (by omega)) (xc_m W hn hB hRs (fun h => absurd h hM) (fun _ => ?_))
    exact br_t rfl (xc_l 0 hst hl (k := 0) (by omega) (by omega) C)
theorem cd_pbs : ∀ (ms : List Nat) (m : Nat), cd_pb (ms ++ [m]) = (5, 0, m + 1) :: (0, m, 0) :: cd_pb ms
  | [], m => rfl
  | a :: ms, m => by
    show cd_pb (ms ++ [m]) ++ [(5, 0, a + 1), (0, a, 0)] = _
    rw [cd_pbs ms m]; rfl
theorem cd_m0 (W : gg_W g) {n k : Nat} (hn : gg_R g n) (hk : k ≤ gg_n g n) (hl : k + 1 ≤ (df_o g).length) : cd_m g n (k + 1) = [] := by
  cases h : cd_m g n (k + 1) with
  | nil => rfl
  | cons m ms =>
    have hm : m ∈ cd_m g n (k + 1) := by rw [h]; exact List.mem_cons_self
    have := (cd_mi W n m (k + 1) hl).mp hm
    have := gg_nD W this.1 this.2.2.1.2.1 this.2.2.1.1
    omega
def xc_H (g : Nat → Nat → Nat) (ch : Nat → Int32) : Prop := xr_C g ch
theorem xc_28 (W : gg_W g) (G : (xg_G g a_acts a_actV a_actC a_ends a_endV a_endX a_endY)) (hn : xn_N g f_seen f_many a_byNumber a_numbers) (hB : xr_B g a_before) (hC : xr_C g a_chiefs) {n : Nat} (hR : gg_R g n) {st1 : List (Nat × Nat × Nat)} {ws1 : List Nat} {post : SX → Prop}
    (hroom : st1.length + (cd_pw g n ++ cd_pb (cd_ms g n)).length ≤ 160) (hroom2 : ws1.length + (cd_ms g n).length + 2 ≤ 260)
    (C : ∀ co pe po : Nat → Int32, xc_C (ws1 ++ ((cd_ms g n).map (fun m => 32 + m) ++ (n :: (if g 0 n = 0 then [128] else if g 0 n = 1 ∨ g 2 n = g 3 n then [] else [48 + g 1 n])))) co → xp_S (cd_pw g n ++ (cd_pb (cd_ms g n) ++ st1)) pe po →
      post (f_known, f_seen, f_many, f_ordered, f_isStraight, f_entered, f_todo, nI (ws1 ++ ((cd_ms g n).map (fun m => 32 + m) ++ (n :: (if g 0 n = 0 then [128] else if g 0 n = 1 ∨ g 2 n = g 3 n then [] else [48 + g 1 n])))).length, nI (cd_pw g n ++ (cd_pb (cd_ms g n) ++ st1)).length, f_tellings, f_last, f_stopped, f_steps, f_left, f_ran, a_acts, a_actV, a_actC, a_ends, a_endV, a_endX, a_endY, a_numbers, a_byNumber, a_before, a_forward, a_backward, a_orderOf, a_at, a_from, a_semi, a_label, a_up, a_found, a_stack, a_place, a_chiefs, a_tails, a_edges, a_rulers, a_loops, a_innermost, a_outer, a_deep, a_alive, a_values, a_present, co, a_target, pe, po, a_begins, a_openAt, a_vars, a_told)) :
    ∀ (f k : Nat) (pre : List Nat) (co pe po : Nat → Int32), k < f → k + 1 ≤ (df_o g).length → gg_n g n ≤ k → pre ++ cd_m g n (k + 1) = cd_ms g n → xc_C (ws1 ++ pre.map (fun m => 32 + m)) co → xp_S (cd_pb pre ++ st1) pe po →
      (wX_open_28 post (nI n) f (nI k) f_known f_seen f_many f_ordered f_isStraight f_entered f_todo (nI (ws1 ++ pre.map (fun m => 32 + m)).length) (nI (cd_pb pre ++ st1).length) f_tellings f_last f_stopped f_steps f_left f_ran a_acts a_actV a_actC a_ends a_endV a_endX a_endY a_numbers a_byNumber a_before a_forward a_backward a_orderOf a_at a_from a_semi a_label a_up a_found a_stack a_place a_chiefs a_tails a_edges a_rulers a_loops a_innermost a_outer a_deep a_alive a_values a_present co a_target pe po a_begins a_openAt a_vars a_told) := by
  have hn16 := gg_R16 W hR
  have hw := W n
  have hG := G n hn16
  have hlen := df_ln W
  have hnn : gg_n g n < 16 := by have := (gg_nl W hR).1; omega
  have e0 : a_ends (nI n).toNatClampNeg = nI (g 0 n) := by rw [nI_clamp (by omega), hG.1]
  have e1 : a_endV (nI n).toNatClampNeg = nI (g 1 n) := by rw [nI_clamp (by omega), hG.2.1]
  have e2 : a_endX (nI n).toNatClampNeg = nI (g 2 n) := by rw [nI_clamp (by omega), hG.2.2.1]
  have e3 : a_endY (nI n).toNatClampNeg = nI (g 3 n) := by rw [nI_clamp (by omega), hG.2.2.2.1]
  have en : a_numbers (nI n).toNatClampNeg = nI (gg_n g n) := by rw [nI_clamp (by omega), hn.2.2.2 n hR]
  rw [List.length_append] at hroom
  have hpbl := cd_pbl (cd_ms g n)
  intro f
  induction f with
  | zero => intro k pre co pe po h; omega
  | succ f ih =>
    intro k pre co pe po hf hk hkn hpre hco hst
    have hprel : pre.length + (cd_m g n (k + 1)).length = (cd_ms g n).length := by rw [← hpre, List.length_append]
    have hlw : (ws1 ++ pre.map (fun m => 32 + m)).length = ws1.length + pre.length := by rw [List.length_append, List.length_map]
    have hls : (cd_pb pre ++ st1).length = 2 * pre.length + st1.length := by rw [List.length_append, cd_pbl]
    refine And.intro (xg_i hn16) ?_
    by_cases hle : k ≤ gg_n g n
    · have hem := cd_m0 W hR hle hk
      rw [hem, List.append_nil] at hpre
      subst hpre
      refine br_t (by rw [en]; exact nI_le hle (by omega)) ?_
      refine xc_e (k := 0) hco (by omega) (by omega) ?_
      intro co1 hco1
      rw [Nat.mul_zero, Nat.zero_add] at hco1
      have hl1 : nI ((ws1 ++ (cd_ms g n).map (fun m => 32 + m)).length + 1) = nI ((ws1 ++ (cd_ms g n).map (fun m => 32 + m)) ++ [n]).length := by rw [List.length_append (bs := [n])]; rfl
      rw [hl1]
      have hl2 : ((ws1 ++ (cd_ms g n).map (fun m => 32 + m)) ++ [n]).length = ws1.length + (cd_ms g n).length + 1 := by rw [List.length_append, hlw]; rfl
      have ews : ∀ tl : List Nat, ws1 ++ ((cd_ms g n).map (fun m => 32 + m) ++ (n :: tl)) = ((ws1 ++ (cd_ms g n).map (fun m => 32 + m)) ++ [n]) ++ tl := by
        intro tl
        rw [List.append_assoc, List.append_assoc]; rfl
      rw [ews] at C
      refine And.intro (xg_i hn16) (nm_r e2 (And.intro (xg_i hn16) ?_))
      by_cases k0 : g 0 n = 0
      · rw [if_pos k0] at C
        have epw : cd_pw g n = [] := by unfold cd_pw; rw [if_pos k0]
        rw [epw] at C
        refine br_t (by rw [e0, k0]; rfl) (xc_e (k := 8) (n := 0) hco1 (by omega) (by omega) ?_)
        intro co2 hco2
        have h3 := C co2 pe po hco2 hst
        rw [List.length_append (bs := [128])] at h3
        exact h3
      · rw [if_neg k0] at C
        have hEx : gg_E g n (g 2 n) := Or.inl ⟨by omega, rfl⟩
        refine br_f (by rw [e0]; exact nI_ne0 (by omega) (by omega)) (And.intro (xg_i hn16) ?_)
        by_cases k1 : g 0 n = 1 ∨ g 2 n = g 3 n
        · rw [if_pos k1, List.append_nil] at C
          have epw : cd_pw g n = [cd_wy g n (g 2 n)] := by unfold cd_pw; rw [if_neg k0, if_pos k1]
          rw [epw] at C hroom
          have hone : [cd_wy g n (g 2 n)].length = 1 := rfl
          have go := xc_w (f_length := nI ((ws1 ++ (cd_ms g n).map (fun m => 32 + m)) ++ [n]).length) (a_code := co1) (post := post) W hn hB hR hEx hst (by omega) (fun pe' po' h => C co1 pe' po' hco1 h)
          by_cases k1a : g 0 n = 1
          · exact br_t (by rw [e0, k1a]; rfl) go
          · refine br_f (by rw [e0]; exact fun e => k1a (bs_inj (b := 1) e (by omega) (by omega))) (And.intro (xg_i hn16) (br_t (by rw [e3]; exact congrArg nI (by omega)) go))
        · rw [if_neg k1] at C
          have k1a : ¬ g 0 n = 1 := fun h => k1 (Or.inl h)
          have k1b : ¬ g 2 n = g 3 n := fun h => k1 (Or.inr h)
          have hEy : gg_E g n (g 3 n) := Or.inr ⟨by omega, rfl⟩
          have epw : cd_pw g n = [cd_wy g n (g 2 n), (4, 0, n), cd_wy g n (g 3 n), (5, 0, 0)] := by unfold cd_pw; rw [if_neg k0, if_neg k1]
          rw [epw] at C hroom
          have hone : [cd_wy g n (g 2 n), (4, 0, n), cd_wy g n (g 3 n), (5, 0, 0)].length = 4 := rfl
          refine br_f (by rw [e0]; exact fun e => k1a (bs_inj (b := 1) e (by omega) (by omega))) (And.intro (xg_i hn16) (br_f (by rw [e3]; exact fun e => k1b (bs_inj e (by omega) (by omega))) (And.intro (xg_i hn16) ?_)))
          rw [e1]
          refine xc_e (k := 3) hco1 (by omega) (by omega) ?_
          intro co2 hco2
          refine xc_l 0 (k := 5) (n := 0) hst (by omega) (by omega) (by omega) ?_
          intro pe1 po1 hs1
          refine And.intro (xg_i hn16) ?_
          rw [e3]
          refine xc_w (st := (5, 0, 0) :: (cd_pb (cd_ms g n) ++ st1)) W hn hB hR hEy hs1 (by rw [List.length_cons]; omega) ?_
          intro pe2 po2 hs2
          refine xc_l n (k := 4) (n := 0) (st := cd_wy g n (g 3 n) :: (5, 0, 0) :: (cd_pb (cd_ms g n) ++ st1)) hs2 (by rw [List.length_cons, List.length_cons]; omega) (by omega) (by omega) ?_
          intro pe3 po3 hs3
          refine xc_w (st := (4, 0, n) :: cd_wy g n (g 3 n) :: (5, 0, 0) :: (cd_pb (cd_ms g n) ++ st1)) W hn hB hR hEx hs3 (by rw [List.length_cons, List.length_cons, List.length_cons]; omega) ?_
          intro pe4 po4 hs4
          have h3 := C co2 pe4 po4 hco2 hs4
          rw [List.length_append (bs := [48 + g 1 n])] at h3
          exact h3
    · have hk2 : k < (df_o g).length := by omega
      have hgn := gg_ng W hk2
      have hx16 := gg_R16 W hgn.1
      have hbn : a_byNumber (nI k).toNatClampNeg = nI ((df_o g).getD k 0) := by rw [nI_clamp (by omega), hn.2.2.1 k hk2]
      obtain ⟨k', rfl⟩ : ∃ k', k = k' + 1 := ⟨k - 1, by omega⟩
      refine br_f (by rw [en]; exact nI_ge (by omega) (by omega)) (And.intro (xg_i (by omega)) (nm_r hbn (And.intro (xg_i hx16) ?_)))
      have hcm : cd_m g n (k' + 1 + 1) = if pd_b (dm_I (gg_E g) 0 n ((df_o g).getD (k' + 1) 0) ∧ gg_M g ((df_o g).getD (k' + 1) 0)) = true then (df_o g).getD (k' + 1) 0 :: cd_m g n (k' + 1) else cd_m g n (k' + 1) := rfl
      rw [hcm] at hpre
      rw [hcm] at hprel
      generalize hx : (df_o g).getD (k' + 1) 0 = x at *
      have ecx : a_chiefs (nI x).toNatClampNeg = a_chiefs x := by rw [nI_clamp (by omega)]
      have skip : ¬ (dm_I (gg_E g) 0 n x ∧ gg_M g x) → (wX_open_28 post (nI n) f (nI k') f_known f_seen f_many f_ordered f_isStraight f_entered f_todo (nI (ws1 ++ pre.map (fun m => 32 + m)).length) (nI (cd_pb pre ++ st1).length) f_tellings f_last f_stopped f_steps f_left f_ran a_acts a_actV a_actC a_ends a_endV a_endX a_endY a_numbers a_byNumber a_before a_forward a_backward a_orderOf a_at a_from a_semi a_label a_up a_found a_stack a_place a_chiefs a_tails a_edges a_rulers a_loops a_innermost a_outer a_deep a_alive a_values a_present co a_target pe po a_begins a_openAt a_vars a_told) := by
        intro hno
        rw [if_neg (by rw [pd_f hno]; exact Bool.noConfusion)] at hpre
        exact ih k' pre co pe po (by omega) (by omega) (by omega) hpre hco hst
      have hchx : a_chiefs x = nI n ↔ dm_I (gg_E g) 0 n x := by
        rcases hC x hx16 with ⟨h1, h2⟩ | ⟨d, h1, h2, h3, h4, h5⟩
        · rw [h1]
          constructor
          · intro h; exact absurd h (bs_ne' (by omega))
          · intro h
            rcases h2 with h2 | h2
            · exact absurd hgn.1 h2
            · exfalso
              rw [h2] at h
              exact h.1 (dm_rt h.2.1)
        · rw [h2]
          constructor
          · intro h
            have := bs_inj h (by omega) (by omega)
            subst this
            exact h5
          · intro h
            rw [dm_un h3 h5 h]
      by_cases hI : dm_I (gg_E g) 0 n x
      · refine br_t (by rw [ecx]; exact hchx.mpr hI) (xc_m W hn hB hgn.1 ?_ ?_)
        · intro hM
          rw [if_pos (pd_t ⟨hI, hM⟩)] at hpre hprel
          rw [List.length_cons] at hprel
          refine br_f (by decide) ?_
          refine xc_e (k := 2) hco (by omega) (by omega) ?_
          intro co1 hco1
          refine xc_l 0 (k := 0) hst (by omega) (by omega) (by omega) ?_
          intro pe1 po1 hs1
          refine xc_l (x + 1) (k := 5) (n := 0) (st := (0, x, 0) :: (cd_pb pre ++ st1)) hs1 (by rw [List.length_cons]; omega) (by omega) (by omega) ?_
          intro pe2 po2 hs2
          have ew : (ws1 ++ pre.map (fun m => 32 + m)) ++ [16 * 2 + x] = ws1 ++ (pre ++ [x]).map (fun m => 32 + m) := by
            rw [List.map_append, List.append_assoc]; rfl
          have es : (5, 0, x + 1) :: (0, x, 0) :: (cd_pb pre ++ st1) = cd_pb (pre ++ [x]) ++ st1 := by rw [cd_pbs]; rfl
          have el : nI ((ws1 ++ pre.map (fun m => 32 + m)).length + 1) = nI (ws1 ++ (pre ++ [x]).map (fun m => 32 + m)).length := by rw [← ew, List.length_append (bs := [16 * 2 + x])]; rfl
          have el2 : nI (((0, x, 0) :: (cd_pb pre ++ st1)).length + 1) = nI (cd_pb (pre ++ [x]) ++ st1).length := by rw [← es]; rfl
          rw [ew] at hco1
          rw [es] at hs2
          refine nm_r (pk_m1 k') ?_
          rw [el, el2]
          exact ih k' (pre ++ [x]) co1 pe2 po2 (by omega) (by omega) (by omega) (by rw [List.append_assoc]; exact hpre) hco1 hs2
        · intro hM
          exact br_t rfl (nm_r (pk_m1 k') (skip (fun h => hM h.2)))
      · refine br_f (by rw [ecx]; exact fun h => hI (hchx.mp h)) (nm_r (pk_m1 k') (skip (fun h => hI h.1)))
theorem xc_o (W : gg_W g) (G : (xg_G g a_acts a_actV a_actC a_ends a_endV a_endX a_endY)) (hn : xn_N g f_seen f_many a_byNumber a_numbers) (hB : xr_B g a_before) (hC : xr_C g a_chiefs) (hL : xl_Lo g 0 a_loops) {n : Nat} (hR : gg_R g n) {st : List (Nat × Nat × Nat)} {ws : List Nat} {post : SX → Prop}
    (hroom : st.length + (cd_pu g n).length ≤ 160) (hroom2 : ws.length + (cd_ms g n).length + 3 ≤ 260) (hc : xc_C ws a_code) (hs : xp_S st a_pending a_pendingOf)
    (C : ∀ co pe po : Nat → Int32, xc_C (ws ++ cd_wo g n) co → xp_S (cd_pu g n ++ st) pe po → post (f_known, f_seen, f_many, f_ordered, f_isStraight, f_entered, f_todo, nI (ws ++ cd_wo g n).length, nI (cd_pu g n ++ st).length, f_tellings, f_last, f_stopped, f_steps, f_left, f_ran, a_acts, a_actV, a_actC, a_ends, a_endV, a_endX, a_endY, a_numbers, a_byNumber, a_before, a_forward, a_backward, a_orderOf, a_at, a_from, a_semi, a_label, a_up, a_found, a_stack, a_place, a_chiefs, a_tails, a_edges, a_rulers, a_loops, a_innermost, a_outer, a_deep, a_alive, a_values, a_present, co, a_target, pe, po, a_begins, a_openAt, a_vars, a_told)) :
    (wpX_open post (f_known, f_seen, f_many, f_ordered, f_isStraight, f_entered, f_todo, nI ws.length, nI st.length, f_tellings, f_last, f_stopped, f_steps, f_left, f_ran, a_acts, a_actV, a_actC, a_ends, a_endV, a_endX, a_endY, a_numbers, a_byNumber, a_before, a_forward, a_backward, a_orderOf, a_at, a_from, a_semi, a_label, a_up, a_found, a_stack, a_place, a_chiefs, a_tails, a_edges, a_rulers, a_loops, a_innermost, a_outer, a_deep, a_alive, a_values, a_present, a_code, a_target, a_pending, a_pendingOf, a_begins, a_openAt, a_vars, a_told) (nI n)) := by
  have hn16 := gg_R16 W hR
  have hlen := df_ln W
  have hnn := (gg_nl W hR).1
  have hmany := hn.2.1
  have ems : [] ++ cd_m g n ((df_o g).length - 1 + 1) = cd_ms g n := by
    rw [show (df_o g).length - 1 + 1 = (df_o g).length by omega]; rfl
  have em : f_many - 1 = nI ((df_o g).length - 1) := by rw [hmany]; exact bs_sub1 (by omega)
  have elo : a_loops (nI n).toNatClampNeg = a_loops n := by rw [nI_clamp (by omega)]
  refine And.intro (xg_i hn16) ?_
  by_cases hH : gg_H g n
  · have ewo : cd_wo g n = [16 + n] ++ ((cd_ms g n).map (fun m => 32 + m) ++ (n :: (if g 0 n = 0 then [128] else if g 0 n = 1 ∨ g 2 n = g 3 n then [] else [48 + g 1 n]))) := by unfold cd_wo; rw [if_pos (pd_t hH)]
    have epu : cd_pu g n = cd_pw g n ++ (cd_pb (cd_ms g n) ++ [(5, 0, 0)]) := by unfold cd_pu; rw [if_pos (pd_t hH)]
    rw [epu, List.length_append, List.length_append] at hroom
    have hlnz : ¬ a_loops n = 0 := by
      intro h
      have := (hL n hn16 n).mpr ⟨gl_h.mp hH, Nat.zero_le _⟩
      rw [h, b_0] at this
      cases this
    refine br_f (by rw [elo]; exact hlnz) ?_
    refine xc_e (k := 1) hc (by omega) (by omega) ?_
    intro co1 hco1
    have h1 : [((5 : Nat), (0 : Nat), (0 : Nat))].length = 1 := rfl
    refine xc_l 0 (k := 5) (n := 0) hs (by omega) (by omega) (by omega) ?_
    intro pe1 po1 hs1
    refine nm_r em ⟨(df_o g).length, ?_⟩
    have el : nI (ws.length + 1) = nI ((ws ++ [16 + n]) ++ ([] : List Nat).map (fun m => 32 + m)).length := by rw [List.map_nil, List.append_nil, List.length_append]; rfl
    rw [el]
    refine xc_28 (st1 := (5, 0, 0) :: st) (ws1 := ws ++ [16 + n]) W G hn hB hC hR (by rw [List.length_append, List.length_cons]; omega) (by rw [List.length_append]; show ws.length + 1 + _ + 2 ≤ 260; omega) ?_ (df_o g).length ((df_o g).length - 1) [] co1 pe1 po1 (by omega) (by omega) (by omega) ems ?_ hs1
    · intro co pe po h1 h2
      have f1 : ws ++ cd_wo g n = (ws ++ [16 + n]) ++ ((cd_ms g n).map (fun m => 32 + m) ++ (n :: (if g 0 n = 0 then [128] else if g 0 n = 1 ∨ g 2 n = g 3 n then [] else [48 + g 1 n]))) := by rw [ewo, ← List.append_assoc]
      have f2 : cd_pu g n ++ st = cd_pw g n ++ (cd_pb (cd_ms g n) ++ (5, 0, 0) :: st) := by rw [epu, List.append_assoc, List.append_assoc]; rfl
      have h3 := C co pe po (by rw [f1]; exact h1) (by rw [f2]; exact h2)
      rw [f1, f2] at h3
      exact h3
    · rw [List.map_nil, List.append_nil]
      exact hco1
  · have ewo : cd_wo g n = (cd_ms g n).map (fun m => 32 + m) ++ (n :: (if g 0 n = 0 then [128] else if g 0 n = 1 ∨ g 2 n = g 3 n then [] else [48 + g 1 n])) := by
      unfold cd_wo; rw [if_neg (by rw [pd_f hH]; exact Bool.noConfusion), List.nil_append]
    have epu : cd_pu g n = cd_pw g n ++ cd_pb (cd_ms g n) := by unfold cd_pu; rw [if_neg (by rw [pd_f hH]; exact Bool.noConfusion), List.append_nil]
    rw [epu, List.length_append] at hroom
    have hlz : a_loops n = 0 := by
      apply bs_z
      intro i _
      exact ts_nt (fun h => hH (gl_H ((hL n hn16 i).mp h).1))
    refine br_t (by rw [elo]; exact hlz) (nm_r em ⟨(df_o g).length, ?_⟩)
    have h0 : ([] : List (Nat × Nat × Nat)).length = 0 := rfl
    have el : nI ws.length = nI (ws ++ ([] : List Nat).map (fun m => 32 + m)).length := by rw [List.map_nil, List.append_nil]
    rw [el]
    refine xc_28 (st1 := st) (ws1 := ws) W G hn hB hC hR (by rw [List.length_append]; omega) (by omega) ?_ (df_o g).length ((df_o g).length - 1) [] a_code a_pending a_pendingOf (by omega) (by omega) (by omega) ems ?_ hs
    · intro co pe po h1 h2
      have f2 : cd_pu g n ++ st = cd_pw g n ++ (cd_pb (cd_ms g n) ++ st) := by rw [epu, List.append_assoc]
      have h3 := C co pe po (by rw [ewo]; exact h1) (by rw [f2]; exact h2)
      rw [ewo, f2] at h3
      exact h3
    · rw [List.map_nil, List.append_nil]
      exact hc
end XR
end
section
section XS
/-! words taken apart -/
theorem xi_4 {w : Nat} (h : w < 256) : nI w >>> ((4 : Int32) &&& 31) = nI (w / 16) := pk_shrN (by omega) _ 4 (by decide)
theorem xi_15 {w : Nat} (h : w < 256) : nI w &&& 15 = nI (w % 16) := pk_andN (by omega) 4 (by decide)
theorem xi_t (L : List Nat) {i : Nat} (h : i < L.length) : L.take (i + 1) = L.take i ++ [L.getD i 0] := by
  rw [List.take_add_one, List.getD_eq_getElem?_getD, List.getElem?_eq_getElem h]
  rfl
theorem xi_l (L : List Nat) {i : Nat} (h : i < L.length) : (L.take i).length = i := by rw [List.length_take]; omega
def ao_R : List Nat → (Nat → Int32) → Prop
  | [], _ => True
  | p :: os, oa => oa os.length = nI p ∧ ao_R os oa
theorem ao_k {oa oa' : Nat → Int32} : ∀ os : List Nat, ao_R os oa → (∀ i, i < os.length → oa' i = oa i) → ao_R os oa'
  | [], _, _ => trivial
  | p :: os, h, hk => ⟨(hk os.length (by rw [List.length_cons]; omega)).trans h.1, ao_k os h.2 (fun i hi => hk i (by rw [List.length_cons]; omega))⟩
/-- what aim's first pass keeps -/
def xi_I (L : List Nat) (k : Nat) (ta be oa : Nat → Int32) : Prop :=
  ao_R (am_W (L.take k)).1 oa ∧ (∀ p, p < k → ta p = nI ((am_W (L.take k)).2.1 p) ∧ (am_W (L.take k)).2.1 p < 300) ∧ (∀ n p, p < k → n < 16 → L.getD p 0 = 16 + n → be n = nI ((am_W (L.take k)).2.2 n) ∧ (am_W (L.take k)).2.2 n < 300)
end XS
section XT
variable {f_known f_seen f_many f_ordered f_isStraight f_entered f_todo f_length f_waiting f_tellings f_last f_stopped f_steps f_ran : Int32} {f_left : Int64} {a_acts a_actV a_actC a_ends a_endV a_endX a_endY a_numbers a_byNumber a_before a_forward a_backward a_orderOf a_at a_from a_semi a_label a_up a_found a_stack a_place a_chiefs a_tails a_edges a_rulers a_loops a_innermost a_outer a_deep a_alive a_values a_present a_code a_target a_pending a_pendingOf a_begins a_openAt a_vars a_told : Nat → Int32} {g : Nat → Nat → Nat}
theorem xi_4l {L : List Nat} (hl : L.length ≤ 260) (hc : xc_C L a_code) (K : ck_K L) {post : SX → Prop}
    (C : ∀ ta be oa : Nat → Int32, (∀ p, p < L.length → ta p = nI ((am_W L).2.1 p) ∧ (am_W L).2.1 p < 300) → ∃ n : Nat, (wX_aim_164 post f_known f_seen f_many f_ordered f_isStraight f_entered f_todo (nI L.length) f_waiting f_tellings f_last f_stopped f_steps f_left f_ran n 0 a_acts a_actV a_actC a_ends a_endV a_endX a_endY a_numbers a_byNumber a_before a_forward a_backward a_orderOf a_at a_from a_semi a_label a_up a_found a_stack a_place a_chiefs a_tails a_edges a_rulers a_loops a_innermost a_outer a_deep a_alive a_values a_present a_code ta a_pending a_pendingOf be oa a_vars a_told)) :
    ∃ n : Nat, (wX_aim_4 post f_known f_seen f_many f_ordered f_isStraight f_entered f_todo (nI L.length) f_waiting f_tellings f_last f_stopped f_steps f_left f_ran n 0 0 a_acts a_actV a_actC a_ends a_endV a_endX a_endY a_numbers a_byNumber a_before a_forward a_backward a_orderOf a_at a_from a_semi a_label a_up a_found a_stack a_place a_chiefs a_tails a_edges a_rulers a_loops a_innermost a_outer a_deep a_alive a_values a_present a_code a_target a_pending a_pendingOf a_begins a_openAt a_vars a_told) := by
  refine loop_0 (σ := (Nat → Int32) × (Nat → Int32) × (Nat → Int32)) (fun n i s => (wX_aim_4 post f_known f_seen f_many f_ordered f_isStraight f_entered f_todo (nI L.length) f_waiting f_tellings f_last f_stopped f_steps f_left f_ran n (nI (am_W (L.take i)).1.length) (nI i) a_acts a_actV a_actC a_ends a_endV a_endX a_endY a_numbers a_byNumber a_before a_forward a_backward a_orderOf a_at a_from a_semi a_label a_up a_found a_stack a_place a_chiefs a_tails a_edges a_rulers a_loops a_innermost a_outer a_deep a_alive a_values a_present a_code s.1 a_pending a_pendingOf s.2.1 s.2.2 a_vars a_told))
    (fun i s => xi_I L i s.1 s.2.1 s.2.2) L.length (a_target, a_begins, a_openAt) ⟨trivial, fun p hp => by omega, fun n p hp => by omega⟩ ?_ ?_
  · intro n s hI
    refine br_t (nI_le (Nat.le_refl _) (by omega)) (C s.1 s.2.1 s.2.2 ?_)
    have h := hI.2.1
    rw [List.take_length] at h
    exact h
  · intro n i s hi hI ih
    obtain ⟨b1, b2, b3⟩ := hI
    obtain ⟨c1, c2, c3, c4, c5, c6⟩ := K i hi
    have e1 : am_W (L.take (i + 1)) = am_1 i (L.getD i 0) (am_W (L.take i)) := by
      rw [xi_t L hi, am_W1, xi_l L hi]
    have ec : a_code (nI i).toNatClampNeg = nI (L.getD i 0) := by rw [nI_clamp (by omega)]; exact hc i hi
    have i260 : vp_in (nI i) 260 := vp_in_nI (by omega) (by omega)
    have hih : ∀ (ta be oa : Nat → Int32) (x1 : Int32), x1 = nI (am_1 i (L.getD i 0) (am_W (L.take i))).1.length → ao_R (am_1 i (L.getD i 0) (am_W (L.take i))).1 oa →
        (∀ p, p < i + 1 → ta p = nI ((am_1 i (L.getD i 0) (am_W (L.take i))).2.1 p) ∧ (am_1 i (L.getD i 0) (am_W (L.take i))).2.1 p < 300) →
        (∀ n p, p < i + 1 → n < 16 → L.getD p 0 = 16 + n → be n = nI ((am_1 i (L.getD i 0) (am_W (L.take i))).2.2 n) ∧ (am_1 i (L.getD i 0) (am_W (L.take i))).2.2 n < 300) →
        (wX_aim_4 post f_known f_seen f_many f_ordered f_isStraight f_entered f_todo (nI L.length) f_waiting f_tellings f_last f_stopped f_steps f_left f_ran n x1 (nI (i + 1)) a_acts a_actV a_actC a_ends a_endV a_endX a_endY a_numbers a_byNumber a_before a_forward a_backward a_orderOf a_at a_from a_semi a_label a_up a_found a_stack a_place a_chiefs a_tails a_edges a_rulers a_loops a_innermost a_outer a_deep a_alive a_values a_present a_code ta a_pending a_pendingOf be oa a_vars a_told) := by
      intro ta be oa x1 h1 h2 h3 h4
      rw [h1, ← e1]
      refine ih (ta, be, oa) ⟨?_, ?_, ?_⟩
      · rw [e1]; exact h2
      · rw [e1]; exact h3
      · rw [e1]; exact h4
    clear ih
    generalize hw : L.getD i 0 = w at *
    generalize hσ : am_W (L.take i) = σ at *
    have bold : ∀ n p, p < i + 1 → n < 16 → L.getD p 0 = 16 + n → w ≠ 16 + n → s.2.1 n = nI (σ.2.2 n) ∧ σ.2.2 n < 300 := by
      intro n p hp hn h1 h2
      by_cases e : p = i
      · subst e; rw [hw] at h1; exact absurd h1 h2
      · exact b3 n p (by omega) hn h1
    have told : ∀ p, p < i → upd s.1 i (nI (i + 1)) p = nI (or_p σ.2.1 i (i + 1) p) ∧ or_p σ.2.1 i (i + 1) p < 300 := by
      intro p hp
      rw [pk_un (by omega), or_pn (by omega)]
      exact b2 p hp
    have tall : ∀ p, p < i + 1 → upd s.1 i (nI (i + 1)) p = nI (or_p σ.2.1 i (i + 1) p) ∧ or_p σ.2.1 i (i + 1) p < 300 := by
      intro p hp
      by_cases e : p = i
      · subst e; rw [pk_us, or_ps]; exact ⟨rfl, by omega⟩
      · exact told p (by omega)
    have ne : ∀ k, k ≤ 15 → w / 16 ≠ k → ¬ nI (w / 16) = nI k := fun k hk h1 h2 => h1 (bs_inj h2 (by omega) (by omega))
    refine br_f (nI_ge hi (by omega)) (And.intro i260 (nm_r (e' := nI (w / 16)) (by rw [ec, xi_4 c6]) (And.intro i260 (nm_r (e' := nI (w % 16)) (by rw [ec, xi_15 c6]) (And.intro i260 (nm_r (e' := upd s.1 i (nI (i + 1))) (by rw [nI_1, bs_vss (by omega), xg_u (by omega)]) ?_))))))
    have i16 : vp_in (nI (w % 16)) 16 := xg_i (by omega)
    have i80 : vp_in (nI σ.1.length) 80 := vp_in_nI (by omega) (by omega)
    by_cases k1 : w / 16 = 1
    · have ew : w = 16 + w % 16 := by omega
      unfold am_1 at hih
      rw [if_pos k1] at hih
      refine br_t (by rw [k1]; rfl) (And.intro i16 (nm_r (e' := upd s.2.1 (w % 16) (nI i)) (by rw [bs_vss (by omega), xg_u (by omega)]) ?_))
      refine br_f (ne 6 (by omega) (by omega)) (br_t (by rw [k1]; rfl) (nm_r (nI_1 _) (And.intro i80 (nm_r (e' := upd s.2.2 σ.1.length (nI i)) (by rw [bs_vss (by omega), xg_u (by omega)]) ?_))))
      refine br_f (ne 4 (by omega) (by omega)) (br_f (ne 5 (by omega) (by omega)) (nm_r (nI_1 i) ?_))
      refine hih _ _ _ _ rfl ⟨pk_us, ao_k σ.1 b1 (fun j hj => pk_un (by omega))⟩ tall ?_
      intro n p hp hn h1
      show upd s.2.1 (w % 16) (nI i) n = nI (or_p σ.2.2 (w % 16) i n) ∧ or_p σ.2.2 (w % 16) i n < 300
      by_cases e : n = w % 16
      · subst e; rw [pk_us, or_ps]; exact ⟨rfl, by omega⟩
      · rw [pk_un e, or_pn e]; exact bold n p hp hn h1 (by omega)
    · refine br_f (ne 1 (by omega) k1) ?_
      by_cases k6 : w / 16 = 6
      · unfold am_1 at hih
        rw [if_neg k1, if_neg (by omega), if_neg (by omega), if_neg (by omega), if_pos k6] at hih
        obtain ⟨p, hp1, hp2⟩ := c4 k6
        have hb := b3 (w % 16) p hp1 (by omega) hp2
        refine br_t (by rw [k6]; rfl) (And.intro i16 (And.intro i260 (nm_r (e' := upd (upd s.1 i (nI (i + 1))) i (nI (σ.2.2 (w % 16)))) (by rw [nI_clamp (by omega), nI_clamp (by omega), hb.1, bs_vs (by omega)]) ?_)))
        refine br_f (ne 1 (by omega) k1) (br_f (ne 2 (by omega) (by omega)) (br_f (ne 3 (by omega) (by omega)) ?_))
        refine br_f (ne 4 (by omega) (by omega)) (br_f (ne 5 (by omega) (by omega)) (nm_r (nI_1 i) ?_))
        refine hih _ _ _ _ rfl b1 ?_ (fun n p hp hn h1 => bold n p hp hn h1 (by omega))
        intro p hp
        show upd (upd s.1 i (nI (i + 1))) i (nI (σ.2.2 (w % 16))) p = nI (or_p σ.2.1 i (σ.2.2 (w % 16)) p) ∧ or_p σ.2.1 i (σ.2.2 (w % 16)) p < 300
        by_cases e : p = i
        · subst e; rw [pk_us, or_ps]; exact ⟨rfl, hb.2⟩
        · rw [pk_un e, pk_un e, or_pn e]; exact b2 p (by omega)
      · refine br_f (ne 6 (by omega) k6) ?_
        by_cases k23 : w / 16 = 2 ∨ w / 16 = 3
        · unfold am_1 at hih
          rw [if_neg k1, if_pos k23] at hih
          refine br_f (ne 1 (by omega) k1) ?_
          have go : (wX_aim_90 post (wX_aim_4 post f_known f_seen f_many f_ordered f_isStraight f_entered f_todo (nI L.length) f_waiting f_tellings f_last f_stopped f_steps f_left f_ran n) (nI σ.1.length) (nI i) (nI (w / 16)) f_known f_seen f_many f_ordered f_isStraight f_entered f_todo (nI L.length) f_waiting f_tellings f_last f_stopped f_steps f_left f_ran a_acts a_actV a_actC a_ends a_endV a_endX a_endY a_numbers a_byNumber a_before a_forward a_backward a_orderOf a_at a_from a_semi a_label a_up a_found a_stack a_place a_chiefs a_tails a_edges a_rulers a_loops a_innermost a_outer a_deep a_alive a_values a_present a_code (upd s.1 i (nI (i + 1))) a_pending a_pendingOf s.2.1 s.2.2 a_vars a_told) := by
            refine nm_r (nI_1 _) (And.intro i80 (nm_r (e' := upd s.2.2 σ.1.length (nI i)) (by rw [bs_vss (by omega), xg_u (by omega)]) ?_))
            refine br_f (ne 4 (by omega) (by omega)) (br_f (ne 5 (by omega) (by omega)) (nm_r (nI_1 i) ?_))
            exact hih _ _ _ _ rfl ⟨pk_us, ao_k σ.1 b1 (fun j hj => pk_un (by omega))⟩ tall (fun n p hp hn h1 => bold n p hp hn h1 (by omega))
          by_cases k2 : w / 16 = 2
          · exact br_t (by rw [k2]; rfl) go
          · exact br_f (ne 2 (by omega) k2) (br_t (by rw [show w / 16 = 3 by omega]; rfl) go)
        · have k2 : ¬ w / 16 = 2 := fun h => k23 (Or.inl h)
          have k3 : ¬ w / 16 = 3 := fun h => k23 (Or.inr h)
          refine br_f (ne 1 (by omega) k1) (br_f (ne 2 (by omega) k2) (br_f (ne 3 (by omega) k3) ?_))
          by_cases k45 : w / 16 = 4 ∨ w / 16 = 5
          · have hne := c3 k45
            cases hos : σ.1 with
            | nil => exact absurd hos hne
            | cons p os =>
              rw [hos] at b1 c1
              have hp260 : p < i := c2 p (by rw [hos]; exact List.mem_cons_self)
              rw [List.length_cons] at c1
              have eo : s.2.2 os.length = nI p := b1.1
              have i80' : vp_in (nI os.length) 80 := vp_in_nI (by omega) (by omega)
              have tall2 : ∀ q, q < i + 1 → upd (upd s.1 i (nI (i + 1))) p (nI (i + 1)) q = nI (or_p (or_p σ.2.1 i (i + 1)) p (i + 1) q) ∧ or_p (or_p σ.2.1 i (i + 1)) p (i + 1) q < 300 := by
                intro q hq
                by_cases e : q = p
                · subst e; rw [pk_us, or_ps]; exact ⟨rfl, by omega⟩
                · rw [pk_un e, or_pn e]; exact tall q hq
              by_cases k4 : w / 16 = 4
              · unfold am_1 at hih
                rw [if_neg k1, if_neg k23, if_pos k4, hos] at hih
                have ex : nI (p :: os).length - 1 = nI os.length := by rw [List.length_cons]; exact nI_pred _
                have eo' : s.2.2 (nI (p :: os).length - 1).toNatClampNeg = nI p := by rw [ex, nI_clamp (by omega)]; exact eo
                have ix : vp_in (nI (p :: os).length - 1) 80 := by rw [ex]; exact i80'
                refine br_t (by rw [k4]; rfl) (And.intro ix (And.intro (by rw [eo']; exact vp_in_nI (by omega) (by omega)) (nm_r (e' := upd (upd s.1 i (nI (i + 1))) p (nI (i + 1))) (by rw [eo', nI_1, bs_vss (by omega), xg_u (by omega)]) (And.intro ix (nm_r (e' := upd s.2.2 os.length (nI i)) (by rw [ex, bs_vss (by omega), xg_u (by omega)]) ?_)))))
                refine br_f (ne 5 (by omega) (by omega)) (nm_r (nI_1 i) ?_)
                exact hih _ _ _ _ rfl ⟨pk_us, ao_k os b1.2 (fun j hj => pk_un (by omega))⟩ tall2 (fun n p hp hn h1 => bold n p hp hn h1 (by omega))
              · have k5 : w / 16 = 5 := by omega
                unfold am_1 at hih
                rw [if_neg k1, if_neg k23, if_neg k4, if_pos k5, hos] at hih
                have ex : nI (p :: os).length + (-1) = nI os.length := by rw [List.length_cons]; exact pk_m1 _
                refine br_f (ne 4 (by omega) k4) (br_t (by rw [k5]; rfl) (nm_r ex (And.intro i80' (And.intro (by rw [nI_clamp (by omega), eo]; exact vp_in_nI (by omega) (by omega)) (nm_r (e' := upd (upd s.1 i (nI (i + 1))) p (nI (i + 1))) (by rw [nI_clamp (by omega), eo, nI_1, bs_vss (by omega), xg_u (by omega)]) (nm_r (nI_1 i) ?_))))))
                exact hih _ _ _ _ rfl b1.2 tall2 (fun n p hp hn h1 => bold n p hp hn h1 (by omega))
          · have k4 : ¬ w / 16 = 4 := fun h => k45 (Or.inl h)
            have k5 : ¬ w / 16 = 5 := fun h => k45 (Or.inr h)
            unfold am_1 at hih
            rw [if_neg k1, if_neg k23, if_neg k4, if_neg k5, if_neg k6] at hih
            refine br_f (ne 4 (by omega) k4) (br_f (ne 5 (by omega) k5) (nm_r (nI_1 i) ?_))
            exact hih _ _ _ _ rfl b1 tall (fun n p hp hn h1 => bold n p hp hn h1 (by omega))
end XT
end
section
section XU
variable {f_known f_seen f_many f_ordered f_isStraight f_entered f_todo f_length f_waiting f_tellings f_last f_stopped f_steps f_ran : Int32} {f_left : Int64} {a_acts a_actV a_actC a_ends a_endV a_endX a_endY a_numbers a_byNumber a_before a_forward a_backward a_orderOf a_at a_from a_semi a_label a_up a_found a_stack a_place a_chiefs a_tails a_edges a_rulers a_loops a_innermost a_outer a_deep a_alive a_values a_present a_code a_target a_pending a_pendingOf a_begins a_openAt a_vars a_told : Nat → Int32} {g : Nat → Nat → Nat}
/-! X: aim's second pass; write -/
theorem xi_164 {L : List Nat} (hl : L.length ≤ 260) (hc : xc_C L a_code) (K : ck_K L) {tg : Nat → Nat} (ht : ∀ p, p < L.length → a_target p = nI (tg p) ∧ tg p < 300) {post : SX → Prop}
    (C : ∀ (ta be : Nat → Int32) (t2 : Nat → Nat), (∀ p, p < L.length → ta p = nI (t2 p)) → (∀ p, p < L.length → L.getD p 0 / 16 ≠ 7 → t2 p = tg p) →
      (∀ q s, q < L.length → s < 16 → L.getD q 0 = 112 + s → ∃ p, p < q ∧ L.getD p 0 = 32 + s ∧ t2 q = tg p) → post (f_known, f_seen, f_many, f_ordered, f_isStraight, f_entered, f_todo, nI L.length, f_waiting, f_tellings, f_last, f_stopped, f_steps, f_left, f_ran, a_acts, a_actV, a_actC, a_ends, a_endV, a_endX, a_endY, a_numbers, a_byNumber, a_before, a_forward, a_backward, a_orderOf, a_at, a_from, a_semi, a_label, a_up, a_found, a_stack, a_place, a_chiefs, a_tails, a_edges, a_rulers, a_loops, a_innermost, a_outer, a_deep, a_alive, a_values, a_present, a_code, ta, a_pending, a_pendingOf, be, a_openAt, a_vars, a_told)) :
    ∃ n : Nat, (wX_aim_164 post f_known f_seen f_many f_ordered f_isStraight f_entered f_todo (nI L.length) f_waiting f_tellings f_last f_stopped f_steps f_left f_ran n 0 a_acts a_actV a_actC a_ends a_endV a_endX a_endY a_numbers a_byNumber a_before a_forward a_backward a_orderOf a_at a_from a_semi a_label a_up a_found a_stack a_place a_chiefs a_tails a_edges a_rulers a_loops a_innermost a_outer a_deep a_alive a_values a_present a_code a_target a_pending a_pendingOf a_begins a_openAt a_vars a_told) := by
  refine loop_0 (σ := (Nat → Int32) × (Nat → Int32)) (fun n i s => (wX_aim_164 post f_known f_seen f_many f_ordered f_isStraight f_entered f_todo (nI L.length) f_waiting f_tellings f_last f_stopped f_steps f_left f_ran n (nI i) a_acts a_actV a_actC a_ends a_endV a_endX a_endY a_numbers a_byNumber a_before a_forward a_backward a_orderOf a_at a_from a_semi a_label a_up a_found a_stack a_place a_chiefs a_tails a_edges a_rulers a_loops a_innermost a_outer a_deep a_alive a_values a_present a_code s.1 a_pending a_pendingOf s.2 a_openAt a_vars a_told))
    (fun k s => ∃ t2 : Nat → Nat, (∀ p, p < L.length → s.1 p = nI (t2 p) ∧ t2 p < 300) ∧ (∀ p, p < L.length → (L.getD p 0 / 16 ≠ 7 ∨ k ≤ p) → t2 p = tg p) ∧ (∀ q m, q < k → m < 16 → L.getD q 0 = 112 + m → ∃ p, p < q ∧ L.getD p 0 = 32 + m ∧ t2 q = tg p) ∧
      (∀ m p, p < k → m < 16 → L.getD p 0 = 32 + m → ∃ p', p' < k ∧ L.getD p' 0 = 32 + m ∧ s.2 m = nI p')) L.length (a_target, a_begins) ⟨tg, ht, fun p _ _ => rfl, fun q m hq => by omega, fun m p hp => by omega⟩ ?_ ?_
  · intro n s hI
    obtain ⟨t2, h1, h2, h3, h4⟩ := hI
    exact br_t (nI_le (Nat.le_refl _) (by omega)) (C s.1 s.2 t2 (fun p hp => (h1 p hp).1) (fun p hp h => h2 p hp (Or.inl h)) h3)
  · intro n i s hi hI ih
    obtain ⟨t2, h1, h2, h3, h4⟩ := hI
    obtain ⟨c1, c2, c3, c4, c5, c6⟩ := K i hi
    have ec : a_code (nI i).toNatClampNeg = nI (L.getD i 0) := by rw [nI_clamp (by omega)]; exact hc i hi
    have i260 : vp_in (nI i) 260 := vp_in_nI (by omega) (by omega)
    have e4 : (a_code (nI i).toNatClampNeg) >>> ((4 : Int32) &&& 31) = nI (L.getD i 0 / 16) := by rw [ec, xi_4 c6]
    have e15 : (a_code (nI i).toNatClampNeg) &&& 15 = nI (L.getD i 0 % 16) := by rw [ec, xi_15 c6]
    have i16 : vp_in ((a_code (nI i).toNatClampNeg) &&& 15) 16 := by rw [e15]; exact xg_i (by omega)
    have ne : ∀ k, k ≤ 15 → L.getD i 0 / 16 ≠ k → ¬ nI (L.getD i 0 / 16) = nI k := fun k hk h1 h2 => h1 (bs_inj h2 (by omega) (by omega))
    refine br_f (nI_ge hi (by omega)) (And.intro i260 ?_)
    by_cases k2 : L.getD i 0 / 16 = 2
    · refine br_t (by rw [e4, k2]; rfl) (And.intro i260 (And.intro i16 (nm_r (e' := upd s.2 (L.getD i 0 % 16) (nI i)) (by rw [e15, bs_vss (by omega), xg_u (by omega)]) (And.intro i260 (br_f (by rw [e4]; exact ne 7 (by omega) (by omega)) (nm_r (nI_1 i) (ih (s.1, upd s.2 (L.getD i 0 % 16) (nI i)) ⟨t2, h1, ?_, ?_, ?_⟩)))))))
      · intro p hp h
        refine h2 p hp ?_
        rcases h with h | h
        · exact Or.inl h
        · exact Or.inr (by omega)
      · intro q m hq hm hw
        by_cases e : q = i
        · subst e; omega
        · exact h3 q m (by omega) hm hw
      · intro m p hp hm hw
        by_cases e : m = L.getD i 0 % 16
        · subst e
          exact ⟨i, by omega, by omega, pk_us⟩
        · by_cases e2 : p = i
          · subst e2; omega
          · obtain ⟨p', q1, q2, q3⟩ := h4 m p (by omega) hm hw
            exact ⟨p', by omega, q2, (pk_un e).trans q3⟩
    · have keep4 : ∀ m p, p < i + 1 → m < 16 → L.getD p 0 = 32 + m → ∃ p', p' < i + 1 ∧ L.getD p' 0 = 32 + m ∧ s.2 m = nI p' := by
        intro m p hp hm hw
        by_cases e2 : p = i
        · subst e2; omega
        · obtain ⟨p', q1, q2, q3⟩ := h4 m p (by omega) hm hw
          exact ⟨p', by omega, q2, q3⟩
      refine br_f (by rw [e4]; exact ne 2 (by omega) k2) (And.intro i260 ?_)
      by_cases k7 : L.getD i 0 / 16 = 7
      · obtain ⟨p, p1, p2⟩ := c5 k7
        obtain ⟨p', q1, q2, q3⟩ := h4 _ p p1 (by omega) p2
        have hp' : t2 p' = tg p' := h2 p' (by omega) (Or.inl (by omega))
        have hb : s.2 ((a_code (nI i).toNatClampNeg) &&& 15).toNatClampNeg = nI p' := by rw [e15, nI_clamp (by omega)]; exact q3
        have ht := h1 p' (by omega)
        refine br_t (by rw [e4, k7]; rfl) (And.intro i260 (And.intro i16 (And.intro (by rw [hb]; exact vp_in_nI (by omega) (by omega)) (And.intro i260 (nm_r (e' := upd s.1 i (nI (t2 p'))) (by rw [hb, nI_clamp (by omega), nI_clamp (by omega), ht.1, bs_vs (by omega)]) (nm_r (nI_1 i) (ih (upd s.1 i (nI (t2 p')), s.2) ⟨or_p t2 i (t2 p'), ?_, ?_, ?_, keep4⟩)))))))
        · intro q hq
          show upd s.1 i (nI (t2 p')) q = nI (or_p t2 i (t2 p') q) ∧ _
          by_cases e : q = i
          · subst e; rw [pk_us, or_ps]; exact ⟨rfl, ht.2⟩
          · rw [pk_un e, or_pn e]; exact h1 q hq
        · intro q hq h
          by_cases e : q = i
          · subst e
            rcases h with h | h
            · exact absurd k7 h
            · omega
          · rw [or_pn e]
            refine h2 q hq ?_
            rcases h with h | h
            · exact Or.inl h
            · exact Or.inr (by omega)
        · intro q m hq hm hw
          by_cases e : q = i
          · subst e
            have : L.getD q 0 % 16 = m := by omega
            rw [this] at q2
            exact ⟨p', q1, q2, by rw [or_ps]; exact hp'⟩
          · obtain ⟨r, r1, r2, r3⟩ := h3 q m (by omega) hm hw
            exact ⟨r, r1, r2, by rw [or_pn e]; exact r3⟩
      · refine br_f (by rw [e4]; exact ne 7 (by omega) k7) (nm_r (nI_1 i) (ih s ⟨t2, h1, ?_, ?_, keep4⟩))
        · intro p hp h
          refine h2 p hp ?_
          rcases h with h | h
          · exact Or.inl h
          · exact Or.inr (by omega)
        · intro q m hq hm hw
          by_cases e : q = i
          · subst e; omega
          · exact h3 q m (by omega) hm hw
/-- the code as it is kept: the words, and where they lead -/
def xc_R (g : Nat → Nat → Nat) (fl : Int32) (co ta : Nat → Int32) : Prop :=
  fl = nI (cd_L g).length ∧ (cd_L g).length ≤ 260 ∧ xc_C (cd_L g) co ∧ (∀ k, k < (cd_L g).length → (cd_L g).getD k 0 < 256) ∧ ∃ sp t2 : Nat → Nat, cf_F g (cd_L g) sp t2 ∧ ∀ p, p < (cd_L g).length → ta p = nI (t2 p)
theorem xc_11 (W : gg_W g) (hSt : gg_St g) (G : (xg_G g a_acts a_actV a_actC a_ends a_endV a_endX a_endY)) (hn : xn_N g f_seen f_many a_byNumber a_numbers) (hB : xr_B g a_before) (hC : xr_C g a_chiefs) (hL : xl_Lo g 0 a_loops) {post : SX → Prop}
    (C : ∀ (L : List Nat) (co pe po : Nat → Int32), cd_r g 120 [(0, 0, 0)] [] = some L → L.length ≤ 260 → xc_C L co → (wpX_aim post (f_known, f_seen, f_many, f_ordered, f_isStraight, f_entered, f_todo, nI L.length, 0, f_tellings, f_last, f_stopped, f_steps, f_left, f_ran, a_acts, a_actV, a_actC, a_ends, a_endV, a_endX, a_endY, a_numbers, a_byNumber, a_before, a_forward, a_backward, a_orderOf, a_at, a_from, a_semi, a_label, a_up, a_found, a_stack, a_place, a_chiefs, a_tails, a_edges, a_rulers, a_loops, a_innermost, a_outer, a_deep, a_alive, a_values, a_present, co, a_target, pe, po, a_begins, a_openAt, a_vars, a_told))) {L : List Nat} (hL0 : cd_r g 120 [(0, 0, 0)] [] = some L) :
    ∀ (f : Nat) (st : List (Nat × Nat × Nat)) (ws : List Nat) (op : Nat → Bool) (co pe po : Nat → Int32), cd_r g f st ws = some L → cp_P g st op → st.length + cp_u g op ≤ 113 → ws.length + st.length + cp_v g op ≤ 180 → xc_C ws co → xp_S st pe po →
      (wX_write_11 post f f_known f_seen f_many f_ordered f_isStraight f_entered f_todo (nI ws.length) (nI st.length) f_tellings f_last f_stopped f_steps f_left f_ran a_acts a_actV a_actC a_ends a_endV a_endX a_endY a_numbers a_byNumber a_before a_forward a_backward a_orderOf a_at a_from a_semi a_label a_up a_found a_stack a_place a_chiefs a_tails a_edges a_rulers a_loops a_innermost a_outer a_deep a_alive a_values a_present co a_target pe po a_begins a_openAt a_vars a_told) := by
  intro f
  induction f with
  | zero => intro st ws op co pe po h; cases h
  | succ f ih =>
    intro st ws op co pe po hr P h1 h2 hco hst
    cases st with
    | nil =>
      have hr : some ws = some L := hr
      have hr := Option.some.inj hr
      subst hr
      exact br_t (by decide) (C ws co pe po hL0 (by omega) hco)
    | cons it st =>
      obtain ⟨k, n, i⟩ := it
      have hk := P.2.2.2.2.2 (k, n, i) List.mem_cons_self
      rw [List.length_cons] at h1 h2
      have i160 : vp_in (nI st.length) 160 := vp_in_nI (by omega) (by omega)
      refine br_f (nI_nle (by rw [List.length_cons]; omega) (by rw [List.length_cons]; omega)) (nm_r (e' := nI st.length) (nI_pred _) (And.intro i160 (nm_r (e' := nI k) (by rw [nI_clamp (by omega)]; exact hst.1) (And.intro i160 (nm_r (e' := nI n) (by rw [nI_clamp (by omega)]; exact hst.2.1) ?_)))))
      by_cases k0 : k = 0
      · subst k0
        obtain ⟨P', hR, h0⟩ := cp_P2 W hSt P
        have hn16 := gg_R16 W hR
        have hu : cp_u g (df_m op n) + (cd_pu g n).length = cp_u g op := cp_uo (fun m => (cd_pu g m).length) hn16 h0
        have hv : cp_v g (df_m op n) + ((cd_pu g n).length + (cd_wo g n).length) = cp_v g op := cp_uo (fun m => (cd_pu g m).length + (cd_wo g m).length) hn16 h0
        have hwg := (cd_wg W n).2.2.2.2.2.2
        have e : cd_r g (f + 1) ((0, n, i) :: st) ws = cd_r g f (cd_pu g n ++ st) (ws ++ cd_wo g n) := rfl
        rw [e] at hr
        refine br_t rfl (xc_o (a_code := co) (a_pending := pe) (a_pendingOf := po) W G hn hB hC hL hR (by omega) (by omega) hco hst.2.2 ?_)
        intro co' pe' po' hco' hst'
        exact ih _ _ _ co' pe' po' hr P' (by rw [List.length_append]; omega) (by rw [List.length_append, List.length_append]; omega) hco' hst'
      · have P' := cp_P1 P k0
        have e : cd_r g (f + 1) ((k, n, i) :: st) ws = cd_r g f st (ws ++ [16 * k + n]) := if_neg k0
        rw [e] at hr
        have hkn : k ≤ 7 ∧ n < 16 := by
          rcases hk with h | h | h | h | h
          · exact absurd h.1 k0
          · have a : k = 4 := h.1
            have b : n = 0 := h.2
            omega
          · have a : k = 5 := h.1
            have b : n = 0 := h.2
            omega
          · have a : k = 6 := h.1
            have b : gg_H g n := h.2.2
            have := gg_R16 W (gl_Rh (gl_h.mp b))
            omega
          · have a : k = 7 := h.1
            have b : gg_R g n := h.2.1
            have := gg_R16 W b
            omega
        refine br_f (fun h => k0 (bs_inj (b := 0) h (by omega) (by omega))) (xc_e hco (by omega) (by omega) ?_)
        intro co' hco'
        have el : nI (ws.length + 1) = nI (ws ++ [16 * k + n]).length := by rw [List.length_append]; rfl
        rw [el]
        exact ih st _ op co' pe po hr P' (by omega) (by rw [List.length_append]; show ws.length + 1 + st.length + _ ≤ 180; omega) hco' hst.2.2
theorem xc_wr (W : gg_W g) (hSt : gg_St g) (G : (xg_G g a_acts a_actV a_actC a_ends a_endV a_endX a_endY)) (hn : xn_N g f_seen f_many a_byNumber a_numbers) (hB : xr_B g a_before) (hC : xr_C g a_chiefs) (hL : xl_Lo g 0 a_loops) {post : SX → Prop}
    (C : ∀ (fl fw : Int32) (co ta pe po be oa : Nat → Int32), xc_R g fl co ta → post (f_known, f_seen, f_many, f_ordered, f_isStraight, f_entered, f_todo, fl, fw, f_tellings, f_last, f_stopped, f_steps, f_left, f_ran, a_acts, a_actV, a_actC, a_ends, a_endV, a_endX, a_endY, a_numbers, a_byNumber, a_before, a_forward, a_backward, a_orderOf, a_at, a_from, a_semi, a_label, a_up, a_found, a_stack, a_place, a_chiefs, a_tails, a_edges, a_rulers, a_loops, a_innermost, a_outer, a_deep, a_alive, a_values, a_present, co, ta, pe, po, be, oa, a_vars, a_told)) : (wpX_write post (f_known, f_seen, f_many, f_ordered, f_isStraight, f_entered, f_todo, 0, f_waiting, f_tellings, f_last, f_stopped, f_steps, f_left, f_ran, a_acts, a_actV, a_actC, a_ends, a_endV, a_endX, a_endY, a_numbers, a_byNumber, a_before, a_forward, a_backward, a_orderOf, a_at, a_from, a_semi, a_label, a_up, a_found, a_stack, a_place, a_chiefs, a_tails, a_edges, a_rulers, a_loops, a_innermost, a_outer, a_deep, a_alive, a_values, a_present, a_code, a_target, a_pending, a_pendingOf, a_begins, a_openAt, a_vars, a_told)) := by
  obtain ⟨op, sp, e1, e2, e3, e4⟩ := cd_e W hSt
  have h0 := cp_0 W
  unfold wpX_write
  refine xc_l 0 (k := 0) (n := 0) (st := []) trivial (by decide) (by omega) (by omega) ?_
  intro pe po hs
  refine ⟨120, ?_⟩
  refine xc_11 W hSt G hn hB hC hL ?_ e1 120 [(0, 0, 0)] [] (fun _ => false) a_code pe po e1 (cd_P0 W) ?_ ?_ (fun j hj => by cases hj) hs
  · intro L co pe' po' hr hl hco
    rw [e1] at hr
    have hr := Option.some.inj hr
    subst hr
    refine xi_4l hl hco e4 ?_
    intro ta be oa hta
    refine xi_164 (a_target := ta) (a_begins := be) (a_openAt := oa) hl hco e4 hta ?_
    intro ta2 be2 t2 g1 g2 g3
    refine C _ _ co ta2 pe' po' be2 oa ⟨rfl, hl, hco, fun k hk => (e4 k hk).2.2.2.2.2, sp, t2, cf_f W e2 e3 g2 (fun q s hq hs hw _ => g3 q s hq hs hw), g1⟩
  · have : [((0 : Nat), (0 : Nat), (0 : Nat))].length = 1 := rfl
    have := h0.1
    omega
  · have : [((0 : Nat), (0 : Nat), (0 : Nat))].length = 1 := rfl
    have : ([] : List Nat).length = 0 := rfl
    have := h0.2.1
    omega
end XU
end
section
section XV
variable {f_known f_seen f_many f_ordered f_isStraight f_entered f_todo f_length f_waiting f_tellings f_last f_stopped f_steps f_ran : Int32} {f_left : Int64} {a_acts a_actV a_actC a_ends a_endV a_endX a_endY a_numbers a_byNumber a_before a_forward a_backward a_orderOf a_at a_from a_semi a_label a_up a_found a_stack a_place a_chiefs a_tails a_edges a_rulers a_loops a_innermost a_outer a_deep a_alive a_values a_present a_code a_target a_pending a_pendingOf a_begins a_openAt a_vars a_told : Nat → Int32} {g : Nat → Nat → Nat}
/-! X: all that is known of the graph -/
def xk_K (g : Nat → Nat → Nat) (f_seen f_many f_isStraight f_entered f_length : Int32) (a_numbers a_byNumber a_before a_chiefs a_tails a_edges a_rulers a_loops a_innermost a_deep a_alive a_values a_code a_target : Nat → Int32) : Prop :=
  xn_N g f_seen f_many a_byNumber a_numbers ∧ xr_B g a_before ∧ xr_C g a_chiefs ∧ xr_T g a_tails ∧ xe_Ed g a_edges ∧ xe_Ru g a_rulers ∧ xl_F f_isStraight (gg_St g) ∧ xl_Lo g 0 a_loops ∧ xl_I g 0 a_innermost ∧ xl_De g a_deep ∧ xa_A g a_alive ∧ xv_R g f_entered a_values ∧ (gg_St g → xc_R g f_length a_code a_target)
theorem xk_l (W : gg_W g) (G : (xg_G g a_acts a_actV a_actC a_ends a_endV a_endX a_endY)) (h01 : f_known = 0 ∨ f_known = 1) (hK : f_known = 1 → (xk_K g f_seen f_many f_isStraight f_entered f_length a_numbers a_byNumber a_before a_chiefs a_tails a_edges a_rulers a_loops a_innermost a_deep a_alive a_values a_code a_target)) {post : SX → Prop} (C : ∀ (f_seen f_many f_ordered f_isStraight f_entered f_todo f_length f_waiting : Int32) (a_numbers a_byNumber a_before a_forward a_backward a_orderOf a_at a_from a_semi a_label a_up a_found a_stack a_place a_chiefs a_tails a_edges a_rulers a_loops a_innermost a_outer a_deep a_alive a_values a_present a_code a_target a_pending a_pendingOf a_begins a_openAt : Nat → Int32), (xk_K g f_seen f_many f_isStraight f_entered f_length a_numbers a_byNumber a_before a_chiefs a_tails a_edges a_rulers a_loops a_innermost a_deep a_alive a_values a_code a_target) → post (1, f_seen, f_many, f_ordered, f_isStraight, f_entered, f_todo, f_length, f_waiting, f_tellings, f_last, f_stopped, f_steps, f_left, f_ran, a_acts, a_actV, a_actC, a_ends, a_endV, a_endX, a_endY, a_numbers, a_byNumber, a_before, a_forward, a_backward, a_orderOf, a_at, a_from, a_semi, a_label, a_up, a_found, a_stack, a_place, a_chiefs, a_tails, a_edges, a_rulers, a_loops, a_innermost, a_outer, a_deep, a_alive, a_values, a_present, a_code, a_target, a_pending, a_pendingOf, a_begins, a_openAt, a_vars, a_told)) : (wpX_learn post (f_known, f_seen, f_many, f_ordered, f_isStraight, f_entered, f_todo, f_length, f_waiting, f_tellings, f_last, f_stopped, f_steps, f_left, f_ran, a_acts, a_actV, a_actC, a_ends, a_endV, a_endX, a_endY, a_numbers, a_byNumber, a_before, a_forward, a_backward, a_orderOf, a_at, a_from, a_semi, a_label, a_up, a_found, a_stack, a_place, a_chiefs, a_tails, a_edges, a_rulers, a_loops, a_innermost, a_outer, a_deep, a_alive, a_values, a_present, a_code, a_target, a_pending, a_pendingOf, a_begins, a_openAt, a_vars, a_told)) := by
  unfold wpX_learn
  rcases h01 with h | h
  · refine br_t h ?_
    refine xw_w (f_known := 1) W G ?_
    intro fs fm bn nu st pl hn
    refine xr_r W G hn ?_
    intro fo be fw bw oo at2 fr2 se la up fd2 st2 pl2 ch tl h1 h2 h3
    refine xe_f W G hn h1 h2 h3 ?_
    intro ed ru h4 h5
    refine xl_f W hn h1 h2 ?_
    intro sg lo inn out de h6 h7 h8 h9
    refine xa_f W G hn h1 ?_
    intro al h10
    refine xv_f W G ?_
    intro en td va pr h11
    rcases h6 with ⟨e, hS⟩ | ⟨e, hS⟩
    · refine br_f (by rw [e]; decide) ?_
      refine xc_wr W hS G hn h1 h2 h7 ?_
      intro fl fw2 co ta pe po be2 oa h12
      exact C _ _ _ _ _ _ _ _ _ _ _ _ _ _ _ _ _ _ _ _ _ _ _ _ _ _ _ _ _ _ _ _ _ _ _ _ _ _ _ ⟨hn, h1, h2, h3, h4, h5, Or.inl ⟨e, hS⟩, h7, h8, h9, h10, h11, fun _ => h12⟩
    · refine br_t e ?_
      exact C _ _ _ _ _ _ _ _ _ _ _ _ _ _ _ _ _ _ _ _ _ _ _ _ _ _ _ _ _ _ _ _ _ _ _ _ _ _ _ ⟨hn, h1, h2, h3, h4, h5, Or.inr ⟨e, hS⟩, h7, h8, h9, h10, h11, fun hx => absurd hx hS⟩
  · subst h
    exact br_f (by decide) (C _ _ _ _ _ _ _ _ _ _ _ _ _ _ _ _ _ _ _ _ _ _ _ _ _ _ _ _ _ _ _ _ _ _ _ _ _ _ _ (hK rfl))
end XV
end
section
section YA
variable {g_fresh g_many g_tells g_last g_runs g_stopped : Int32} {b_actKind b_actV b_actC b_endKind b_endV b_endX b_endY b_number b_before b_behind b_reached b_todo b_words b_coming b_values b_told b_variables : Nat → Int32} {g : Nat → Nat → Nat}
/-! Y: the graph as it is kept -/
def yg_G (g : Nat → Nat → Nat) (b_actKind b_actV b_actC b_endKind b_endV b_endX b_endY : Nat → Int32) : Prop :=
  ∀ i, i < 16 → b_endKind i = nI (g 0 i) ∧ (1 ≤ g 0 i → b_endX i = nI (g 2 i)) ∧ (g 0 i = 2 → b_endV i = nI (g 1 i) ∧ b_endY i = nI (g 3 i)) ∧ b_actKind i = nI (g 4 i) ∧ (1 ≤ g 4 i → b_actV i = nI (g 5 i)) ∧ (1 ≤ g 4 i → g 4 i ≤ 3 → b_actC i = nI (g 6 i))
def ys_a (g : Nat → Nat → Nat) (n : Nat) : Nat := if g 0 n = 0 then 0 else if g 0 n = 1 ∨ g 2 n = g 3 n then 1 else 2
def ys_s (g : Nat → Nat → Nat) (n k : Nat) : Nat := if k = 0 then g 2 n else g 3 n
theorem ys_a2 (g : Nat → Nat → Nat) (n : Nat) : ys_a g n ≤ 2 := by
  unfold ys_a
  split
  · omega
  · split <;> omega
theorem ys_E (W : gg_W g) {n s : Nat} : gg_E g n s ↔ ∃ k, k < ys_a g n ∧ ys_s g n k = s := by
  have hw := W n
  unfold ys_a ys_s gg_E
  constructor
  · intro h
    rcases h with h | h
    · refine ⟨0, ?_, by rw [if_pos rfl]; exact h.2⟩
      rw [if_neg (by omega)]
      split <;> omega
    · rw [if_neg (by omega)]
      by_cases e : g 2 n = g 3 n
      · exact ⟨0, by rw [if_pos (Or.inr e)]; omega, by rw [if_pos rfl]; omega⟩
      · exact ⟨1, by rw [if_neg (by omega)]; omega, by rw [if_neg (by omega)]; exact h.2⟩
  · intro ⟨k, h1, h2⟩
    by_cases k0 : g 0 n = 0
    · rw [if_pos k0] at h1; omega
    · rw [if_neg k0] at h1
      by_cases e : g 0 n = 1 ∨ g 2 n = g 3 n
      · rw [if_pos e] at h1
        rw [if_pos (show k = 0 by omega)] at h2
        exact Or.inl ⟨by omega, h2⟩
      · rw [if_neg e] at h1
        by_cases k1 : k = 0
        · rw [if_pos k1] at h2; exact Or.inl ⟨by omega, h2⟩
        · rw [if_neg k1] at h2
          refine Or.inr ⟨?_, h2⟩
          have : ¬ g 0 n = 1 := fun h => e (Or.inl h)
          omega
theorem ys_s16 (W : gg_W g) (n k : Nat) : ys_s g n k < 16 := by
  have hw := W n
  unfold ys_s
  split <;> omega
theorem yg_in {x : Int32} {post : Int32 → Prop} {N : Nat} (hN : N < 2 ^ 31) (h1 : ∀ j, j ≤ N → x = nI j → post 1) (h0 : (∀ j, j ≤ N → x ≠ nI j) → post 0) : wpY_in post x 0 (nI N) := by
  by_cases hx : x < 0
  · refine br_t hx (h0 (fun j hj e => ?_))
    rw [e] at hx
    exact nI_pos (by omega) hx
  · refine br_f hx ?_
    obtain ⟨j, hj, rfl⟩ := nI_of hx
    by_cases hjN : j ≤ N
    · exact br_f (nI_nlt hjN (by omega)) (h1 j hjN rfl)
    · exact br_t (nI_lt (by omega) (by omega)) (h0 (fun i hi e => by have := bs_inj e hj (by omega); omega))
theorem yg_af (W : gg_W g) (G : (yg_G g b_actKind b_actV b_actC b_endKind b_endV b_endX b_endY)) {n : Nat} (hn : n < 16) {post : Int32 → Prop} (h : post (nI (ys_a g n))) : (wpY_after post (g_fresh, g_many, g_tells, g_last, g_runs, g_stopped, b_actKind, b_actV, b_actC, b_endKind, b_endV, b_endX, b_endY, b_number, b_before, b_behind, b_reached, b_todo, b_words, b_coming, b_values, b_told, b_variables) (nI n)) := by
  have hw := W n
  have hG := G n hn
  have e0 : b_endKind (nI n).toNatClampNeg = nI (g 0 n) := by rw [nI_clamp (by omega), hG.1]
  unfold ys_a at h
  refine And.intro (xg_i hn) ?_
  by_cases k0 : g 0 n = 0
  · rw [if_pos k0] at h
    exact br_t (by rw [e0, k0]; rfl) h
  · rw [if_neg k0] at h
    refine br_f (by rw [e0]; exact nI_ne0 (by omega) (by omega)) (And.intro (xg_i hn) ?_)
    by_cases k1 : g 0 n = 1
    · rw [if_pos (Or.inl k1)] at h
      exact br_t (by rw [e0, k1]; rfl) h
    · have k2 : g 0 n = 2 := by omega
      have e2 : b_endX (nI n).toNatClampNeg = nI (g 2 n) := by rw [nI_clamp (by omega), hG.2.1 (by omega)]
      have e3 : b_endY (nI n).toNatClampNeg = nI (g 3 n) := by rw [nI_clamp (by omega), (hG.2.2.1 k2).2]
      refine br_f (by rw [e0]; exact fun e => k1 (bs_inj (b := 1) e (by omega) (by omega))) (And.intro (xg_i hn) (And.intro (xg_i hn) ?_))
      by_cases e : g 2 n = g 3 n
      · rw [if_pos (Or.inr e)] at h
        exact br_t (by rw [e2, e3, e]) h
      · rw [if_neg (by omega)] at h
        exact br_f (by rw [e2, e3]; exact fun h => e (bs_inj h (by omega) (by omega))) h
theorem yg_su (W : gg_W g) (G : (yg_G g b_actKind b_actV b_actC b_endKind b_endV b_endX b_endY)) {n k : Nat} (hn : n < 16) (hk : k < ys_a g n) {post : Int32 → Prop} (h : post (nI (ys_s g n k))) : (wpY_successor post (g_fresh, g_many, g_tells, g_last, g_runs, g_stopped, b_actKind, b_actV, b_actC, b_endKind, b_endV, b_endX, b_endY, b_number, b_before, b_behind, b_reached, b_todo, b_words, b_coming, b_values, b_told, b_variables) (nI n) (nI k)) := by
  have hw := W n
  have hG := G n hn
  have h2 := ys_a2 g n
  have hk2 : k < 2 := by omega
  unfold ys_a at hk
  unfold ys_s at h
  have k0 : g 0 n ≠ 0 := by
    intro e
    rw [if_pos e] at hk
    omega
  rw [if_neg k0] at hk
  by_cases e : k = 0
  · rw [if_pos e] at h
    refine br_t (by rw [e]; rfl) (And.intro (xg_i hn) ?_)
    rw [nI_clamp (by omega), hG.2.1 (by omega)]
    exact h
  · rw [if_neg e] at h
    have k2 : g 0 n = 2 := by
      apply Classical.byContradiction
      intro hne
      rw [if_pos (Or.inl (by omega))] at hk
      omega
    refine br_f (fun h => e (bs_inj (b := 0) h (by omega) (by omega))) (And.intro (xg_i hn) ?_)
    rw [nI_clamp (by omega), (hG.2.2.1 k2).2]
    exact h
theorem yg_le (W : gg_W g) (G : (yg_G g b_actKind b_actV b_actC b_endKind b_endV b_endX b_endY)) {n s : Nat} (hn : n < 16) (hs : s < 16) {post : Int32 → Prop} (h1 : gg_E g n s → post 1) (h0 : ¬ gg_E g n s → post 0) : (wpY_leads post (g_fresh, g_many, g_tells, g_last, g_runs, g_stopped, b_actKind, b_actV, b_actC, b_endKind, b_endV, b_endX, b_endY, b_number, b_before, b_behind, b_reached, b_todo, b_words, b_coming, b_values, b_told, b_variables) (nI n) (nI s)) := by
  have hw := W n
  have hG := G n hn
  have ha2 := ys_a2 g n
  unfold wpY_leads
  refine yg_af W G hn ?_
  have hE := ys_E W (n := n) (s := s)
  by_cases a0 : ys_a g n = 0
  · refine br_t (by rw [a0]; decide) (br_t (by rw [a0]; decide) (h0 (fun h => ?_)))
    obtain ⟨k, hk, _⟩ := hE.mp h
    omega
  · have k0 : g 0 n ≠ 0 := by
      intro e
      apply a0
      unfold ys_a
      rw [if_pos e]
    have e2 : b_endX (nI n).toNatClampNeg = nI (g 2 n) := by rw [nI_clamp (by omega), hG.2.1 (by omega)]
    refine br_f (nI_nle (by omega) (by omega)) (And.intro (xg_i hn) ?_)
    by_cases ex : g 2 n = s
    · exact br_t (by rw [e2, ex]) (h1 (Or.inl ⟨by omega, ex⟩))
    · refine br_f (by rw [e2]; exact fun h => ex (bs_inj h (by omega) (by omega))) ?_
      by_cases a1 : ys_a g n = 1
      · refine br_t (by rw [a1]; decide) (h0 (fun h => ?_))
        obtain ⟨k, hk, hks⟩ := hE.mp h
        unfold ys_s at hks
        rw [if_pos (by omega)] at hks
        exact ex hks
      · have k2 : g 0 n = 2 := by
          apply Classical.byContradiction
          intro hne
          apply a1
          unfold ys_a
          rw [if_neg k0, if_pos (Or.inl (by omega))]
        have e3 : b_endY (nI n).toNatClampNeg = nI (g 3 n) := by rw [nI_clamp (by omega), (hG.2.2.1 k2).2]
        refine br_f (nI_ge (a := 1) (by omega) (by omega)) (And.intro (xg_i hn) ?_)
        by_cases ey : g 3 n = s
        · exact br_t (by rw [e3, ey]) (h1 (Or.inr ⟨k2, ey⟩))
        · refine br_f (by rw [e3]; exact fun h => ey (bs_inj h (by omega) (by omega))) (h0 (fun h => ?_))
          rcases h with h | h
          · exact ex h.2
          · exact ey h.2
/-! Y: reach -/
def yr_P (g : Nat → Nat → Nat) (a d n : Nat) : Prop := a ≠ d ∧ gr_c (gg_E g) (fun y => y ≠ d) a n
def yr_u (re : Nat → Int32) : Nat := ct_c (fun i => decide (re i = 0)) 16
def yr_I (g : Nat → Nat → Nat) (a d : Nat) (re : Nat → Int32) (tl : List Nat) (td : Nat → Int32) : Prop :=
  (∀ i, i < 16 → re i = 0 ∨ (re i = 1 ∧ yr_P g a d i)) ∧ re a = 1 ∧ (∀ i, i ∈ tl → i < 16 ∧ re i = 1) ∧ ao_R tl td ∧ tl.length + yr_u re ≤ 16
theorem yr_m {re : Nat → Int32} {s : Nat} (hs : s < 16) (h : re s = 0) : yr_u (upd re s 1) + 1 = yr_u re := by
  unfold yr_u
  refine ct_rm 16 s hs (fun i _ hi => by show decide (upd re s 1 i = 0) = _; rw [pk_un hi]) (by show decide (upd re s 1 s = 0) = false; rw [pk_us]; decide) (by show decide (re s = 0) = true; rw [h]; decide)
theorem yr_72 (W : gg_W g) (G : (yg_G g b_actKind b_actV b_actC b_endKind b_endV b_endX b_endY)) {a d n : Nat} {wi : Int32} (hwi : ∀ s, s < 16 → (nI s = wi ↔ s = d)) (hn : n < 16) {post : SY → Prop} {J : Int32 → (Nat → Int32) → (Nat → Int32) → (Nat → Int32) → (Nat → Int32) → (Nat → Int32) → (Nat → Int32) → (Nat → Int32) → (Nat → Int32) → (Nat → Int32) → (Nat → Int32) → (Nat → Int32) → (Nat → Int32) → (Nat → Int32) → (Nat → Int32) → (Nat → Int32) → (Nat → Int32) → (Nat → Int32) → Prop} (hP : yr_P g a d n) {tl0 : List Nat} (h0 : yr_I g a d b_reached tl0 b_todo)
    (C : ∀ (tl : List Nat) (re td : Nat → Int32), yr_I g a d re tl td → (∀ i, i < 16 → b_reached i = 1 → re i = 1) → (∀ i, i < 16 → re i = 1 → b_reached i = 1 ∨ i ∈ tl) → (∀ s, gg_E g n s → s ≠ d → re s = 1) → (∀ i, i ∈ tl0 → i ∈ tl) → tl.length + 2 * yr_u re ≤ tl0.length + 2 * yr_u b_reached →
      (J (nI tl.length) b_actKind b_actV b_actC b_endKind b_endV b_endX b_endY b_number b_before b_behind re td b_words b_coming b_values b_told b_variables)) :
    ∃ f : Nat, (wY_reach_72 post J wi (nI n) (nI (ys_a g n)) g_fresh g_many g_tells g_last g_runs g_stopped f (nI tl0.length) 0 b_actKind b_actV b_actC b_endKind b_endV b_endX b_endY b_number b_before b_behind b_reached b_todo b_words b_coming b_values b_told b_variables) := by
  have ha2 := ys_a2 g n
  refine loop_0 (σ := List Nat × (Nat → Int32) × (Nat → Int32)) (fun f k t => (wY_reach_72 post J wi (nI n) (nI (ys_a g n)) g_fresh g_many g_tells g_last g_runs g_stopped f (nI t.1.length) (nI k) b_actKind b_actV b_actC b_endKind b_endV b_endX b_endY b_number b_before b_behind t.2.1 t.2.2 b_words b_coming b_values b_told b_variables))
    (fun k t => yr_I g a d t.2.1 t.1 t.2.2 ∧ (∀ i, i < 16 → b_reached i = 1 → t.2.1 i = 1) ∧ (∀ i, i < 16 → t.2.1 i = 1 → b_reached i = 1 ∨ i ∈ t.1) ∧ (∀ j, j < k → ys_s g n j ≠ d → t.2.1 (ys_s g n j) = 1) ∧ (∀ i, i ∈ tl0 → i ∈ t.1) ∧ t.1.length + 2 * yr_u t.2.1 ≤ tl0.length + 2 * yr_u b_reached)
    (ys_a g n) (tl0, b_reached, b_todo) ⟨h0, fun i _ h => h, fun i _ h => Or.inl h, fun j hj => by omega, fun i h => h, Nat.le_refl _⟩ ?_ ?_
  · intro f t ht
    obtain ⟨t1, t2, t3, t4, t5, t6⟩ := ht
    refine br_t (nI_le (Nat.le_refl _) (by omega)) (C t.1 t.2.1 t.2.2 t1 t2 t3 ?_ t5 t6)
    intro s hE hsd
    obtain ⟨k, hk, e⟩ := (ys_E W).mp hE
    rw [← e] at hsd ⊢
    exact t4 k hk hsd
  · intro f k t hk ht ih
    obtain ⟨t1, t2, t3, t4, t5, t6⟩ := ht
    obtain ⟨r1, r2, r3, r4, r5⟩ := t1
    have hs16 := ys_s16 W n k
    refine br_f (nI_ge hk (by omega)) (yg_su W G hn hk ?_)
    have nx : ∀ (tl : List Nat) (re : Nat → Int32), (∀ j, j < k → ys_s g n j ≠ d → re (ys_s g n j) = 1) → (ys_s g n k ≠ d → re (ys_s g n k) = 1) → ∀ j, j < k + 1 → ys_s g n j ≠ d → re (ys_s g n j) = 1 := by
      intro tl re h1 h2 j hj hjd
      by_cases e : j = k
      · subst e; exact h2 hjd
      · exact h1 j (by omega) hjd
    by_cases ed : ys_s g n k = d
    · exact br_t ((hwi _ hs16).mpr ed) (nm_r (nI_1 k) (ih t ⟨⟨r1, r2, r3, r4, r5⟩, t2, t3, nx t.1 t.2.1 t4 (fun h => absurd ed h), t5, t6⟩))
    · refine br_f (fun h => ed ((hwi _ hs16).mp h)) (And.intro (xg_i hs16) ?_)
      have er : t.2.1 (nI (ys_s g n k)).toNatClampNeg = t.2.1 (ys_s g n k) := by rw [nI_clamp (by omega)]
      rcases r1 _ hs16 with h | ⟨h, _⟩
      · have hne : ys_s g n k ≠ a := by
          intro e
          rw [e, r2] at h
          exact absurd h (by decide)
        have hum := yr_m hs16 h
        refine br_t (by rw [er]; exact h) (And.intro (xg_i hs16) (nm_r (e' := upd t.2.1 (ys_s g n k) 1) (by rw [bs_z1, xg_u (by omega)]) (nm_r (nI_1 _) (And.intro (vp_in_nI (by omega) (by omega)) (nm_r (e' := upd t.2.2 t.1.length (nI (ys_s g n k))) (by rw [xg_u (by omega)]) (nm_r (nI_1 k) (ih (ys_s g n k :: t.1, upd t.2.1 (ys_s g n k) 1, upd t.2.2 t.1.length (nI (ys_s g n k))) ⟨⟨?_, ?_, ?_, ?_, ?_⟩, ?_, ?_, ?_, ?_, ?_⟩)))))))
        · intro i hi
          by_cases e : i = ys_s g n k
          · refine Or.inr ⟨by rw [e]; exact pk_us, hP.1, ?_⟩
            rw [e]
            exact gr_st hP.2 ((ys_E W).mpr ⟨k, hk, rfl⟩) ed
          · show upd t.2.1 (ys_s g n k) 1 i = 0 ∨ (upd t.2.1 (ys_s g n k) 1 i = 1 ∧ yr_P g a d i)
            rw [pk_un e]
            exact r1 i hi
        · exact (pk_un (Ne.symm hne)).trans r2
        · intro i hi
          show _ ∧ upd _ _ _ i = 1
          rcases List.mem_cons.mp hi with e | e
          · rw [e]; exact ⟨hs16, pk_us⟩
          · have := r3 i e
            by_cases e2 : i = ys_s g n k
            · rw [e2]; exact ⟨hs16, pk_us⟩
            · exact ⟨this.1, (pk_un e2).trans this.2⟩
        · exact ⟨pk_us, ao_k t.1 r4 (fun i hi => pk_un (by omega))⟩
        · show (ys_s g n k :: t.1).length + yr_u (upd t.2.1 (ys_s g n k) 1) ≤ 16
          rw [List.length_cons]; omega
        · intro i hi hb
          show upd _ _ _ i = 1
          by_cases e : i = ys_s g n k
          · rw [e]; exact pk_us
          · rw [pk_un e]; exact t2 i hi hb
        · intro i hi hb
          have hb : upd t.2.1 (ys_s g n k) 1 i = 1 := hb
          by_cases e : i = ys_s g n k
          · rw [e]; exact Or.inr List.mem_cons_self
          · rw [pk_un e] at hb
            rcases t3 i hi hb with h2 | h2
            · exact Or.inl h2
            · exact Or.inr (List.mem_cons_of_mem _ h2)
        · refine nx [] (upd t.2.1 (ys_s g n k) 1) (fun j hj hjd => ?_) (fun _ => pk_us)
          by_cases e : ys_s g n j = ys_s g n k
          · rw [e]; exact pk_us
          · rw [pk_un e]; exact t4 j hj hjd
        · intro i hi
          exact List.mem_cons_of_mem _ (t5 i hi)
        · show (ys_s g n k :: t.1).length + 2 * yr_u (upd t.2.1 (ys_s g n k) 1) ≤ _
          rw [List.length_cons]; omega
      · refine br_f (by rw [er, h]; decide) (nm_r (nI_1 k) (ih t ⟨⟨r1, r2, r3, r4, r5⟩, t2, t3, nx t.1 t.2.1 t4 (fun _ => h), t5, t6⟩))
def yr_V (g : Nat → Nat → Nat) (a d : Nat) (re : Nat → Int32) : Prop := ∀ i, i < 16 → (re i = 1 ∧ yr_P g a d i) ∨ (re i = 0 ∧ ¬ yr_P g a d i)
theorem yr_46 (W : gg_W g) (G : (yg_G g b_actKind b_actV b_actC b_endKind b_endV b_endX b_endY)) {a d : Nat} {wi : Int32} (hwi : ∀ s, s < 16 → (nI s = wi ↔ s = d)) (ha : a < 16) {post : SY → Prop} (C : ∀ re td : Nat → Int32, yr_V g a d re → post (g_fresh, g_many, g_tells, g_last, g_runs, g_stopped, b_actKind, b_actV, b_actC, b_endKind, b_endV, b_endX, b_endY, b_number, b_before, b_behind, re, td, b_words, b_coming, b_values, b_told, b_variables)) :
    ∀ (f : Nat) (tl : List Nat) (re td : Nat → Int32), tl.length + 2 * yr_u re < f → yr_I g a d re tl td → (∀ i, i < 16 → re i = 1 → i ∈ tl ∨ ∀ s, gg_E g i s → s ≠ d → re s = 1) → (wY_reach_46 post wi g_fresh g_many g_tells g_last g_runs g_stopped f (nI tl.length) b_actKind b_actV b_actC b_endKind b_endV b_endX b_endY b_number b_before b_behind re td b_words b_coming b_values b_told b_variables) := by
  intro f
  induction f with
  | zero => intro tl re td h; omega
  | succ f ih =>
    intro tl re td hf hI hc
    obtain ⟨r1, r2, r3, r4, r5⟩ := hI
    cases tl with
    | nil =>
      refine br_t (by decide) (C re td (fun i hi => ?_))
      rcases r1 i hi with h | h
      · refine Or.inr ⟨h, fun hP => ?_⟩
        have : i < 16 ∧ re i = 1 := by
          refine gr_in (Q := fun i => i < 16 ∧ re i = 1) hP.2 ⟨ha, r2⟩ ?_
          intro x y _ hx e hy
          rcases hc x hx.1 hx.2 with h2 | h2
          · cases h2
          · exact ⟨gg_E16 W e, h2 y e hy⟩
        rw [h] at this
        exact absurd this.2 (by decide)
      · exact Or.inl h
    | cons n tl =>
      rw [List.length_cons] at hf r5
      have hn := r3 n List.mem_cons_self
      have hPn : yr_P g a d n := by
        rcases r1 n hn.1 with h | h
        · rw [h] at hn; exact absurd hn.2 (by decide)
        · exact h.2
      refine br_f (nI_nle (by rw [List.length_cons]; omega) (by rw [List.length_cons]; omega)) (nm_r (e' := nI tl.length) (pk_m1 _) (And.intro (vp_in_nI (by omega) (by omega)) (nm_r (e' := nI n) (by rw [nI_clamp (by omega)]; exact r4.1) (yg_af W G hn.1 ?_))))
      refine yr_72 (b_reached := re) (b_todo := td) W G hwi hn.1 hPn ⟨r1, r2, fun i hi => r3 i (List.mem_cons_of_mem _ hi), r4.2, by omega⟩ ?_
      intro tl' re' td' hI' q2 q3 q4 q5 q6
      refine ih tl' re' td' (by omega) hI' ?_
      intro i hi hre
      rcases q3 i hi hre with h | h
      · by_cases e : i = n
        · subst e; exact Or.inr q4
        · rcases hc i hi h with h2 | h2
          · rcases List.mem_cons.mp h2 with h3 | h3
            · exact absurd h3 e
            · exact Or.inl (q5 i h3)
          · exact Or.inr (fun s hE hsd => q2 s (gg_E16 W hE) (h2 s hE hsd))
      · exact Or.inl h
/-- reach, whole -/
theorem yr_r (W : gg_W g) (G : (yg_G g b_actKind b_actV b_actC b_endKind b_endV b_endX b_endY)) {a d : Nat} {wi : Int32} (hwi : ∀ s, s < 16 → (nI s = wi ↔ s = d)) (ha : a < 16) {post : SY → Prop} (C : ∀ re td : Nat → Int32, yr_V g a d re → post (g_fresh, g_many, g_tells, g_last, g_runs, g_stopped, b_actKind, b_actV, b_actC, b_endKind, b_endV, b_endX, b_endY, b_number, b_before, b_behind, re, td, b_words, b_coming, b_values, b_told, b_variables)) : (wpY_reach post (g_fresh, g_many, g_tells, g_last, g_runs, g_stopped, b_actKind, b_actV, b_actC, b_endKind, b_endV, b_endX, b_endY, b_number, b_before, b_behind, b_reached, b_todo, b_words, b_coming, b_values, b_told, b_variables) (nI a) wi) := by
  refine loop_0 (σ := Nat → Int32) (fun n i s => (wY_reach_2 post (nI a) wi g_fresh g_many g_tells g_last g_runs g_stopped n (nI i) b_actKind b_actV b_actC b_endKind b_endV b_endX b_endY b_number b_before b_behind s b_todo b_words b_coming b_values b_told b_variables)) (fun i s => ∀ j, j < i → s j = 0) 16 b_reached (fun j hj => by omega) ?_ ?_
  · intro n re hre
    refine br_t (by decide) ?_
    by_cases e : a = d
    · refine br_t ((hwi a ha).mpr e) (C re b_todo (fun i hi => Or.inr ⟨hre i hi, fun h => h.1 e⟩))
    · refine br_f (fun h => e ((hwi a ha).mp h)) (nm_r (e' := nI 1) (by decide) (nm_r (e' := upd b_todo 0 (nI a)) rfl (And.intro (xg_i ha) (nm_r (e' := upd re a 1) (by rw [bs_z1, xg_u (by omega)]) ⟨40, ?_⟩))))
      have hu := yr_m ha (hre a ha)
      have hle := ct_le (fun i => decide (re i = 0)) 16
      have hle' : yr_u re ≤ 16 := hle
      refine yr_46 W G hwi ha C 40 [a] _ _ ?_ ⟨?_, pk_us, ?_, ⟨pk_us, trivial⟩, ?_⟩ ?_
      · show 1 + 2 * yr_u (upd re a 1) < 40
        omega
      · intro i hi
        by_cases e2 : i = a
        · subst e2; exact Or.inr ⟨pk_us, e, gr_rf⟩
        · rw [pk_un e2]; exact Or.inl (hre i hi)
      · intro i hi
        rw [List.mem_singleton] at hi
        subst hi
        exact ⟨ha, pk_us⟩
      · show 1 + yr_u (upd re a 1) ≤ 16
        omega
      · intro i hi h
        by_cases e2 : i = a
        · subst e2; exact Or.inl (List.mem_singleton.mpr rfl)
        · rw [pk_un e2, hre i hi] at h
          exact absurd h (by decide)
  · intro n i s hi hI ih
    refine br_f (nI_ge (b := 16) hi (by omega)) (And.intro (xg_i hi) (nm_r (e' := upd s i 0) (by rw [bs_z0, xg_u (by omega)]) (nm_r (nI_1 i) (ih _ ?_))))
    intro j hj
    by_cases ej : j = i
    · subst ej; exact pk_us
    · exact (pk_un ej).trans (hI j (by omega))
def ys_T (g : Nat → Nat → Nat) (a d : Nat) : Prop := ∃ m, yr_P g a d m ∧ g 0 m = 0
theorem yr_P16 (W : gg_W g) {a d n : Nat} (ha : a < 16) (h : yr_P g a d n) : n < 16 := by
  refine gr_in (Q := fun n => n < 16) h.2 ha ?_
  intro x y _ _ e _
  exact gg_E16 W e
theorem ys_st (W : gg_W g) (G : (yg_G g b_actKind b_actV b_actC b_endKind b_endV b_endX b_endY)) {a d : Nat} {wi : Int32} (hwi : ∀ s, s < 16 → (nI s = wi ↔ s = d)) (ha : a < 16) {post : Int32 → SY → Prop} (C1 : ys_T g a d → ∀ re td : Nat → Int32, post 1 (g_fresh, g_many, g_tells, g_last, g_runs, g_stopped, b_actKind, b_actV, b_actC, b_endKind, b_endV, b_endX, b_endY, b_number, b_before, b_behind, re, td, b_words, b_coming, b_values, b_told, b_variables)) (C0 : ¬ ys_T g a d → ∀ re td : Nat → Int32, post 0 (g_fresh, g_many, g_tells, g_last, g_runs, g_stopped, b_actKind, b_actV, b_actC, b_endKind, b_endV, b_endX, b_endY, b_number, b_before, b_behind, re, td, b_words, b_coming, b_values, b_told, b_variables)) : (wpY_stops post (g_fresh, g_many, g_tells, g_last, g_runs, g_stopped, b_actKind, b_actV, b_actC, b_endKind, b_endV, b_endX, b_endY, b_number, b_before, b_behind, b_reached, b_todo, b_words, b_coming, b_values, b_told, b_variables) (nI a) wi) := by
  unfold wpY_stops
  refine yr_r W G hwi ha ?_
  intro re td hre
  refine loop_0 (σ := Unit) (fun n i _ => (wY_stops_8 post g_fresh g_many g_tells g_last g_runs g_stopped b_actKind b_actV b_actC b_endKind b_endV b_endX b_endY b_number b_before b_behind re td b_words b_coming b_values b_told b_variables n (nI i))) (fun i _ => ∀ j, j < i → ¬ (yr_P g a d j ∧ g 0 j = 0)) 16 () (fun j hj => by omega) ?_ ?_
  · intro n _ h
    exact br_t (by decide) (C0 (fun ⟨m, h1, h2⟩ => h m (yr_P16 W ha h1) ⟨h1, h2⟩) re td)
  · intro n i _ hi hI ih
    have hw := W i
    have e0 : b_endKind (nI i).toNatClampNeg = nI (g 0 i) := by rw [nI_clamp (by omega), (G i hi).1]
    have nx : ¬ (yr_P g a d i ∧ g 0 i = 0) → ∀ j, j < i + 1 → ¬ (yr_P g a d j ∧ g 0 j = 0) := by
      intro h j hj
      by_cases e : j = i
      · subst e; exact h
      · exact hI j (by omega)
    refine br_f (nI_ge (b := 16) hi (by omega)) (And.intro (xg_i hi) ?_)
    rcases hre i hi with ⟨h1, h2⟩ | ⟨h1, h2⟩
    · refine br_f (by rw [nI_clamp (by omega), h1]; decide) (And.intro (xg_i hi) ?_)
      by_cases k0 : g 0 i = 0
      · exact br_t (by rw [e0, k0]; rfl) (C1 ⟨i, h2, k0⟩ re td)
      · exact br_f (by rw [e0]; exact nI_ne0 (by omega) (by omega)) (nm_r (nI_1 i) (ih () (nx (fun h => k0 h.2))))
    · exact br_t (by rw [nI_clamp (by omega), h1]) (nm_r (nI_1 i) (ih () (nx (fun h => h2 h.1))))
end YA
end
section
section YB
variable {g_fresh g_many g_tells g_last g_runs g_stopped : Int32} {b_actKind b_actV b_actC b_endKind b_endV b_endX b_endY b_number b_before b_behind b_reached b_todo b_words b_coming b_values b_told b_variables : Nat → Int32} {g : Nat → Nat → Nat}
/-! Y: numbers -/
def yo_R : List Nat → (Nat → Int32) → Prop
  | [], _ => True
  | n :: o, nu => nu n = nI o.length ∧ yo_R o nu
theorem yo_k {nu nu' : Nat → Int32} : ∀ o : List Nat, yo_R o nu → (∀ i, i ∈ o → nu' i = nu i) → yo_R o nu'
  | [], _, _ => trivial
  | n :: o, h, hk => ⟨(hk n List.mem_cons_self).trans h.1, yo_k o h.2 (fun i hi => hk i (List.mem_cons_of_mem _ hi))⟩
theorem yo_g {nu : Nat → Int32} : ∀ (o : List Nat) (j : Nat), yo_R o nu → j < o.length → nu (o.getD j 0) = nI (o.length - 1 - j)
  | [], _, _, h => by cases h
  | n :: o, 0, h, _ => by
    rw [List.length_cons, Nat.add_sub_cancel, Nat.sub_zero]
    exact h.1
  | n :: o, j + 1, h, hj => by
    rw [List.length_cons] at hj ⊢
    have := yo_g o j h.2 (by omega)
    rw [show o.length + 1 - 1 - (j + 1) = o.length - 1 - j by omega]
    exact this
theorem yn_c {n : Nat} (W : gg_W g) {s : List (Nat × Nat)} {sn : Nat → Bool} {o : List Nat} {r : List Nat × (Nat → Bool)} {f : Nat} (h : df_r g f ((n, ys_a g n) :: s) sn o = some r) (hJ : df_J g ((n, ys_a g n) :: s) sn o) : ∃ f', f' < f ∧ df_r g f' s sn (n :: o) = some r ∧ df_J g s sn (n :: o) := by
  have fin : ∀ (f : Nat), df_r g f ((n, 2) :: s) sn o = some r → df_J g ((n, 2) :: s) sn o → ∃ f', f' < f ∧ df_r g f' s sn (n :: o) = some r ∧ df_J g s sn (n :: o) := by
    intro f h hJ
    cases f with
    | zero => cases h
    | succ f =>
      rw [df_r2] at h
      exact ⟨f, by omega, h, df_J2 hJ⟩
  have hw := W n
  have one : ∀ (f : Nat), g 0 n ≤ 1 ∨ g 2 n = g 3 n → df_r g f ((n, 1) :: s) sn o = some r → df_J g ((n, 1) :: s) sn o → ∃ f', f' < f ∧ df_r g f' s sn (n :: o) = some r ∧ df_J g s sn (n :: o) := by
    intro f hg h hJ
    cases f with
    | zero => cases h
    | succ f =>
      have key : df_r g f ((n, 2) :: s) sn o = some r ∧ df_J g ((n, 2) :: s) sn o := by
        cases hs : gg_s g n 1 with
        | none =>
          rw [df_rn (by omega) hs] at h
          exact ⟨h, df_Js hJ (by omega) (fun m hm => by rw [hs] at hm; cases hm)⟩
        | some m =>
          have hm : sn m = true := by
            unfold gg_s at hs
            rw [if_neg (by omega)] at hs
            by_cases h2 : 1 = 1 ∧ g 0 n = 2
            · rw [if_pos h2] at hs
              have hs := Option.some.inj hs
              have hx : g 2 n = g 3 n := by omega
              have := (hJ.2.1 (n, 1) List.mem_cons_self).2.2.2 0 (g 2 n) (by show 0 < 1; omega) (by show gg_s g n 0 = some (g 2 n); unfold gg_s; rw [if_pos (by omega)])
              rw [← hs, ← hx]; exact this
            · rw [if_neg h2] at hs; cases hs
          rw [df_rs (by omega) hs hm] at h
          exact ⟨h, df_Js hJ (by omega) (fun m' hm' => by rw [hs] at hm'; rw [← Option.some.inj hm']; exact hm)⟩
      obtain ⟨f', h1, h2⟩ := fin f key.1 key.2
      exact ⟨f', by omega, h2⟩
  unfold ys_a at h hJ
  by_cases k0 : g 0 n = 0
  · rw [if_pos k0] at h hJ
    cases f with
    | zero => cases h
    | succ f =>
      have hs : gg_s g n 0 = none := by
        unfold gg_s
        rw [if_neg (by omega), if_neg (by omega)]
      rw [df_rn (by omega) hs] at h
      obtain ⟨f', h1, h2⟩ := one f (by omega) h (df_Js hJ (by omega) (fun m hm => by rw [hs] at hm; cases hm))
      exact ⟨f', by omega, h2⟩
  · rw [if_neg k0] at h hJ
    by_cases k1 : g 0 n = 1 ∨ g 2 n = g 3 n
    · rw [if_pos k1] at h hJ
      exact one f (by omega) h hJ
    · rw [if_neg k1] at h hJ
      exact fin f h hJ
theorem yn_s {n k : Nat} (W : gg_W g) (h : k < ys_a g n) : gg_s g n k = some (ys_s g n k) := by
  have hw := W n
  have h2 := ys_a2 g n
  have hk : k < 2 := by omega
  unfold ys_a at h
  unfold gg_s ys_s
  have k0 : g 0 n ≠ 0 := by
    intro e
    rw [if_pos e] at h
    omega
  rw [if_neg k0] at h
  by_cases e : k = 0
  · rw [if_pos (by omega), if_pos e]
  · rw [if_neg (by omega), if_neg e, if_pos]
    refine ⟨by omega, ?_⟩
    apply Classical.byContradiction
    intro hne
    rw [if_pos (Or.inl (by omega))] at h
    omega
theorem yn_53 (W : gg_W g) (G : (yg_G g b_actKind b_actV b_actC b_endKind b_endV b_endX b_endY)) {r : List Nat × (Nat → Bool)} {post : SY → Prop}
    (K : ∀ (nu re td wo : Nat → Int32), yo_R r.1 nu → (∀ i, i < 16 → i ∉ r.1 → nu i = -1) → r.1.length ≤ 16 → ∃ n172 : Nat, (wY_numbers_172 post (nI r.1.length) g_fresh g_many g_tells g_last g_runs g_stopped n172 0 b_actKind b_actV b_actC b_endKind b_endV b_endX b_endY nu b_before b_behind re td wo b_coming b_values b_told b_variables)) :
    ∀ (F f : Nat) (s : List (Nat × Nat)) (sn : Nat → Bool) (o : List Nat), f ≤ F → df_r g f s sn o = some r → df_J g s sn o → (∀ p, p ∈ s → p.2 ≤ ys_a g p.1) → ∀ (nu re td wo : Nat → Int32), (∀ i, i < 16 → re i = if sn i = true then 1 else 0) → xs_S s td wo → yo_R o nu → (∀ i, i < 16 → i ∉ o → nu i = -1) →
      (wY_numbers_53 post g_fresh g_many g_tells g_last g_runs g_stopped F (nI o.length) (nI s.length) b_actKind b_actV b_actC b_endKind b_endV b_endX b_endY nu b_before b_behind re td wo b_coming b_values b_told b_variables) := by
  intro F
  induction F with
  | zero =>
    intro f s sn o hF hr
    have : f = 0 := by omega
    subst this
    cases hr
  | succ F ih =>
    intro f s sn o hF hr hJ hka nu re td wo hre hS hO hno
    cases s with
    | nil =>
      cases f with
      | zero => cases hr
      | succ f =>
        rw [df_r0] at hr
        have hr := Option.some.inj hr
        subst hr
        have hl := hJ.2.2.2.2.2.2.2
        exact br_t (by decide) (K nu re td wo hO hno (by show o.length ≤ 16; omega))
    | cons p s =>
      obtain ⟨n, k⟩ := p
      have hp := hJ.2.1 (n, k) List.mem_cons_self
      have hn : n < 16 := hp.1
      have hka' : k ≤ ys_a g n := hka (n, k) List.mem_cons_self
      have ha2 := ys_a2 g n
      have hl : s.length + 1 + o.length ≤ 16 := by
        have := hJ.2.2.2.2.2.2.2
        rw [List.length_cons] at this
        omega
      have ex : nI (s.length + 1) - 1 = nI s.length := nI_pred _
      have hin : vp_in (nI (s.length + 1) - 1) 600 := by rw [ex]; exact vp_in_nI (by omega) (by omega)
      have hst : td (nI (s.length + 1) - 1).toNatClampNeg = nI n := by rw [ex, nI_clamp (by omega)]; exact hS.1
      have hwo : wo (nI (s.length + 1) - 1).toNatClampNeg = nI k := by rw [ex, nI_clamp (by omega)]; exact hS.2.1
      have hwo' : upd wo (nI (s.length + 1) - 1).toNatClampNeg ((wo (nI (s.length + 1) - 1).toNatClampNeg) + 1) = upd wo s.length (nI (k + 1)) := by
        rw [hwo, nI_1, ex, xg_u (by omega)]
      have hS1 : xs_S ((n, k + 1) :: s) td (upd wo s.length (nI (k + 1))) :=
        ⟨hS.1, pk_us, xs_Sk s hS.2.2 (fun i hi => ⟨rfl, pk_un (by omega)⟩)⟩
      refine br_f (nI_nle (by rw [List.length_cons]; omega) (by rw [List.length_cons]; omega)) (And.intro hin (nm_r hst (And.intro hin (And.intro hin (nm_r hwo' (nm_r hwo (yg_af W G hn ?_)))))))
      by_cases hk : k = ys_a g n
      · subst hk
        obtain ⟨f', h1, h2, h3⟩ := yn_c W hr hJ
        have hnod := hJ.2.2.2.2.1
        have hno' : n ∉ o := by
          intro hm
          have h4 : (n :: (s.map Prod.fst ++ o)).Nodup := hnod
          exact (List.nodup_cons.mp h4).1 (List.mem_append_right _ hm)
        refine br_t rfl (nm_r (nI_1 _) (And.intro (xg_i hn) (nm_r (e' := upd nu n (nI o.length)) (by rw [xg_u (by omega)]) (nm_r (e' := nI s.length) (pk_m1 _) ?_))))
        refine ih f' s sn (n :: o) (by omega) h2 h3 (fun q hq => hka q (List.mem_cons_of_mem _ hq)) _ re td _ hre hS1.2.2 ⟨pk_us, yo_k o hO (fun i hi => pk_un (fun e => hno' (by rw [← e]; exact hi)))⟩ ?_
        intro i hi hin2
        have : i ≠ n := fun e => hin2 (by rw [e]; exact List.mem_cons_self)
        rw [pk_un this]
        exact hno i hi (fun h => hin2 (List.mem_cons_of_mem _ h))
      · have hklt : k < ys_a g n := by omega
        have hs16 := ys_s16 W n k
        have hgs := yn_s W hklt
        have hk2 : k ≠ 2 := by omega
        refine br_f (fun h => hk (bs_inj h (by omega) (by omega))) (yg_af W G hn (br_f (nI_ge hklt (by omega)) (yg_su W G hn hklt (And.intro (xg_i hs16) ?_))))
        cases f with
        | zero => cases hr
        | succ f =>
          have er : re (nI (ys_s g n k)).toNatClampNeg = re (ys_s g n k) := by rw [nI_clamp (by omega)]
          have hka2 : ∀ q, q ∈ (n, k + 1) :: s → q.2 ≤ ys_a g q.1 := by
            intro q hq
            rcases List.mem_cons.mp hq with e | e
            · rw [e]; show k + 1 ≤ ys_a g n; omega
            · exact hka q (List.mem_cons_of_mem _ e)
          by_cases hsm : sn (ys_s g n k) = true
          · rw [df_rs hk2 hgs hsm] at hr
            refine br_f (by rw [er, hre _ hs16, if_pos hsm]; decide) ?_
            exact ih f _ sn o (by omega) hr (df_Js hJ hk2 (fun m' hm' => by rw [hgs] at hm'; rw [← Option.some.inj hm']; exact hsm)) hka2 nu re td _ hre hS1 hO hno
          · have hsm : sn (ys_s g n k) = false := ts_nt hsm
            rw [df_rp hk2 hgs hsm] at hr
            have hin3 : vp_in (nI (s.length + 1)) 600 := vp_in_nI (by omega) (by omega)
            have etd : upd td (s.length + 1) (nI (ys_s g n k)) (nI (s.length + 1)).toNatClampNeg = nI (ys_s g n k) := by rw [nI_clamp (by omega)]; exact pk_us
            refine br_t (by rw [er, hre _ hs16, if_neg (by rw [hsm]; exact Bool.noConfusion)]) (yg_su W G hn hklt ?_)
            refine And.intro hin3 (nm_r (e' := upd td (s.length + 1) (nI (ys_s g n k))) (by rw [List.length_cons, xg_u (by omega)]) (And.intro hin3 (And.intro (by rw [List.length_cons, etd]; exact xg_i hs16) (nm_r (e' := upd re (ys_s g n k) 1) (by rw [List.length_cons, etd, bs_z1, xg_u (by omega)]) (And.intro hin3 (nm_r (e' := upd (upd wo s.length (nI (k + 1))) (s.length + 1) 0) (by rw [List.length_cons, xg_u (by omega)]) (nm_r (nI_1 _) ?_)))))))
            refine ih f _ _ o (by omega) hr (df_Jp W hJ hk2 hgs hsm) ?_ nu _ _ _ ?_ ?_ hO hno
            · intro q hq
              rcases List.mem_cons.mp hq with e | e
              · rw [e]; exact Nat.zero_le _
              · exact hka2 q e
            · intro i hi
              by_cases e : i = ys_s g n k
              · rw [e, pk_us, if_pos df_mm]
              · rw [pk_un e, df_mn e]; exact hre i hi
            · refine ⟨pk_us, pk_us, xs_Sk ((n, k + 1) :: s) hS1 (fun i hi => ?_)⟩
              rw [List.length_cons] at hi
              exact ⟨pk_un (by omega), pk_un (by omega)⟩
def yn_N (g : Nat → Nat → Nat) (nu : Nat → Int32) : Prop := ∀ n, n < 16 → (gg_R g n ∧ nu n = nI (gg_n g n)) ∨ (¬ gg_R g n ∧ nu n = -1)
theorem yn_n (W : gg_W g) (G : (yg_G g b_actKind b_actV b_actC b_endKind b_endV b_endX b_endY)) {post : SY → Prop} (C : ∀ nu re td wo : Nat → Int32, yn_N g nu → post (g_fresh, g_many, g_tells, g_last, g_runs, g_stopped, b_actKind, b_actV, b_actC, b_endKind, b_endV, b_endX, b_endY, nu, b_before, b_behind, re, td, wo, b_coming, b_values, b_told, b_variables)) : (wpY_numbers post (g_fresh, g_many, g_tells, g_last, g_runs, g_stopped, b_actKind, b_actV, b_actC, b_endKind, b_endV, b_endX, b_endY, b_number, b_before, b_behind, b_reached, b_todo, b_words, b_coming, b_values, b_told, b_variables)) := by
  have hq := df_qe W
  have hlen := df_ln W
  refine loop_0 (σ := (Nat → Int32) × (Nat → Int32)) (fun n i s => (wY_numbers_2 post g_fresh g_many g_tells g_last g_runs g_stopped n (nI i) b_actKind b_actV b_actC b_endKind b_endV b_endX b_endY s.1 b_before b_behind s.2 b_todo b_words b_coming b_values b_told b_variables)) (fun i s => ∀ j, j < i → s.1 j = -1 ∧ s.2 j = 0) 16 (b_number, b_reached) (fun j hj => by omega) ?_ ?_
  · intro n s hI
    refine br_t (by decide) (nm_r (e' := upd b_todo 0 0) rfl (nm_r (e' := upd b_words 0 0) rfl (nm_r (e' := upd s.2 0 1) (by rw [bs_z1]) ⟨100, ?_⟩)))
    refine yn_53 W G (r := df_q g) ?_ 100 100 [(0, 0)] df_0 [] (Nat.le_refl _) hq.1 df_J0 ?_ s.1 _ _ _ ?_ ⟨pk_us, pk_us, trivial⟩ trivial (fun i hi _ => (hI i hi).1)
    · intro nu re td wo hO hno hl
      have hod : ∀ i, i ∈ (df_q g).1 ↔ gg_R g i := df_mR W
      refine loop_0 (σ := Nat → Int32) (fun n i t => (wY_numbers_172 post (nI (df_q g).1.length) g_fresh g_many g_tells g_last g_runs g_stopped n (nI i) b_actKind b_actV b_actC b_endKind b_endV b_endX b_endY t b_before b_behind re td wo b_coming b_values b_told b_variables))
        (fun j t => ∀ n, n < 16 → (gg_R g n ∧ t n = if n < j then nI (gg_n g n) else nu n) ∨ (¬ gg_R g n ∧ t n = -1)) 16 nu ?_ ?_ ?_
      · intro n hn
        by_cases hR : gg_R g n
        · exact Or.inl ⟨hR, (if_neg (by omega)).symm⟩
        · exact Or.inr ⟨hR, hno n hn (fun h => hR ((hod n).mp h))⟩
      · intro n t ht
        refine br_t (by decide) (C t re td wo (fun m hm => ?_))
        rcases ht m hm with h | h
        · rw [if_pos hm] at h; exact Or.inl h
        · exact Or.inr h
      · intro n i t hi ht ih
        have ei : t (nI i).toNatClampNeg = t i := by rw [nI_clamp (by omega)]
        refine br_f (nI_ge (b := 16) hi (by omega)) (And.intro (xg_i hi) ?_)
        rcases ht i hi with ⟨hR, h⟩ | ⟨hR, h⟩
        · rw [if_neg (by omega)] at h
          have hg := gg_nl W hR
          have hnu : nu i = nI ((df_o g).length - 1 - gg_n g i) := by
            have := yo_g (df_o g) (gg_n g i) hO hg.1
            rw [hg.2] at this
            exact this
          rw [hnu] at h
          refine br_f (by rw [ei, h]; exact nI_pos (by omega)) (And.intro (xg_i hi) (And.intro (xg_i hi) (nm_r (e' := upd t i (nI (gg_n g i))) ?_ (nm_r (nI_1 i) (ih _ ?_)))))
          · rw [nI_clamp (by omega), h, bs_sub1 (show 0 < (df_q g).1.length from by show 0 < (df_o g).length; omega), pk_sub (show (df_o g).length - 1 - gg_n g i ≤ (df_q g).1.length - 1 from by show _ ≤ (df_o g).length - 1; omega)]
            exact congrArg (fun x => upd t i (nI x)) (by show (df_o g).length - 1 - ((df_o g).length - 1 - gg_n g i) = gg_n g i; omega)
          · intro m hm
            by_cases e : m = i
            · subst e; exact Or.inl ⟨hR, by rw [pk_us, if_pos (by omega)]⟩
            · rw [pk_un e]
              rcases ht m hm with h2 | h2
              · refine Or.inl ⟨h2.1, h2.2.trans ?_⟩
                by_cases e2 : m < i
                · rw [if_pos e2, if_pos (by omega)]
                · rw [if_neg e2, if_neg (by omega)]
              · exact Or.inr h2
        · refine br_t (by rw [ei, h]; exact bs_n1) (nm_r (nI_1 i) (ih t ?_))
          intro m hm
          rcases ht m hm with h2 | h2
          · refine Or.inl ⟨h2.1, h2.2.trans ?_⟩
            have : m ≠ i := by
              intro e
              rw [e] at h2
              exact hR h2.1
            by_cases e2 : m < i
            · rw [if_pos e2, if_pos (by omega)]
            · rw [if_neg e2, if_neg (by omega)]
          · exact Or.inr h2
    · intro p hp
      rw [List.mem_singleton] at hp
      rw [hp]
      exact Nat.zero_le _
    · intro i hi
      by_cases e : i = 0
      · subst e; rw [pk_us]; rfl
      · rw [pk_un e, (hI i hi).2, if_neg]
        unfold df_0
        rw [decide_eq_true_iff]; exact e
  · intro n i s hi hI ih
    refine br_f (nI_ge (b := 16) hi (by omega)) (And.intro (xg_i hi) (nm_r (e' := upd s.1 i (-1)) (by rw [xg_u (by omega)]) (And.intro (xg_i hi) (nm_r (e' := upd s.2 i 0) (by rw [bs_z0, xg_u (by omega)]) (nm_r (nI_1 i) (ih (_, _) ?_))))))
    intro j hj
    by_cases ej : j = i
    · subst ej; exact ⟨pk_us, pk_us⟩
    · have := hI j (by omega)
      exact ⟨(pk_un ej).trans this.1, (pk_un ej).trans this.2⟩
end YB
end
section
section YC
variable {g : Nat → Nat → Nat}
/-! the turned graph and ways to a stop -/
theorem gg_Bw (W : gg_W g) {P : Nat → Prop} {n : Nat} (hR : gg_R g n) : gr_c (gg_B g) P 16 n ↔ P n ∧ ∃ m, gr_c (gg_E g) P n m ∧ g 0 m = 0 := by
  have hn16 := gg_R16 W hR
  constructor
  · intro h
    have key : ∀ y, gr_c (gg_B g) P 16 y → y = 16 ∨ (P y ∧ ∃ m, gr_c (gg_E g) P y m ∧ g 0 m = 0) := by
      intro y hy
      refine gr_in (Q := fun y => y = 16 ∨ (P y ∧ ∃ m, gr_c (gg_E g) P y m ∧ g 0 m = 0)) hy (Or.inl rfl) ?_
      intro x y _ hq e hp
      rcases e with ⟨e1, e2, e3⟩ | ⟨e1, e2, e3⟩
      · rcases hq with hq | ⟨hq, m, h1, h2⟩
        · omega
        · exact Or.inr ⟨hp, m, gr_hd e3 hq h1, h2⟩
      · exact Or.inr ⟨hp, y, gr_rf, e3⟩
    rcases key n h with h2 | h2
    · omega
    · exact h2
  · intro ⟨hp, m, h1, h2⟩
    have key : gr_c (gg_B g) P m n ∧ gg_R g m := by
      refine gr_in (Q := fun z => gr_c (gg_B g) P z n ∧ gg_R g z) h1 ⟨gr_rf, hR⟩ ?_
      intro x y hx hq e _
      refine ⟨gr_hd (Or.inl ⟨gg_E16 W e, hq.2, e⟩) ?_ hq.1, gr_st hq.2 e trivial⟩
      rcases gr_P hx with e2 | e2
      · rw [e2]; exact hp
      · exact e2
    refine gr_hd (Or.inr ⟨rfl, key.2, h2⟩) ?_ key.1
    rcases gr_P h1 with e2 | e2
    · rw [e2]; exact hp
    · exact e2
theorem gg_TR (W : gg_W g) {n : Nat} (hn : n < 16) (h : gg_T g n) : gg_R g n := by
  have key : n = 16 ∨ gg_R g n := by
    refine gr_in (Q := fun n => n = 16 ∨ gg_R g n) h (Or.inl rfl) ?_
    intro x y _ _ e _
    rcases e with e | e
    · exact Or.inr e.2.1
    · exact Or.inr e.2.1
  rcases key with h | h
  · omega
  · exact h
theorem gg_Ti (W : gg_W g) {n : Nat} (hR : gg_R g n) : gg_T g n ↔ ys_T g n 16 := by
  have hn16 := gg_R16 W hR
  unfold gg_T dm_R
  rw [gg_Bw W hR]
  unfold ys_T yr_P
  constructor
  · intro ⟨_, m, h1, h2⟩
    refine ⟨m, ⟨by omega, gr_mo h1 (fun x y _ e _ => ⟨e, ?_⟩)⟩, h2⟩
    have := gg_E16 W e
    omega
  · intro ⟨m, ⟨_, h1⟩, h2⟩
    exact ⟨trivial, m, gr_T h1, h2⟩
theorem gg_Pi (W : gg_W g) {n d : Nat} (hR : gg_R g n) (hd : d < 16) : gg_P g d n ↔ ¬ ys_T g n d := by
  unfold gg_P dm_D dm_A
  rw [gg_Bw W hR]
  unfold ys_T yr_P
  constructor
  · intro h ⟨m, ⟨h1, h2⟩, h3⟩
    exact h ⟨by omega, h1, m, h2, h3⟩
  · intro h ⟨_, h1, m, h2, h3⟩
    exact h ⟨m, ⟨h1, h2⟩, h3⟩
def yq_B (g : Nat → Nat → Nat) (d n : Nat) : Prop := gg_R g d ∧ gg_R g n ∧ gg_D g d n
def yq_H (g : Nat → Nat → Nat) (d n : Nat) : Prop := gg_T g n ∧ gg_R g n ∧ gg_R g d ∧ gg_P g d n
end YC
section YD
variable {g_fresh g_many g_tells g_last g_runs g_stopped : Int32} {b_actKind b_actV b_actC b_endKind b_endV b_endX b_endY b_number b_before b_behind b_reached b_todo b_words b_coming b_values b_told b_variables : Nat → Int32} {g : Nat → Nat → Nat}
/-! Y: seen; who is before and behind whom -/
theorem yk_sv (W : gg_W g) (hN : yn_N g b_number) (x : Int32) {post : Int32 → Prop} (h1 : ∀ n, n < 16 → x = nI n → gg_R g n → post 1) (h0 : (∀ n, n < 16 → x = nI n → ¬ gg_R g n) → post 0) : (wpY_seen post (g_fresh, g_many, g_tells, g_last, g_runs, g_stopped, b_actKind, b_actV, b_actC, b_endKind, b_endV, b_endX, b_endY, b_number, b_before, b_behind, b_reached, b_todo, b_words, b_coming, b_values, b_told, b_variables) x) := by
  unfold wpY_seen
  refine yg_in (N := 15) (by omega) ?_ ?_
  · intro j hj e
    subst e
    refine br_f (by decide) (And.intro (xg_i (by omega)) ?_)
    rw [nI_clamp (by omega)]
    rcases hN j (by omega) with ⟨a, b⟩ | ⟨a, b⟩
    · rw [b]
      have h3 := (gg_nl W a).1
      have h4 := df_ln W
      exact br_f (nI_pos (by omega)) (h1 j (by omega) rfl a)
    · rw [b]
      exact br_t bs_n1 (h0 (fun n hn e => by have := bs_inj e (by omega) (by omega); subst this; exact a))
  · intro h
    exact br_t rfl (h0 (fun n hn e => absurd e (h n (by omega))))
theorem yk_s (W : gg_W g) (hN : yn_N g b_number) {n : Nat} (hn : n < 16) {post : Int32 → Prop} (h1 : gg_R g n → post 1) (h0 : ¬ gg_R g n → post 0) : (wpY_seen post (g_fresh, g_many, g_tells, g_last, g_runs, g_stopped, b_actKind, b_actV, b_actC, b_endKind, b_endV, b_endX, b_endY, b_number, b_before, b_behind, b_reached, b_todo, b_words, b_coming, b_values, b_told, b_variables) (nI n)) := by
  refine yk_sv W hN _ (fun m hm e hR => ?_) (fun h => h0 (h n hn rfl))
  have := bs_inj e (by omega) (by omega)
  subst this
  exact h1 hR

theorem yk_ix (d n : Nat) : 16 * nI d + nI n = nI (16 * d + n) := by
  rw [show (16 : Int32) * nI d = nI 16 * nI d from rfl, pk_mul, nI_add]
theorem yk_n0 : narrow .boolean (.int 0) = .int 0 := by decide
theorem yk_n1 : narrow .boolean (.int 1) = .int 1 := by decide

theorem yk_Bb (hB : ∀ d n, d < 16 → n < 16 → b_before (16 * d + n) = if pd_b (yq_B g d n) = true then 1 else 0) {d n : Nat} (hd : d < 16) (hn : n < 16) {post : Int32 → Prop} (h1 : yq_B g d n → post 1) (h0 : ¬ yq_B g d n → post 0) : (wpY_isBefore post (g_fresh, g_many, g_tells, g_last, g_runs, g_stopped, b_actKind, b_actV, b_actC, b_endKind, b_endV, b_endX, b_endY, b_number, b_before, b_behind, b_reached, b_todo, b_words, b_coming, b_values, b_told, b_variables) (nI d) (nI n)) := by
  have e : b_before (16 * nI d + nI n).toNatClampNeg = if pd_b (yq_B g d n) = true then 1 else 0 := by rw [yk_ix, nI_clamp (by omega)]; exact hB d n hd hn
  refine And.intro (by rw [yk_ix]; exact vp_in_nI (by omega) (by omega)) ?_
  rw [e]
  by_cases hq : yq_B g d n
  · rw [if_pos (pd_t hq)]
    exact And.intro yk_n1 (h1 hq)
  · rw [if_neg (by rw [pd_f hq]; exact Bool.noConfusion)]
    exact And.intro yk_n0 (h0 hq)

theorem yk_Hb (hB : ∀ d n, d < 16 → n < 16 → b_behind (16 * d + n) = if pd_b (yq_H g d n) = true then 1 else 0) {d n : Nat} (hd : d < 16) (hn : n < 16) {post : Int32 → Prop} (h1 : yq_H g d n → post 1) (h0 : ¬ yq_H g d n → post 0) : (wpY_isBehind post (g_fresh, g_many, g_tells, g_last, g_runs, g_stopped, b_actKind, b_actV, b_actC, b_endKind, b_endV, b_endX, b_endY, b_number, b_before, b_behind, b_reached, b_todo, b_words, b_coming, b_values, b_told, b_variables) (nI d) (nI n)) := by
  have e : b_behind (16 * nI d + nI n).toNatClampNeg = if pd_b (yq_H g d n) = true then 1 else 0 := by rw [yk_ix, nI_clamp (by omega)]; exact hB d n hd hn
  refine And.intro (by rw [yk_ix]; exact vp_in_nI (by omega) (by omega)) ?_
  rw [e]
  by_cases hq : yq_H g d n
  · rw [if_pos (pd_t hq)]
    exact And.intro yk_n1 (h1 hq)
  · rw [if_neg (by rw [pd_f hq]; exact Bool.noConfusion)]
    exact And.intro yk_n0 (h0 hq)

/-- the nearest before -/
theorem yk_B7 (hB : ∀ d n, d < 16 → n < 16 → b_before (16 * d + n) = if pd_b (yq_B g d n) = true then 1 else 0) {n d : Nat} (hn : n < 16) (hd : d < 16) {post : Int32 → Prop} {J : Int32 → Prop} (C1 : (∀ e, e < 16 → e ≠ n → e ≠ d → yq_B g e n → yq_B g e d) → post (nI d)) (C0 : ¬ (∀ e, e < 16 → e ≠ n → e ≠ d → yq_B g e n → yq_B g e d) → J (nI d + 1)) :
    ∃ f : Nat, (wY_nearest_47 post J (nI n) 0 (nI d) g_fresh g_many g_tells g_last g_runs g_stopped b_actKind b_actV b_actC b_endKind b_endV b_endX b_endY b_number b_before b_behind b_reached b_todo b_words b_coming b_values b_told b_variables f 1 0) := by
  refine loop_0 (σ := Int32) (fun f i t => (wY_nearest_47 post J (nI n) 0 (nI d) g_fresh g_many g_tells g_last g_runs g_stopped b_actKind b_actV b_actC b_endKind b_endV b_endX b_endY b_number b_before b_behind b_reached b_todo b_words b_coming b_values b_told b_variables f t (nI i)))
    (fun i t => (t = 1 ∧ ∀ e, e < i → e ≠ n → e ≠ d → yq_B g e n → yq_B g e d) ∨ (t = 0 ∧ ¬ ∀ e, e < i → e ≠ n → e ≠ d → yq_B g e n → yq_B g e d)) 16 1 (Or.inl ⟨rfl, fun e he => by omega⟩) ?_ ?_
  · intro f t ht
    refine br_t (by decide) ?_
    rcases ht with ⟨h1, h2⟩ | ⟨h1, h2⟩
    · exact br_f (by rw [h1]; decide) (C1 h2)
    · exact br_t h1 (nm_e (C0 h2))
  · intro f i t hi ht ih
    have nx : ∀ b : Prop, ((i ≠ n → i ≠ d → yq_B g i n → yq_B g i d) ↔ b) → ((∀ e, e < i + 1 → e ≠ n → e ≠ d → yq_B g e n → yq_B g e d) ↔ (∀ e, e < i → e ≠ n → e ≠ d → yq_B g e n → yq_B g e d) ∧ b) := by
      intro b hb
      constructor
      · intro h; exact ⟨fun e he => h e (by omega), hb.mp (h i (by omega))⟩
      · intro h e he
        by_cases ei : e = i
        · subst ei; exact hb.mpr h.2
        · exact h.1 e (by omega)
    have same : (i ≠ n → i ≠ d → yq_B g i n → yq_B g i d) → (t = 1 ∧ ∀ e, e < i + 1 → e ≠ n → e ≠ d → yq_B g e n → yq_B g e d) ∨ (t = 0 ∧ ¬ ∀ e, e < i + 1 → e ≠ n → e ≠ d → yq_B g e n → yq_B g e d) := by
      intro h
      rw [nx True ⟨fun _ => trivial, fun _ => h⟩, and_true]
      exact ht
    refine br_f (nI_ge (b := 16) hi (by omega)) ?_
    by_cases e1 : i = n
    · exact br_t (by rw [e1]) (nm_r (nI_1 i) (ih t (same (fun h => absurd e1 h))))
    · refine br_f (fun h => e1 (bs_inj h (by omega) (by omega))) ?_
      by_cases e2 : i = d
      · exact br_t (by rw [e2]) (nm_r (nI_1 i) (ih t (same (fun _ h => absurd e2 h))))
      · refine br_f (fun h => e2 (bs_inj h (by omega) (by omega))) (br_t (by decide) (yk_Bb hB hi hn ?_ ?_))
        · intro q1
          refine br_f (by decide) (yk_Bb hB hi hd ?_ ?_)
          · intro q2
            refine br_f (by decide) (br_t rfl (nm_r (nI_1 i) (ih t (same (fun _ _ _ => q2)))))
          · intro q2
            refine br_t rfl (br_f (by decide) (nm_r (nI_1 i) (ih 0 (Or.inr ⟨rfl, ?_⟩))))
            rw [nx False ⟨fun h => q2 (h e1 e2 q1), fun h => absurd h id⟩, and_false]
            exact id
        · intro q1
          exact br_t rfl (br_t rfl (nm_r (nI_1 i) (ih t (same (fun _ _ h => absurd h q1)))))
def yk_BN (g : Nat → Nat → Nat) (n d : Nat) : Prop := d ≠ n ∧ yq_B g d n ∧ ∀ e, e < 16 → e ≠ n → e ≠ d → yq_B g e n → yq_B g e d
theorem yk_Bn (hB : ∀ d n, d < 16 → n < 16 → b_before (16 * d + n) = if pd_b (yq_B g d n) = true then 1 else 0) {n : Nat} (hn : n < 16) {post : Int32 → Prop} (C1 : ∀ d, d < 16 → yk_BN g n d → post (nI d)) (C0 : (∀ d, d < 16 → ¬ yk_BN g n d) → post (-1)) : (wpY_nearest post (g_fresh, g_many, g_tells, g_last, g_runs, g_stopped, b_actKind, b_actV, b_actC, b_endKind, b_endV, b_endX, b_endY, b_number, b_before, b_behind, b_reached, b_todo, b_words, b_coming, b_values, b_told, b_variables) (nI n) 0) := by
  refine loop_0 (σ := Unit) (fun f i _ => (wY_nearest_2 post (nI n) 0 g_fresh g_many g_tells g_last g_runs g_stopped b_actKind b_actV b_actC b_endKind b_endV b_endX b_endY b_number b_before b_behind b_reached b_todo b_words b_coming b_values b_told b_variables f (nI i))) (fun i _ => ∀ d, d < i → ¬ yk_BN g n d) 16 () (fun d hd => by omega) ?_ ?_
  · intro f _ h
    exact br_t (by decide) (C0 h)
  · intro f i _ hi h ih
    have nx : ¬ yk_BN g n i → ∀ d, d < i + 1 → ¬ yk_BN g n d := by
      intro h2 d hd
      by_cases e : d = i
      · subst e; exact h2
      · exact h d (by omega)
    refine br_f (nI_ge (b := 16) hi (by omega)) ?_
    by_cases e1 : i = n
    · exact br_t (by rw [e1]) (nm_r (nI_1 i) (ih () (nx (fun h => h.1 e1))))
    · refine br_f (fun h => e1 (bs_inj h (by omega) (by omega))) (br_t (by decide) (yk_Bb hB hi hn ?_ ?_))
      · intro q1
        refine br_f (by decide) (yk_B7 hB hn hi ?_ ?_)
        · intro h2
          exact C1 i hi ⟨e1, q1, h2⟩
        · intro h2
          rw [nI_1]
          exact ih () (nx (fun h3 => h2 h3.2.2))
      · intro q1
        exact br_t rfl (nm_r (nI_1 i) (ih () (nx (fun h => q1 h.2.1))))

/-- the nearest behind -/
theorem yk_H7 (hB : ∀ d n, d < 16 → n < 16 → b_behind (16 * d + n) = if pd_b (yq_H g d n) = true then 1 else 0) {n d : Nat} (hn : n < 16) (hd : d < 16) {post : Int32 → Prop} {J : Int32 → Prop} (C1 : (∀ e, e < 16 → e ≠ n → e ≠ d → yq_H g e n → yq_H g e d) → post (nI d)) (C0 : ¬ (∀ e, e < 16 → e ≠ n → e ≠ d → yq_H g e n → yq_H g e d) → J (nI d + 1)) :
    ∃ f : Nat, (wY_nearest_47 post J (nI n) 1 (nI d) g_fresh g_many g_tells g_last g_runs g_stopped b_actKind b_actV b_actC b_endKind b_endV b_endX b_endY b_number b_before b_behind b_reached b_todo b_words b_coming b_values b_told b_variables f 1 0) := by
  refine loop_0 (σ := Int32) (fun f i t => (wY_nearest_47 post J (nI n) 1 (nI d) g_fresh g_many g_tells g_last g_runs g_stopped b_actKind b_actV b_actC b_endKind b_endV b_endX b_endY b_number b_before b_behind b_reached b_todo b_words b_coming b_values b_told b_variables f t (nI i)))
    (fun i t => (t = 1 ∧ ∀ e, e < i → e ≠ n → e ≠ d → yq_H g e n → yq_H g e d) ∨ (t = 0 ∧ ¬ ∀ e, e < i → e ≠ n → e ≠ d → yq_H g e n → yq_H g e d)) 16 1 (Or.inl ⟨rfl, fun e he => by omega⟩) ?_ ?_
  · intro f t ht
    refine br_t (by decide) ?_
    rcases ht with ⟨h1, h2⟩ | ⟨h1, h2⟩
    · exact br_f (by rw [h1]; decide) (C1 h2)
    · exact br_t h1 (nm_e (C0 h2))
  · intro f i t hi ht ih
    have nx : ∀ b : Prop, ((i ≠ n → i ≠ d → yq_H g i n → yq_H g i d) ↔ b) → ((∀ e, e < i + 1 → e ≠ n → e ≠ d → yq_H g e n → yq_H g e d) ↔ (∀ e, e < i → e ≠ n → e ≠ d → yq_H g e n → yq_H g e d) ∧ b) := by
      intro b hb
      constructor
      · intro h; exact ⟨fun e he => h e (by omega), hb.mp (h i (by omega))⟩
      · intro h e he
        by_cases ei : e = i
        · subst ei; exact hb.mpr h.2
        · exact h.1 e (by omega)
    have same : (i ≠ n → i ≠ d → yq_H g i n → yq_H g i d) → (t = 1 ∧ ∀ e, e < i + 1 → e ≠ n → e ≠ d → yq_H g e n → yq_H g e d) ∨ (t = 0 ∧ ¬ ∀ e, e < i + 1 → e ≠ n → e ≠ d → yq_H g e n → yq_H g e d) := by
      intro h
      rw [nx True ⟨fun _ => trivial, fun _ => h⟩, and_true]
      exact ht
    refine br_f (nI_ge (b := 16) hi (by omega)) ?_
    by_cases e1 : i = n
    · exact br_t (by rw [e1]) (nm_r (nI_1 i) (ih t (same (fun h => absurd e1 h))))
    · refine br_f (fun h => e1 (bs_inj h (by omega) (by omega))) ?_
      by_cases e2 : i = d
      · exact br_t (by rw [e2]) (nm_r (nI_1 i) (ih t (same (fun _ h => absurd e2 h))))
      · refine br_f (fun h => e2 (bs_inj h (by omega) (by omega))) (br_f (by decide) (yk_Hb hB hi hn ?_ ?_))
        · intro q1
          refine br_f (by decide) (yk_Hb hB hi hd ?_ ?_)
          · intro q2
            refine br_f (by decide) (br_t rfl (nm_r (nI_1 i) (ih t (same (fun _ _ _ => q2)))))
          · intro q2
            refine br_t rfl (br_f (by decide) (nm_r (nI_1 i) (ih 0 (Or.inr ⟨rfl, ?_⟩))))
            rw [nx False ⟨fun h => q2 (h e1 e2 q1), fun h => absurd h id⟩, and_false]
            exact id
        · intro q1
          exact br_t rfl (br_t rfl (nm_r (nI_1 i) (ih t (same (fun _ _ h => absurd h q1)))))
def yk_HN (g : Nat → Nat → Nat) (n d : Nat) : Prop := d ≠ n ∧ yq_H g d n ∧ ∀ e, e < 16 → e ≠ n → e ≠ d → yq_H g e n → yq_H g e d
theorem yk_Hn (hB : ∀ d n, d < 16 → n < 16 → b_behind (16 * d + n) = if pd_b (yq_H g d n) = true then 1 else 0) {n : Nat} (hn : n < 16) {post : Int32 → Prop} (C1 : ∀ d, d < 16 → yk_HN g n d → post (nI d)) (C0 : (∀ d, d < 16 → ¬ yk_HN g n d) → post (-1)) : (wpY_nearest post (g_fresh, g_many, g_tells, g_last, g_runs, g_stopped, b_actKind, b_actV, b_actC, b_endKind, b_endV, b_endX, b_endY, b_number, b_before, b_behind, b_reached, b_todo, b_words, b_coming, b_values, b_told, b_variables) (nI n) 1) := by
  refine loop_0 (σ := Unit) (fun f i _ => (wY_nearest_2 post (nI n) 1 g_fresh g_many g_tells g_last g_runs g_stopped b_actKind b_actV b_actC b_endKind b_endV b_endX b_endY b_number b_before b_behind b_reached b_todo b_words b_coming b_values b_told b_variables f (nI i))) (fun i _ => ∀ d, d < i → ¬ yk_HN g n d) 16 () (fun d hd => by omega) ?_ ?_
  · intro f _ h
    exact br_t (by decide) (C0 h)
  · intro f i _ hi h ih
    have nx : ¬ yk_HN g n i → ∀ d, d < i + 1 → ¬ yk_HN g n d := by
      intro h2 d hd
      by_cases e : d = i
      · subst e; exact h2
      · exact h d (by omega)
    refine br_f (nI_ge (b := 16) hi (by omega)) ?_
    by_cases e1 : i = n
    · exact br_t (by rw [e1]) (nm_r (nI_1 i) (ih () (nx (fun h => h.1 e1))))
    · refine br_f (fun h => e1 (bs_inj h (by omega) (by omega))) (br_f (by decide) (yk_Hb hB hi hn ?_ ?_))
      · intro q1
        refine br_f (by decide) (yk_H7 hB hn hi ?_ ?_)
        · intro h2
          exact C1 i hi ⟨e1, q1, h2⟩
        · intro h2
          rw [nI_1]
          exact ih () (nx (fun h3 => h2 h3.2.2))
      · intro q1
        exact br_t rfl (nm_r (nI_1 i) (ih () (nx (fun h => q1 h.2.1))))

/-! Y: know -/
def yk_B (g : Nat → Nat → Nat) (bf : Nat → Int32) (K : Nat) : Prop := ∀ d n, d < 16 → n < 16 → 16 * d + n < K → bf (16 * d + n) = if pd_b (yq_B g d n) = true then 1 else 0
theorem yk_33 (W : gg_W g) (hN : yn_N g b_number) {d : Nat} (hd : d < 16) (hre : yr_V g 0 d b_reached) (h0 : yk_B g b_before (16 * d)) {post : SY → Prop} {J : Int32 → Int32 → Int32 → Int32 → Int32 → Int32 → Int32 → (Nat → Int32) → (Nat → Int32) → (Nat → Int32) → (Nat → Int32) → (Nat → Int32) → (Nat → Int32) → (Nat → Int32) → (Nat → Int32) → (Nat → Int32) → (Nat → Int32) → (Nat → Int32) → (Nat → Int32) → (Nat → Int32) → (Nat → Int32) → (Nat → Int32) → (Nat → Int32) → (Nat → Int32) → Prop}
    (C : ∀ bf : Nat → Int32, yk_B g bf (16 * (d + 1)) → (J (nI (d + 1)) g_fresh g_many g_tells g_last g_runs g_stopped b_actKind b_actV b_actC b_endKind b_endV b_endX b_endY b_number bf b_behind b_reached b_todo b_words b_coming b_values b_told b_variables)) : ∃ f : Nat, (wY_know_33 post J (nI d) g_fresh g_many g_tells g_last g_runs g_stopped f 0 b_actKind b_actV b_actC b_endKind b_endV b_endX b_endY b_number b_before b_behind b_reached b_todo b_words b_coming b_values b_told b_variables) := by
  refine loop_0 (σ := Nat → Int32) (fun f i t => (wY_know_33 post J (nI d) g_fresh g_many g_tells g_last g_runs g_stopped f (nI i) b_actKind b_actV b_actC b_endKind b_endV b_endX b_endY b_number t b_behind b_reached b_todo b_words b_coming b_values b_told b_variables)) (fun i t => yk_B g t (16 * d + i)) 16 b_before h0 ?_ ?_
  · intro f t ht
    refine br_t (by decide) (nm_r (nI_1 d) (C t ?_))
    rw [show 16 * (d + 1) = 16 * d + 16 by omega]
    exact ht
  · intro f i t hi ht ih
    have i256 : vp_in (16 * nI d + nI i) 256 := by rw [yk_ix]; exact vp_in_nI (by omega) (by omega)
    have nx : ∀ (z : Int32) (t' : Nat → Int32), t' = upd t (16 * d + i) z → (z = if pd_b (yq_B g d i) = true then 1 else 0) → yk_B g t' (16 * d + (i + 1)) := by
      intro z t' e1 e2 d' n' h1 h2 h3
      rw [e1]
      by_cases e : 16 * d' + n' = 16 * d + i
      · have e3 : d' = d := by omega
        have e4 : n' = i := by omega
        subst e3 e4
        rw [pk_us]; exact e2
      · rw [pk_un e]
        exact ht d' n' h1 h2 (by omega)
    have z1 : yq_B g d i → (1 : Int32) = if pd_b (yq_B g d i) = true then 1 else 0 := fun h => (if_pos (pd_t h)).symm
    have z0 : ¬ yq_B g d i → (0 : Int32) = if pd_b (yq_B g d i) = true then 1 else 0 := fun h => (if_neg (by rw [pd_f h]; exact Bool.noConfusion)).symm
    have eu : ∀ z : Int32, upd t (16 * nI d + nI i).toNatClampNeg z = upd t (16 * d + i) z := fun z => by rw [yk_ix, xg_u (by omega)]
    refine br_f (nI_ge (b := 16) hi (by omega)) (yk_s W hN hd ?_ ?_)
    · intro hRd
      refine br_f (by decide) (yk_s W hN hi ?_ ?_)
      · intro hRi
        refine br_f (by decide) ?_
        by_cases e : i = d
        · exact br_t (by rw [e]) (And.intro i256 (nm_r (e' := upd t (16 * d + i) 1) (by rw [bs_z1, eu]) (nm_r (nI_1 i) (ih _ (nx 1 _ rfl (z1 ⟨hRd, hRi, by rw [e]; exact dm_rf⟩))))))
        · refine br_f (fun h => e (bs_inj h (by omega) (by omega))) (And.intro (xg_i hi) ?_)
          rcases hre i hi with ⟨h1, h2⟩ | ⟨h1, h2⟩
          · exact br_f (by rw [nI_clamp (by omega), h1]; decide) (And.intro i256 (nm_r (e' := upd t (16 * d + i) 0) (by rw [bs_z0, eu]) (nm_r (nI_1 i) (ih _ (nx 0 _ rfl (z0 (fun h => h.2.2 h2)))))))
          · exact br_t (by rw [nI_clamp (by omega), h1]) (And.intro i256 (nm_r (e' := upd t (16 * d + i) 1) (by rw [bs_z1, eu]) (nm_r (nI_1 i) (ih _ (nx 1 _ rfl (z1 ⟨hRd, hRi, h2⟩))))))
      · intro hRi
        exact br_t rfl (And.intro i256 (nm_r (e' := upd t (16 * d + i) 0) (by rw [bs_z0, eu]) (nm_r (nI_1 i) (ih _ (nx 0 _ rfl (z0 (fun h => hRi h.2.1)))))))
    · intro hRd
      exact br_t rfl (And.intro i256 (nm_r (e' := upd t (16 * d + i) 0) (by rw [bs_z0, eu]) (nm_r (nI_1 i) (ih _ (nx 0 _ rfl (z0 (fun h => hRd h.1)))))))
def yk_H (g : Nat → Nat → Nat) (bh : Nat → Int32) (N D : Nat) : Prop := ∀ d n, d < 16 → n < 16 → (n < N ∨ (n = N ∧ d < D)) → bh (16 * d + n) = if pd_b (yq_H g d n) = true then 1 else 0
theorem yk_wi {d : Nat} (hd : d < 16) : ∀ s, s < 16 → (nI s = nI d ↔ s = d) := fun s hs => nI_eq (by omega) (by omega)
theorem yk_wm : ∀ s, s < 16 → (nI s = -1 ↔ s = 16) := fun s hs => ⟨fun h => absurd h (bs_ne (by omega)), fun h => by omega⟩
theorem yk_130 (W : gg_W g) (G : (yg_G g b_actKind b_actV b_actC b_endKind b_endV b_endX b_endY)) (hN : yn_N g b_number) {n : Nat} (hn : n < 16) {an : Int32} (han : (an = 1 ∧ gg_R g n ∧ gg_T g n) ∨ (an = 0 ∧ ¬ gg_T g n)) (h0 : yk_H g b_behind n 0) {post : SY → Prop} {J : Int32 → Int32 → Int32 → Int32 → Int32 → Int32 → Int32 → (Nat → Int32) → (Nat → Int32) → (Nat → Int32) → (Nat → Int32) → (Nat → Int32) → (Nat → Int32) → (Nat → Int32) → (Nat → Int32) → (Nat → Int32) → (Nat → Int32) → (Nat → Int32) → (Nat → Int32) → (Nat → Int32) → (Nat → Int32) → (Nat → Int32) → (Nat → Int32) → (Nat → Int32) → Prop}
    (C : ∀ bh re td : Nat → Int32, yk_H g bh (n + 1) 0 → (J (nI (n + 1)) g_fresh g_many g_tells g_last g_runs g_stopped b_actKind b_actV b_actC b_endKind b_endV b_endX b_endY b_number b_before bh re td b_words b_coming b_values b_told b_variables)) : ∃ f : Nat, (wY_know_130 post J (nI n) an f 0 g_fresh g_many g_tells g_last g_runs g_stopped b_actKind b_actV b_actC b_endKind b_endV b_endX b_endY b_number b_before b_behind b_reached b_todo b_words b_coming b_values b_told b_variables) := by
  refine loop_0 (σ := (Nat → Int32) × (Nat → Int32) × (Nat → Int32)) (fun f i t => (wY_know_130 post J (nI n) an f (nI i) g_fresh g_many g_tells g_last g_runs g_stopped b_actKind b_actV b_actC b_endKind b_endV b_endX b_endY b_number b_before t.1 t.2.1 t.2.2 b_words b_coming b_values b_told b_variables)) (fun i t => yk_H g t.1 n i) 16 (b_behind, b_reached, b_todo) h0 ?_ ?_
  · intro f t ht
    refine br_t (by decide) (nm_r (nI_1 n) (C t.1 t.2.1 t.2.2 ?_))
    intro d m hd hm hx
    exact ht d m hd hm (by omega)
  · intro f i t hi ht ih
    have i256 : vp_in (16 * nI i + nI n) 256 := by rw [yk_ix]; exact vp_in_nI (by omega) (by omega)
    have nx : ∀ (z : Int32) (t' : Nat → Int32), t' = upd t.1 (16 * i + n) z → (z = if pd_b (yq_H g i n) = true then 1 else 0) → yk_H g t' n (i + 1) := by
      intro z t' e1 e2 d' n' h1 h2 h3
      rw [e1]
      by_cases e : 16 * d' + n' = 16 * i + n
      · have e3 : d' = i := by omega
        have e4 : n' = n := by omega
        subst e3 e4
        rw [pk_us]; exact e2
      · rw [pk_un e]
        exact ht d' n' h1 h2 (by omega)
    have z1 : yq_H g i n → (1 : Int32) = if pd_b (yq_H g i n) = true then 1 else 0 := fun h => (if_pos (pd_t h)).symm
    have z0 : ¬ yq_H g i n → (0 : Int32) = if pd_b (yq_H g i n) = true then 1 else 0 := fun h => (if_neg (by rw [pd_f h]; exact Bool.noConfusion)).symm
    have eu : ∀ z : Int32, upd t.1 (16 * nI i + nI n).toNatClampNeg z = upd t.1 (16 * i + n) z := fun z => by rw [yk_ix, xg_u (by omega)]
    refine br_f (nI_ge (b := 16) hi (by omega)) ?_
    rcases han with ⟨a1, a2, a3⟩ | ⟨a1, a2⟩
    · refine br_f (by rw [a1]; decide) (yk_s W hN hi ?_ ?_)
      · intro hRi
        refine br_f (by decide) ?_
        by_cases e : n = i
        · exact br_t (by rw [e]) (And.intro i256 (nm_r (e' := upd t.1 (16 * i + n) 1) (by rw [bs_z1, eu]) (nm_r (nI_1 i) (ih (_, t.2.1, t.2.2) (nx 1 _ rfl (z1 ⟨a3, a2, hRi, by rw [← e]; exact dm_rf⟩))))))
        · refine br_f (fun h => e (bs_inj h (by omega) (by omega))) (ys_st (b_behind := t.1) (b_reached := t.2.1) (b_todo := t.2.2) W G (yk_wi hi) hn ?_ ?_)
          · intro hs re td
            exact br_f (by decide) (And.intro i256 (nm_r (e' := upd t.1 (16 * i + n) 0) (by rw [bs_z0, eu]) (nm_r (nI_1 i) (ih (_, re, td) (nx 0 _ rfl (z0 (fun h => (gg_Pi W a2 hi).mp h.2.2.2 hs)))))))
          · intro hs re td
            exact br_t rfl (And.intro i256 (nm_r (e' := upd t.1 (16 * i + n) 1) (by rw [bs_z1, eu]) (nm_r (nI_1 i) (ih (_, re, td) (nx 1 _ rfl (z1 ⟨a3, a2, hRi, (gg_Pi W a2 hi).mpr hs⟩))))))
      · intro hRi
        exact br_t rfl (And.intro i256 (nm_r (e' := upd t.1 (16 * i + n) 0) (by rw [bs_z0, eu]) (nm_r (nI_1 i) (ih (_, t.2.1, t.2.2) (nx 0 _ rfl (z0 (fun h => hRi h.2.2.1)))))))
    · exact br_t a1 (And.intro i256 (nm_r (e' := upd t.1 (16 * i + n) 0) (by rw [bs_z0, eu]) (nm_r (nI_1 i) (ih (_, t.2.1, t.2.2) (nx 0 _ rfl (z0 (fun h => a2 h.1)))))))
/-- Y: all that is known of the graph -/
def yk_K (g : Nat → Nat → Nat) (b_number b_before b_behind : Nat → Int32) : Prop :=
  yn_N g b_number ∧ (∀ d n, d < 16 → n < 16 → b_before (16 * d + n) = if pd_b (yq_B g d n) = true then 1 else 0) ∧ (∀ d n, d < 16 → n < 16 → b_behind (16 * d + n) = if pd_b (yq_H g d n) = true then 1 else 0)
theorem yk_k (W : gg_W g) (G : (yg_G g b_actKind b_actV b_actC b_endKind b_endV b_endX b_endY)) (h01 : g_fresh = 0 ∨ g_fresh = 1) (hK : g_fresh = 1 → yk_K g b_number b_before b_behind) {post : SY → Prop}
    (C : ∀ nu bf bh re td wo : Nat → Int32, yk_K g nu bf bh → post (1, g_many, g_tells, g_last, g_runs, g_stopped, b_actKind, b_actV, b_actC, b_endKind, b_endV, b_endX, b_endY, nu, bf, bh, re, td, wo, b_coming, b_values, b_told, b_variables)) : (wpY_know post (g_fresh, g_many, g_tells, g_last, g_runs, g_stopped, b_actKind, b_actV, b_actC, b_endKind, b_endV, b_endX, b_endY, b_number, b_before, b_behind, b_reached, b_todo, b_words, b_coming, b_values, b_told, b_variables)) := by
  unfold wpY_know
  rcases h01 with h | h
  · refine br_t h (yn_n W G ?_)
    intro nu re td wo hN
    refine loop_0 (σ := (Nat → Int32) × (Nat → Int32) × (Nat → Int32)) (fun f i t => (wY_know_19 post f (nI i) 1 g_many g_tells g_last g_runs g_stopped b_actKind b_actV b_actC b_endKind b_endV b_endX b_endY nu t.1 b_behind t.2.1 t.2.2 wo b_coming b_values b_told b_variables)) (fun i t => yk_B g t.1 (16 * i)) 16 (b_before, re, td) (fun d n _ _ hx => by omega) ?_ ?_
    · intro f t ht
      refine br_t (by decide) ?_
      refine loop_0 (σ := (Nat → Int32) × (Nat → Int32) × (Nat → Int32)) (fun f i s => (wY_know_99 post f (nI i) 1 g_many g_tells g_last g_runs g_stopped b_actKind b_actV b_actC b_endKind b_endV b_endX b_endY nu t.1 s.1 s.2.1 s.2.2 wo b_coming b_values b_told b_variables)) (fun i s => yk_H g s.1 i 0) 16 (b_behind, t.2.1, t.2.2) (fun d n _ _ hx => by omega) ?_ ?_
      · intro f s hs
        exact br_t (by decide) (C nu t.1 s.1 s.2.1 s.2.2 wo ⟨hN, fun d n hd hn => ht d n hd hn (by omega), fun d n hd hn => hs d n hd hn (by omega)⟩)
      · intro f i s hi hs ih
        refine br_f (nI_ge (b := 16) hi (by omega)) (yk_s W hN hi ?_ ?_)
        · intro hR
          refine br_f (by decide) (ys_st (d := 16) (b_before := t.1) (b_behind := s.1) (b_reached := s.2.1) (b_todo := s.2.2) W G yk_wm hi ?_ ?_)
          · intro hT re' td'
            exact br_f (by decide) (yk_130 W G hN hi (Or.inl ⟨rfl, hR, (gg_Ti W hR).mpr hT⟩) hs (fun bh re2 td2 h2 => ih (bh, re2, td2) h2))
          · intro hT re' td'
            exact br_t rfl (yk_130 W G hN hi (Or.inr ⟨rfl, fun h3 => hT ((gg_Ti W hR).mp h3)⟩) hs (fun bh re2 td2 h2 => ih (bh, re2, td2) h2))
        · intro hR
          exact br_t rfl (yk_130 W G hN hi (Or.inr ⟨rfl, fun h3 => hR (gg_TR W hi h3)⟩) hs (fun bh re2 td2 h2 => ih (bh, re2, td2) h2))
    · intro f i t hi ht ih
      refine br_f (nI_ge (b := 16) hi (by omega)) (yr_r (a := 0) (b_before := t.1) (b_reached := t.2.1) (b_todo := t.2.2) W G (yk_wi hi) (by omega) ?_)
      intro re' td' hre
      exact yk_33 W hN hi hre ht (fun bf h2 => ih (bf, re', td') h2)
  · subst h
    exact br_f (by decide) (C b_number b_before b_behind b_reached b_todo b_words (hK rfl))
end YD
end
section
section YE
variable {g_fresh g_many g_tells g_last g_runs g_stopped : Int32} {b_actKind b_actV b_actC b_endKind b_endV b_endX b_endY b_number b_before b_behind b_reached b_todo b_words b_coming b_values b_told b_variables : Nat → Int32} {g : Nat → Nat → Nat}
/-! Y: edge, rulers, loop -/
theorem ye_or {S : Int32} {n : Nat} (hn : n < 32) (i : Nat) : bt (S ||| (1 : Int32) <<< (nI n &&& 31)) i = true ↔ bt S i = true ∨ i = n := by
  rw [b_or, Bool.or_eq_true, xg_oi (m := 0) hn]
  exact or_congr Iff.rfl eq_comm
theorem ye_30 (W : gg_W g) (G : (yg_G g b_actKind b_actV b_actC b_endKind b_endV b_endX b_endY)) (K : yk_K g b_number b_before b_behind) {m n : Nat} (hm : gg_R g m) (hn : n < 16) {S : Int32} {post : Int32 → Prop} {J : Int32 → Int32 → Prop}
    (C : ∀ S' : Int32, (∀ i, bt S' i = true ↔ bt S i = true ∨ (i = n ∧ ∃ p, gg_R g p ∧ gg_E g p n ∧ gg_D g m p)) → J S' (nI n + 1)) : ∃ f : Nat, (wY_edge_30 post J (nI m) (nI n) g_fresh g_many g_tells g_last g_runs g_stopped b_actKind b_actV b_actC b_endKind b_endV b_endX b_endY b_number b_before b_behind b_reached b_todo b_words b_coming b_values b_told b_variables f S 0) := by
  have hm16 := gg_R16 W hm
  refine loop_0 (σ := Int32) (fun f i t => (wY_edge_30 post J (nI m) (nI n) g_fresh g_many g_tells g_last g_runs g_stopped b_actKind b_actV b_actC b_endKind b_endV b_endX b_endY b_number b_before b_behind b_reached b_todo b_words b_coming b_values b_told b_variables f t (nI i))) (fun j t => ∀ i, bt t i = true ↔ bt S i = true ∨ (i = n ∧ ∃ p, p < j ∧ gg_R g p ∧ gg_E g p n ∧ gg_D g m p)) 16 S ?_ ?_ ?_
  · intro i
    constructor
    · intro h; exact Or.inl h
    · intro h
      rcases h with h | ⟨_, p, hp, _⟩
      · exact h
      · omega
  · intro f t ht
    refine br_t (by decide) (nm_e (C t (fun i => ?_)))
    rw [ht i]
    constructor
    · intro h
      rcases h with h | ⟨h1, p, _, h2⟩
      · exact Or.inl h
      · exact Or.inr ⟨h1, p, h2⟩
    · intro h
      rcases h with h | ⟨h1, p, h2⟩
      · exact Or.inl h
      · exact Or.inr ⟨h1, p, gg_R16 W h2.1, h2⟩
  · intro f i t hi ht ih
    have skip : ¬ (gg_R g i ∧ gg_E g i n ∧ gg_D g m i) → ∀ j, bt t j = true ↔ bt S j = true ∨ (j = n ∧ ∃ p, p < i + 1 ∧ gg_R g p ∧ gg_E g p n ∧ gg_D g m p) := by
      intro hno j
      rw [ht j]
      constructor
      · intro h
        rcases h with h | ⟨h1, p, h2, h3⟩
        · exact Or.inl h
        · exact Or.inr ⟨h1, p, by omega, h3⟩
      · intro h
        rcases h with h | ⟨h1, p, h2, h3⟩
        · exact Or.inl h
        · refine Or.inr ⟨h1, p, ?_, h3⟩
          by_cases e : p = i
          · subst e; exact absurd h3 hno
          · omega
    refine br_f (nI_ge (b := 16) hi (by omega)) (yk_s W K.1 hi ?_ ?_)
    · intro hR
      refine br_f (by decide) (yg_le W G hi hn ?_ ?_)
      · intro hE
        refine br_f (by decide) (yk_Bb K.2.1 hm16 hi ?_ ?_)
        · intro hq
          refine br_f (by decide) (nm_e (nm_r (nI_1 i) (ih _ (fun j => ?_))))
          rw [ye_or (by omega), ht j]
          constructor
          · intro h
            rcases h with h | h
            · rcases h with h | ⟨h1, p, h2, h3⟩
              · exact Or.inl h
              · exact Or.inr ⟨h1, p, by omega, h3⟩
            · exact Or.inr ⟨h, i, by omega, hR, hE, hq.2.2⟩
          · intro h
            rcases h with h | ⟨h1, _⟩
            · exact Or.inl (Or.inl h)
            · exact Or.inr h1
        · intro hq
          exact br_t rfl (nm_r (nI_1 i) (ih t (skip (fun h => hq ⟨hm, h.1, h.2.2⟩))))
      · intro hE
        exact br_t rfl (nm_r (nI_1 i) (ih t (skip (fun h => hE h.2.1))))
    · intro hR
      exact br_t rfl (nm_r (nI_1 i) (ih t (skip (fun h => hR h.1))))
theorem ye_e (W : gg_W g) (G : (yg_G g b_actKind b_actV b_actC b_endKind b_endV b_endX b_endY)) (K : yk_K g b_number b_before b_behind) {m : Nat} (hm : gg_R g m) {post : Int32 → Prop} (C : ∀ r : Int32, (∀ i, bt r i = true ↔ xe_E g m i) → post r) : (wpY_edge post (g_fresh, g_many, g_tells, g_last, g_runs, g_stopped, b_actKind, b_actV, b_actC, b_endKind, b_endV, b_endX, b_endY, b_number, b_before, b_behind, b_reached, b_todo, b_words, b_coming, b_values, b_told, b_variables) (nI m)) := by
  have hm16 := gg_R16 W hm
  refine loop_0 (σ := Int32) (fun f i t => (wY_edge_4 post (nI m) g_fresh g_many g_tells g_last g_runs g_stopped b_actKind b_actV b_actC b_endKind b_endV b_endX b_endY b_number b_before b_behind b_reached b_todo b_words b_coming b_values b_told b_variables f t (nI i))) (fun j t => ∀ i, bt t i = true ↔ i < j ∧ xe_E g m i) 16 0 ?_ ?_ ?_
  · intro i
    rw [b_0]
    constructor
    · intro h; cases h
    · intro h; omega
  · intro f t ht
    refine br_t (by decide) (C t (fun i => ?_))
    rw [ht i]
    constructor
    · intro h; exact h.2
    · intro h
      obtain ⟨p, h1, h2, h3⟩ := h
      exact ⟨gg_E16 W h2, p, h1, h2, h3⟩
  · intro f i t hi ht ih
    have go : ¬ (yq_B g m i ∧ m ≠ i) → ∃ f2 : Nat, (wY_edge_30 post (wY_edge_4 post (nI m) g_fresh g_many g_tells g_last g_runs g_stopped b_actKind b_actV b_actC b_endKind b_endV b_endX b_endY b_number b_before b_behind b_reached b_todo b_words b_coming b_values b_told b_variables f) (nI m) (nI i) g_fresh g_many g_tells g_last g_runs g_stopped b_actKind b_actV b_actC b_endKind b_endV b_endX b_endY b_number b_before b_behind b_reached b_todo b_words b_coming b_values b_told b_variables f2 t 0) := by
      intro hno
      refine ye_30 W G K hm hi (fun S' hS' => ?_)
      rw [nI_1]
      refine ih S' (fun j => ?_)
      rw [hS' j, ht j]
      constructor
      · intro h
        rcases h with h | ⟨h1, p, h2, h3, h4⟩
        · exact ⟨by omega, h.2⟩
        · subst h1
          exact ⟨by omega, p, h2, h3, h4, fun h5 => hno ⟨⟨hm, gr_st h2 h3 trivial, h5.1⟩, h5.2⟩⟩
      · intro h
        by_cases e : j = i
        · subst e
          obtain ⟨_, p, h2, h3, h4, _⟩ := h
          exact Or.inr ⟨rfl, p, h2, h3, h4⟩
        · exact Or.inl ⟨by omega, h.2⟩
    refine br_f (nI_ge (b := 16) hi (by omega)) (yk_Bb K.2.1 hm16 hi ?_ ?_)
    · intro hq
      refine br_f (by decide) ?_
      by_cases e : m = i
      · exact br_t (by rw [e]) (go (fun h => h.2 e))
      · refine br_f (fun h => e (bs_inj h (by omega) (by omega))) (nm_r (nI_1 i) (ih t (fun j => ?_)))
        rw [ht j]
        constructor
        · intro h; exact ⟨by omega, h.2⟩
        · intro h
          refine ⟨?_, h.2⟩
          by_cases e2 : j = i
          · subst e2
            obtain ⟨_, p, h2, h3, h4, h5⟩ := h
            exact absurd ⟨hq.2.2, e⟩ h5
          · omega
    · intro hq
      exact br_t rfl (go (fun h => hq h.1))
theorem yu_38 (W : gg_W g) (G : (yg_G g b_actKind b_actV b_actC b_endKind b_endV b_endX b_endY)) (K : yk_K g b_number b_before b_behind) {n m : Nat} (hn : gg_R g n) (hm : m < 16) {S : Int32} {post : Int32 → Prop} {J : Int32 → Int32 → Prop}
    (C : ∀ S' : Int32, (∀ i, bt S' i = true ↔ bt S i = true ∨ (i = m ∧ ∃ s, gg_E g m s ∧ yq_H g n s)) → J S' (nI m + 1)) : ∃ f : Nat, (wY_rulers_38 post J (nI n) (nI m) g_fresh g_many g_tells g_last g_runs g_stopped b_actKind b_actV b_actC b_endKind b_endV b_endX b_endY b_number b_before b_behind b_reached b_todo b_words b_coming b_values b_told b_variables f S 0) := by
  have hn16 := gg_R16 W hn
  refine loop_0 (σ := Int32) (fun f i t => (wY_rulers_38 post J (nI n) (nI m) g_fresh g_many g_tells g_last g_runs g_stopped b_actKind b_actV b_actC b_endKind b_endV b_endX b_endY b_number b_before b_behind b_reached b_todo b_words b_coming b_values b_told b_variables f t (nI i))) (fun j t => ∀ i, bt t i = true ↔ bt S i = true ∨ (i = m ∧ ∃ s, s < j ∧ gg_E g m s ∧ yq_H g n s)) 16 S ?_ ?_ ?_
  · intro i
    constructor
    · intro h; exact Or.inl h
    · intro h
      rcases h with h | ⟨_, p, hp, _⟩
      · exact h
      · omega
  · intro f t ht
    refine br_t (by decide) (nm_e (C t (fun i => ?_)))
    rw [ht i]
    constructor
    · intro h
      rcases h with h | ⟨h1, p, _, h2⟩
      · exact Or.inl h
      · exact Or.inr ⟨h1, p, h2⟩
    · intro h
      rcases h with h | ⟨h1, p, h2⟩
      · exact Or.inl h
      · exact Or.inr ⟨h1, p, gg_E16 W h2.1, h2⟩
  · intro f i t hi ht ih
    have skip : ¬ (gg_E g m i ∧ yq_H g n i) → ∀ j, bt t j = true ↔ bt S j = true ∨ (j = m ∧ ∃ s, s < i + 1 ∧ gg_E g m s ∧ yq_H g n s) := by
      intro hno j
      rw [ht j]
      constructor
      · intro h
        rcases h with h | ⟨h1, p, h2, h3⟩
        · exact Or.inl h
        · exact Or.inr ⟨h1, p, by omega, h3⟩
      · intro h
        rcases h with h | ⟨h1, p, h2, h3⟩
        · exact Or.inl h
        · refine Or.inr ⟨h1, p, ?_, h3⟩
          by_cases e : p = i
          · subst e; exact absurd h3 hno
          · omega
    refine br_f (nI_ge (b := 16) hi (by omega)) (yg_le W G hm hi ?_ ?_)
    · intro hE
      refine br_f (by decide) (yk_Hb K.2.2 hn16 hi ?_ ?_)
      · intro hq
        refine br_f (by decide) (nm_e (nm_r (nI_1 i) (ih _ (fun j => ?_))))
        rw [ye_or (by omega), ht j]
        constructor
        · intro h
          rcases h with h | h
          · rcases h with h | ⟨h1, p, h2, h3⟩
            · exact Or.inl h
            · exact Or.inr ⟨h1, p, by omega, h3⟩
          · exact Or.inr ⟨h, i, by omega, hE, hq⟩
        · intro h
          rcases h with h | ⟨h1, _⟩
          · exact Or.inl (Or.inl h)
          · exact Or.inr h1
      · intro hq
        exact br_t rfl (nm_r (nI_1 i) (ih t (skip (fun h => hq h.2))))
    · intro hE
      exact br_t rfl (nm_r (nI_1 i) (ih t (skip (fun h => hE h.1))))
theorem yu_u (W : gg_W g) (G : (yg_G g b_actKind b_actV b_actC b_endKind b_endV b_endX b_endY)) (K : yk_K g b_number b_before b_behind) {n : Nat} (hn : gg_R g n) {post : Int32 → Prop} (C : ∀ r : Int32, (∀ i, bt r i = true ↔ xe_U g n i) → post r) : (wpY_rulers post (g_fresh, g_many, g_tells, g_last, g_runs, g_stopped, b_actKind, b_actV, b_actC, b_endKind, b_endV, b_endX, b_endY, b_number, b_before, b_behind, b_reached, b_todo, b_words, b_coming, b_values, b_told, b_variables) (nI n)) := by
  have hn16 := gg_R16 W hn
  -- what is asked, the two ways
  have key : ∀ m, gg_R g m → ¬ (yq_H g n m ∧ m ≠ n) → ((∃ s, gg_E g m s ∧ yq_H g n s) ↔ xe_U g n m) := by
    intro m hm hno
    constructor
    · intro ⟨s, h1, h2⟩
      refine ⟨s, hm, h1, h2.1, h2.2.2.2, fun h3 => hno ⟨⟨?_, hm, hn, h3.1⟩, Ne.symm h3.2⟩⟩
      exact gr_st h2.1 (Or.inl ⟨gg_E16 W h1, hm, h1⟩) trivial
    · intro ⟨s, h1, h2, h3, h4, _⟩
      exact ⟨s, h2, h3, gr_st h1 h2 trivial, hn, h4⟩
  refine loop_0 (σ := Int32) (fun f i t => (wY_rulers_4 post (nI n) g_fresh g_many g_tells g_last g_runs g_stopped b_actKind b_actV b_actC b_endKind b_endV b_endX b_endY b_number b_before b_behind b_reached b_todo b_words b_coming b_values b_told b_variables f t (nI i))) (fun j t => ∀ i, bt t i = true ↔ i < j ∧ xe_U g n i) 16 0 ?_ ?_ ?_
  · intro i
    rw [b_0]
    constructor
    · intro h; cases h
    · intro h; omega
  · intro f t ht
    refine br_t (by decide) (C t (fun i => ?_))
    rw [ht i]
    constructor
    · intro h; exact h.2
    · intro h
      obtain ⟨s, h1, h2⟩ := h
      exact ⟨gg_R16 W h1, s, h1, h2⟩
  · intro f i t hi ht ih
    have skip : ¬ xe_U g n i → ∀ j, bt t j = true ↔ j < i + 1 ∧ xe_U g n j := by
      intro hno j
      rw [ht j]
      constructor
      · intro h; exact ⟨by omega, h.2⟩
      · intro h
        refine ⟨?_, h.2⟩
        by_cases e2 : j = i
        · subst e2; exact absurd h.2 hno
        · omega
    have go : gg_R g i → ¬ (yq_H g n i ∧ i ≠ n) → ∃ f2 : Nat, (wY_rulers_38 post (wY_rulers_4 post (nI n) g_fresh g_many g_tells g_last g_runs g_stopped b_actKind b_actV b_actC b_endKind b_endV b_endX b_endY b_number b_before b_behind b_reached b_todo b_words b_coming b_values b_told b_variables f) (nI n) (nI i) g_fresh g_many g_tells g_last g_runs g_stopped b_actKind b_actV b_actC b_endKind b_endV b_endX b_endY b_number b_before b_behind b_reached b_todo b_words b_coming b_values b_told b_variables f2 t 0) := by
      intro hR hno
      refine yu_38 W G K hn hi (fun S' hS' => ?_)
      rw [nI_1]
      refine ih S' (fun j => ?_)
      rw [hS' j, ht j]
      constructor
      · intro h
        rcases h with h | ⟨h1, h2⟩
        · exact ⟨by omega, h.2⟩
        · subst h1
          exact ⟨by omega, (key j hR hno).mp h2⟩
      · intro h
        by_cases e : j = i
        · subst e
          exact Or.inr ⟨rfl, (key j hR hno).mpr h.2⟩
        · exact Or.inl ⟨by omega, h.2⟩
    refine br_f (nI_ge (b := 16) hi (by omega)) (yk_s W K.1 hi ?_ ?_)
    · intro hR
      refine br_f (by decide) (yk_Hb K.2.2 hn16 hi ?_ ?_)
      · intro hq
        refine br_f (by decide) ?_
        by_cases e : i = n
        · exact br_t (by rw [e]) (go hR (fun h => h.2 e))
        · refine br_f (fun h => e (bs_inj h (by omega) (by omega))) (nm_r (nI_1 i) (ih t (skip (fun ⟨s, _, _, _, _, h5⟩ => h5 ⟨hq.2.2.2, Ne.symm e⟩))))
      · intro hq
        exact br_t rfl (go hR (fun h => hq h.1))
    · intro hR
      exact br_t rfl (nm_r (nI_1 i) (ih t (skip (fun ⟨s, h1, _⟩ => hR h1))))
theorem yl_48 (W : gg_W g) (G : (yg_G g b_actKind b_actV b_actC b_endKind b_endV b_endX b_endY)) (K : yk_K g b_number b_before b_behind) {h p : Nat} (hh : h < 16) (hp : p < 16) {S : Int32} {post : Int32 → SY → Prop} {J : Int32 → Int32 → Int32 → Int32 → Int32 → Int32 → Int32 → Int32 → (Nat → Int32) → (Nat → Int32) → (Nat → Int32) → (Nat → Int32) → (Nat → Int32) → (Nat → Int32) → (Nat → Int32) → (Nat → Int32) → (Nat → Int32) → (Nat → Int32) → (Nat → Int32) → (Nat → Int32) → (Nat → Int32) → (Nat → Int32) → (Nat → Int32) → (Nat → Int32) → (Nat → Int32) → Prop}
    (C : ∀ (S' : Int32) (re td : Nat → Int32), (∀ i, bt S' i = true ↔ bt S i = true ∨ (gg_R g i ∧ yr_P g i h p)) → (J S' (nI p + 1) g_fresh g_many g_tells g_last g_runs g_stopped b_actKind b_actV b_actC b_endKind b_endV b_endX b_endY b_number b_before b_behind re td b_words b_coming b_values b_told b_variables)) : ∃ f : Nat, (wY_loop_48 post J (nI h) (nI p) f S 0 g_fresh g_many g_tells g_last g_runs g_stopped b_actKind b_actV b_actC b_endKind b_endV b_endX b_endY b_number b_before b_behind b_reached b_todo b_words b_coming b_values b_told b_variables) := by
  refine loop_0 (σ := Int32 × (Nat → Int32) × (Nat → Int32)) (fun f i t => (wY_loop_48 post J (nI h) (nI p) f t.1 (nI i) g_fresh g_many g_tells g_last g_runs g_stopped b_actKind b_actV b_actC b_endKind b_endV b_endX b_endY b_number b_before b_behind t.2.1 t.2.2 b_words b_coming b_values b_told b_variables)) (fun j t => ∀ i, bt t.1 i = true ↔ bt S i = true ∨ (i < j ∧ gg_R g i ∧ yr_P g i h p)) 16 (S, b_reached, b_todo) ?_ ?_ ?_
  · intro i
    show bt S i = true ↔ _
    constructor
    · intro h; exact Or.inl h
    · intro h
      rcases h with h | h
      · exact h
      · omega
  · intro f t ht
    refine br_t (by decide) (nm_e (C t.1 t.2.1 t.2.2 (fun i => ?_)))
    rw [ht i]
    constructor
    · intro h
      rcases h with h | h
      · exact Or.inl h
      · exact Or.inr h.2
    · intro h
      rcases h with h | h
      · exact Or.inl h
      · exact Or.inr ⟨gg_R16 W h.1, h⟩
  · intro f i t hi ht ih
    have skip : ¬ (gg_R g i ∧ yr_P g i h p) → ∀ j, bt t.1 j = true ↔ bt S j = true ∨ (j < i + 1 ∧ gg_R g j ∧ yr_P g j h p) := by
      intro hno j
      rw [ht j]
      constructor
      · intro h
        rcases h with h | h
        · exact Or.inl h
        · exact Or.inr ⟨by omega, h.2⟩
      · intro h
        rcases h with h | h
        · exact Or.inl h
        · refine Or.inr ⟨?_, h.2⟩
          by_cases e : j = i
          · subst e; exact absurd h.2 hno
          · omega
    refine br_f (nI_ge (b := 16) hi (by omega)) (yk_s W K.1 hi ?_ ?_)
    · intro hR
      refine br_f (by decide) (yr_r (b_reached := t.2.1) (b_todo := t.2.2) W G (yk_wi hh) hi ?_)
      intro re td hre
      refine And.intro (xg_i hp) ?_
      rw [nI_clamp (by omega)]
      rcases hre p hp with ⟨h1, h2⟩ | ⟨h1, h2⟩
      · refine br_f (by rw [h1]; decide) (nm_e (nm_r (nI_1 i) (ih (_, re, td) (fun j => ?_))))
        show bt (t.1 ||| (1 : Int32) <<< (nI i &&& 31)) j = true ↔ _
        rw [ye_or (by omega), ht j]
        constructor
        · intro h
          rcases h with h | h
          · rcases h with h | h
            · exact Or.inl h
            · exact Or.inr ⟨by omega, h.2⟩
          · subst h; exact Or.inr ⟨by omega, hR, h2⟩
        · intro h
          rcases h with h | h
          · exact Or.inl (Or.inl h)
          · by_cases e : j = i
            · exact Or.inr e
            · exact Or.inl (Or.inr ⟨by omega, h.2⟩)
      · exact br_t h1 (nm_r (nI_1 i) (ih (t.1, re, td) (skip (fun h => h2 h.2))))
    · intro hR
      exact br_t rfl (nm_r (nI_1 i) (ih t (skip (fun h => hR h.1))))
theorem yl_l (W : gg_W g) (G : (yg_G g b_actKind b_actV b_actC b_endKind b_endV b_endX b_endY)) (K : yk_K g b_number b_before b_behind) {h : Nat} (hh : gg_R g h) {post : Int32 → SY → Prop} (C : ∀ (r : Int32) (re td : Nat → Int32), (∀ i, bt r i = true ↔ gg_L g h i) → post r (g_fresh, g_many, g_tells, g_last, g_runs, g_stopped, b_actKind, b_actV, b_actC, b_endKind, b_endV, b_endX, b_endY, b_number, b_before, b_behind, re, td, b_words, b_coming, b_values, b_told, b_variables)) : (wpY_loop post (g_fresh, g_many, g_tells, g_last, g_runs, g_stopped, b_actKind, b_actV, b_actC, b_endKind, b_endV, b_endX, b_endY, b_number, b_before, b_behind, b_reached, b_todo, b_words, b_coming, b_values, b_told, b_variables) (nI h)) := by
  have hh16 := gg_R16 W hh
  refine loop_0 (σ := Int32 × (Nat → Int32) × (Nat → Int32)) (fun f i t => (wY_loop_4 post (nI h) f t.1 (nI i) g_fresh g_many g_tells g_last g_runs g_stopped b_actKind b_actV b_actC b_endKind b_endV b_endX b_endY b_number b_before b_behind t.2.1 t.2.2 b_words b_coming b_values b_told b_variables))
    (fun j t => ∀ i, bt t.1 i = true ↔ ∃ p, p < j ∧ gg_R g p ∧ gg_E g p h ∧ gg_D g h p ∧ (i = h ∨ (gg_R g i ∧ yr_P g i h p))) 16 (0, b_reached, b_todo) ?_ ?_ ?_
  · intro i
    show bt 0 i = true ↔ _
    rw [b_0]
    constructor
    · intro h; cases h
    · intro ⟨p, hp, _⟩; omega
  · intro f t ht
    refine br_t (by decide) (C t.1 t.2.1 t.2.2 (fun i => ?_))
    rw [ht i]
    constructor
    · intro ⟨p, _, h1, h2, h3, h4⟩
      refine ⟨p, h1, h2, h3, ?_⟩
      rcases h4 with h4 | h4
      · exact Or.inl h4
      · exact Or.inr ⟨h4.1, h4.2.1, h4.2.2⟩
    · intro ⟨p, h1, h2, h3, h4⟩
      refine ⟨p, gg_R16 W h1, h1, h2, h3, ?_⟩
      rcases h4 with h4 | h4
      · exact Or.inl h4
      · exact Or.inr ⟨h4.1, h4.2.1, h4.2.2⟩
  · intro f i t hi ht ih
    have skip : ¬ (gg_R g i ∧ gg_E g i h ∧ gg_D g h i) → ∀ j, bt t.1 j = true ↔ ∃ p, p < i + 1 ∧ gg_R g p ∧ gg_E g p h ∧ gg_D g h p ∧ (j = h ∨ (gg_R g j ∧ yr_P g j h p)) := by
      intro hno j
      rw [ht j]
      constructor
      · intro ⟨p, h1, h2⟩; exact ⟨p, by omega, h2⟩
      · intro ⟨p, h1, h2⟩
        refine ⟨p, ?_, h2⟩
        by_cases e : p = i
        · subst e; exact absurd ⟨h2.1, h2.2.1, h2.2.2.1⟩ hno
        · omega
    refine br_f (nI_ge (b := 16) hi (by omega)) (yk_s W K.1 hi ?_ ?_)
    · intro hR
      refine br_f (by decide) (yg_le W G hi hh16 ?_ ?_)
      · intro hE
        refine br_f (by decide) (yk_Bb K.2.1 hh16 hi ?_ ?_)
        · intro hq
          refine br_f (by decide) (nm_e (yl_48 (b_reached := t.2.1) (b_todo := t.2.2) W G K hh16 hi (fun S' re td hS' => ?_)))
          rw [nI_1]
          refine ih (S', re, td) (fun j => ?_)
          show bt S' j = true ↔ _
          rw [hS' j, ye_or (by omega), ht j]
          constructor
          · intro hx
            rcases hx with hx | hx
            · rcases hx with ⟨p, h1, h2⟩ | hx
              · exact ⟨p, by omega, h2⟩
              · exact ⟨i, by omega, hR, hE, hq.2.2, Or.inl hx⟩
            · exact ⟨i, by omega, hR, hE, hq.2.2, Or.inr hx⟩
          · intro ⟨p, h1, h2, h3, h4, h5⟩
            by_cases e : p = i
            · subst e
              rcases h5 with h5 | h5
              · exact Or.inl (Or.inr h5)
              · exact Or.inr h5
            · exact Or.inl (Or.inl ⟨p, by omega, h2, h3, h4, h5⟩)
        · intro hq
          exact br_t rfl (nm_r (nI_1 i) (ih t (skip (fun h => hq ⟨hh, hR, h.2.2⟩))))
      · intro hE
        exact br_t rfl (nm_r (nI_1 i) (ih t (skip (fun h => hE h.2.1))))
    · intro hR
      exact br_t rfl (nm_r (nI_1 i) (ih t (skip (fun h => hR h.1))))
end YE
end
section
section YF
variable {g_fresh g_many g_tells g_last g_runs g_stopped : Int32} {b_actKind b_actV b_actC b_endKind b_endV b_endX b_endY b_number b_before b_behind b_reached b_todo b_words b_coming b_values b_told b_variables : Nat → Int32} {g : Nat → Nat → Nat}
/-! Y: depth, head, straight -/
theorem yd_d (W : gg_W g) (G : (yg_G g b_actKind b_actV b_actC b_endKind b_endV b_endX b_endY)) (K : yk_K g b_number b_before b_behind) {x : Nat} (hx : x < 16) {post : Int32 → SY → Prop} (C : ∀ re td : Nat → Int32, post (nI (gg_dp g x)) (g_fresh, g_many, g_tells, g_last, g_runs, g_stopped, b_actKind, b_actV, b_actC, b_endKind, b_endV, b_endX, b_endY, b_number, b_before, b_behind, re, td, b_words, b_coming, b_values, b_told, b_variables)) : ∃ f : Nat, (wY_depth_18 post (nI x) f 0 0 g_fresh g_many g_tells g_last g_runs g_stopped b_actKind b_actV b_actC b_endKind b_endV b_endX b_endY b_number b_before b_behind b_reached b_todo b_words b_coming b_values b_told b_variables) := by
  refine loop_0 (σ := Int32 × (Nat → Int32) × (Nat → Int32)) (fun f i t => (wY_depth_18 post (nI x) f t.1 (nI i) g_fresh g_many g_tells g_last g_runs g_stopped b_actKind b_actV b_actC b_endKind b_endV b_endX b_endY b_number b_before b_behind t.2.1 t.2.2 b_words b_coming b_values b_told b_variables)) (fun j t => t.1 = nI (ct_c (fun h => pd_b (gg_L g h x)) j)) 16 (0, b_reached, b_todo) rfl ?_ ?_
  · intro f t ht
    refine br_t (by decide) ?_
    rw [ht]
    exact C t.2.1 t.2.2
  · intro f i t hi ht ih
    have hc : ct_c (fun h => pd_b (gg_L g h x)) (i + 1) = ct_c (fun h => pd_b (gg_L g h x)) i + (if pd_b (gg_L g i x) = true then 1 else 0) := rfl
    refine br_f (nI_ge (b := 16) hi (by omega)) (yk_s W K.1 hi ?_ ?_)
    · intro hR
      refine br_f (by decide) (yl_l (b_reached := t.2.1) (b_todo := t.2.2) W G K hR ?_)
      intro r re td hr
      refine nm_e (nm_r (nI_1 i) (ih (_, re, td) ?_))
      show t.1 + ((r >>> (nI x &&& 31)) &&& 1) = nI (ct_c (fun h => pd_b (gg_L g h x)) (i + 1))
      rw [ht, hc, bs_gv r (by omega)]
      by_cases hL : gg_L g i x
      · rw [if_pos ((hr x).mpr hL), if_pos (pd_t hL)]
        exact nI_1 _
      · rw [if_neg (fun h => hL ((hr x).mp h)), if_neg (by rw [pd_f hL]; exact Bool.noConfusion)]
        exact Int32.add_zero _
    · intro hR
      refine br_t rfl (nm_r (nI_1 i) (ih t ?_))
      rw [ht, hc, if_neg (by rw [pd_f (fun h => hR (gl_Rh h))]; exact Bool.noConfusion)]
      rfl
noncomputable def yh_z (g : Nat → Nat → Nat) (h : Nat) : Nat := ct_c (fun n => pd_b (gg_L g h n)) 16
def yh_I (g : Nat → Nat → Nat) (x i : Nat) (b l : Int32) : Prop :=
  (b = -1 ∧ l = nI 17 ∧ ∀ h, h < i → ¬ gg_L g h x) ∨ ∃ m, m < i ∧ b = nI m ∧ l = nI (yh_z g m) ∧ gg_L g m x ∧ ∀ h, h < i → gg_L g h x → yh_z g m ≤ yh_z g h
theorem yh_56 {x i : Nat} (hx : x < 16) (hi : i < 16) {b l r : Int32} (hr : ∀ j, bt r j = true ↔ gg_L g i j) (hI : yh_I g x i b l) {post : Int32 → SY → Prop} {J : Int32 → Int32 → Int32 → Int32 → Int32 → Int32 → Int32 → Int32 → Int32 → (Nat → Int32) → (Nat → Int32) → (Nat → Int32) → (Nat → Int32) → (Nat → Int32) → (Nat → Int32) → (Nat → Int32) → (Nat → Int32) → (Nat → Int32) → (Nat → Int32) → (Nat → Int32) → (Nat → Int32) → (Nat → Int32) → (Nat → Int32) → (Nat → Int32) → (Nat → Int32) → (Nat → Int32) → Prop}
    (C : ∀ b' l' : Int32, yh_I g x (i + 1) b' l' → (J b' l' (nI (i + 1)) g_fresh g_many g_tells g_last g_runs g_stopped b_actKind b_actV b_actC b_endKind b_endV b_endX b_endY b_number b_before b_behind b_reached b_todo b_words b_coming b_values b_told b_variables)) : ∃ f : Nat, (wY_head_56 post J (nI x) b l (nI i) r g_fresh g_many g_tells g_last g_runs g_stopped b_actKind b_actV b_actC b_endKind b_endV b_endX b_endY b_number b_before b_behind b_reached b_todo b_words b_coming b_values b_told b_variables f 0 0) := by
  refine loop_0 (σ := Int32) (fun f k t => (wY_head_56 post J (nI x) b l (nI i) r g_fresh g_many g_tells g_last g_runs g_stopped b_actKind b_actV b_actC b_endKind b_endV b_endX b_endY b_number b_before b_behind b_reached b_todo b_words b_coming b_values b_told b_variables f t (nI k))) (fun k t => t = nI (ct_c (fun n => pd_b (gg_L g i n)) k)) 16 0 rfl ?_ ?_
  · intro f t ht
    have hz : t = nI (yh_z g i) := ht
    have hz16 : yh_z g i ≤ 16 := ct_le _ 16
    refine br_t (by decide) ?_
    by_cases hL : gg_L g i x
    · refine br_f (fun h => ?_) ?_
      · rw [bs_g0 r (by omega), (hr x).mpr hL] at h
        cases h
      · rcases hI with ⟨h1, h2, h3⟩ | ⟨m, h1, h2, h3, h4, h5⟩
        · refine br_t (by rw [hz, h2]; exact nI_lt (by omega) (by omega)) (nm_r (nI_1 i) (C _ _ (Or.inr ⟨i, by omega, rfl, hz, hL, fun h hh hLh => ?_⟩)))
          by_cases e : h = i
          · rw [e]; exact Nat.le_refl _
          · exact absurd hLh (h3 h (by omega))
        · have hm16 : yh_z g m ≤ 16 := ct_le _ 16
          by_cases hlt : yh_z g i < yh_z g m
          · refine br_t (by rw [hz, h3]; exact nI_lt hlt (by omega)) (nm_r (nI_1 i) (C _ _ (Or.inr ⟨i, by omega, rfl, hz, hL, fun h hh hLh => ?_⟩)))
            by_cases e : h = i
            · rw [e]; exact Nat.le_refl _
            · have := h5 h (by omega) hLh; omega
          · refine br_f (by rw [hz, h3]; exact nI_nlt (by omega) (by omega)) (nm_r (nI_1 i) (C _ _ (Or.inr ⟨m, by omega, h2, h3, h4, fun h hh hLh => ?_⟩)))
            by_cases e : h = i
            · rw [e]; omega
            · exact h5 h (by omega) hLh
    · refine br_t ((bs_g0 r (by omega)).mpr (ts_nt (fun h => hL ((hr x).mp h)))) (nm_r (nI_1 i) (C _ _ ?_))
      rcases hI with ⟨h1, h2, h3⟩ | ⟨m, h1, h2, h3, h4, h5⟩
      · refine Or.inl ⟨h1, h2, fun h hh => ?_⟩
        by_cases e : h = i
        · rw [e]; exact hL
        · exact h3 h (by omega)
      · refine Or.inr ⟨m, by omega, h2, h3, h4, fun h hh hLh => ?_⟩
        by_cases e : h = i
        · rw [e] at hLh; exact absurd hLh hL
        · exact h5 h (by omega) hLh
  · intro f k t hk ht ih
    refine br_f (nI_ge (b := 16) hk (by omega)) (nm_e (nm_r (nI_1 k) (ih _ ?_)))
    show t + ((r >>> (nI k &&& 31)) &&& 1) = nI (ct_c (fun n => pd_b (gg_L g i n)) k + (if pd_b (gg_L g i k) = true then 1 else 0))
    rw [ht, bs_gv r (by omega)]
    by_cases hL : gg_L g i k
    · rw [if_pos ((hr k).mpr hL), if_pos (pd_t hL)]
      exact nI_1 _
    · rw [if_neg (fun h => hL ((hr k).mp h)), if_neg (by rw [pd_f hL]; exact Bool.noConfusion)]
      exact Int32.add_zero _
theorem yh_h (W : gg_W g) (G : (yg_G g b_actKind b_actV b_actC b_endKind b_endV b_endX b_endY)) (K : yk_K g b_number b_before b_behind) {x : Nat} (hx : x < 16) {post : Int32 → SY → Prop} (C : ∀ (b l : Int32) (re td : Nat → Int32), yh_I g x 16 b l → post b (g_fresh, g_many, g_tells, g_last, g_runs, g_stopped, b_actKind, b_actV, b_actC, b_endKind, b_endV, b_endX, b_endY, b_number, b_before, b_behind, re, td, b_words, b_coming, b_values, b_told, b_variables)) : ∃ f : Nat, (wY_head_22 post (nI x) f (-1) 17 0 g_fresh g_many g_tells g_last g_runs g_stopped b_actKind b_actV b_actC b_endKind b_endV b_endX b_endY b_number b_before b_behind b_reached b_todo b_words b_coming b_values b_told b_variables) := by
  refine loop_0 (σ := Int32 × Int32 × (Nat → Int32) × (Nat → Int32)) (fun f i t => (wY_head_22 post (nI x) f t.1 t.2.1 (nI i) g_fresh g_many g_tells g_last g_runs g_stopped b_actKind b_actV b_actC b_endKind b_endV b_endX b_endY b_number b_before b_behind t.2.2.1 t.2.2.2 b_words b_coming b_values b_told b_variables)) (fun i t => yh_I g x i t.1 t.2.1) 16 (-1, 17, b_reached, b_todo) (Or.inl ⟨rfl, rfl, fun h hh => by omega⟩) ?_ ?_
  · intro f t ht
    exact br_t (by decide) (C t.1 t.2.1 t.2.2.1 t.2.2.2 ht)
  · intro f i t hi ht ih
    refine br_f (nI_ge (b := 16) hi (by omega)) (yk_s W K.1 hi ?_ ?_)
    · intro hR
      refine br_f (by decide) (yl_l (b_reached := t.2.2.1) (b_todo := t.2.2.2) W G K hR ?_)
      intro r re td hr
      exact yh_56 hx hi hr ht (fun b' l' h => ih (b', l', re, td) h)
    · intro hR
      refine br_t rfl (yh_56 (r := 0) hx hi (fun j => ?_) ht (fun b' l' h => ih (b', l', t.2.2.1, t.2.2.2) h))
      rw [b_0]
      constructor
      · intro h; cases h
      · intro h; exact absurd (gl_Rh h) hR
theorem yh_u (W : gg_W g) {x : Nat} (hx : x < 16) {b l : Int32} (h : yh_I g x 16 b l) {inn : Nat → Int32} (hI : xl_I g 0 inn) : b = inn x := by
  rcases h with ⟨h1, _, h3⟩ | ⟨m, h1, h2, _, h4, h5⟩
  · rcases hI x hx with ⟨i1, _⟩ | ⟨m, i1, _, _, i4, _⟩
    · rw [h1, i1]
    · exact absurd i4 (h3 m i1)
  · rcases hI x hx with ⟨_, i2⟩ | ⟨m', i1, i2, i3, i4, i5⟩
    · exact absurd h4 (i2 m ⟨gl_H h4, Nat.zero_le _⟩)
    · rw [h2, i2]
      have hmm := i5 m ⟨gl_H h4, Nat.zero_le _⟩ h4
      by_cases e : m = m'
      · rw [e]
      · exfalso
        have hle := h5 m' i1 i4
        have hlt : yh_z g m' + 1 ≤ yh_z g m := ct_lt 16 m h1 (fun n _ hn => pd_t (gl_tr hmm ((pd_i _).mp hn))) (pd_f (fun h6 => e (gl_as hmm h6))) (pd_t (gl_h.mp (gl_H h4)))
        omega
theorem yt_t (W : gg_W g) (G : (yg_G g b_actKind b_actV b_actC b_endKind b_endV b_endX b_endY)) (K : yk_K g b_number b_before b_behind) {post : Int32 → SY → Prop} (C1 : gg_St g → post 1 (g_fresh, g_many, g_tells, g_last, g_runs, g_stopped, b_actKind, b_actV, b_actC, b_endKind, b_endV, b_endX, b_endY, b_number, b_before, b_behind, b_reached, b_todo, b_words, b_coming, b_values, b_told, b_variables)) (C0 : ¬ gg_St g → post 0 (g_fresh, g_many, g_tells, g_last, g_runs, g_stopped, b_actKind, b_actV, b_actC, b_endKind, b_endV, b_endX, b_endY, b_number, b_before, b_behind, b_reached, b_todo, b_words, b_coming, b_values, b_told, b_variables)) : ∃ f : Nat, (wY_straight_6 post g_fresh g_many g_tells g_last g_runs g_stopped b_actKind b_actV b_actC b_endKind b_endV b_endX b_endY b_number b_before b_behind b_reached b_todo b_words b_coming b_values b_told b_variables f 0) := by
  have hlen := df_ln W
  have hnum : ∀ m, gg_R g m → gg_n g m < 16 := fun m hm => by have := (gg_nl W hm).1; omega
  have en : ∀ m, m < 16 → gg_R g m → b_number (nI m).toNatClampNeg = nI (gg_n g m) := by
    intro m hm hR
    rw [nI_clamp (by omega)]
    rcases K.1 m hm with h | h
    · exact h.2
    · exact absurd hR h.1
  refine loop_0 (σ := Unit) (fun f i _ => (wY_straight_6 post g_fresh g_many g_tells g_last g_runs g_stopped b_actKind b_actV b_actC b_endKind b_endV b_endX b_endY b_number b_before b_behind b_reached b_todo b_words b_coming b_values b_told b_variables f (nI i))) (fun i _ => ∀ n s, n < i → xl_P g s n) 16 () (fun n s hn => by omega) ?_ ?_
  · intro f _ h
    exact br_t (by decide) (C1 (fun s n hR => h n s (gg_R16 W hR) hR))
  · intro f i _ hi h ih
    refine br_f (nI_ge (b := 16) hi (by omega)) ?_
    refine loop_0 (σ := Unit) (fun f2 k _ => (wY_straight_14 post (wY_straight_6 post g_fresh g_many g_tells g_last g_runs g_stopped b_actKind b_actV b_actC b_endKind b_endV b_endX b_endY b_number b_before b_behind b_reached b_todo b_words b_coming b_values b_told b_variables f) (nI i) g_fresh g_many g_tells g_last g_runs g_stopped b_actKind b_actV b_actC b_endKind b_endV b_endX b_endY b_number b_before b_behind b_reached b_todo b_words b_coming b_values b_told b_variables f2 (nI k))) (fun k _ => ∀ s, s < k → xl_P g s i) 16 () (fun s hs => by omega) ?_ ?_
    · intro f2 _ h2
      refine br_t (by decide) (nm_r (nI_1 i) (ih () (fun n s hn => ?_)))
      by_cases e : n = i
      · subst e
        intro hR hE
        exact h2 s (gg_E16 W hE) hR hE
      · exact h n s (by omega)
    · intro f2 k _ hk h2 ih2
      have nx : xl_P g k i → ∀ s, s < k + 1 → xl_P g s i := by
        intro h3 s hs
        by_cases e : s = k
        · subst e; exact h3
        · exact h2 s (by omega)
      refine br_f (nI_ge (b := 16) hk (by omega)) (yk_s W K.1 hi ?_ ?_)
      · intro hR
        refine br_f (by decide) (yg_le W G hi hk ?_ ?_)
        · intro hE
          have hRk : gg_R g k := gr_st hR hE trivial
          have n1 := hnum i hR
          have n2 := hnum k hRk
          refine br_f (by decide) (And.intro (xg_i hk) (And.intro (xg_i hi) ?_))
          rw [en i hi hR, en k hk hRk]
          by_cases hlt : gg_n g i < gg_n g k
          · exact br_t (nI_lt hlt (by omega)) (nm_r (nI_1 k) (ih2 () (nx (fun _ _ h4 => by omega))))
          · refine br_f (nI_nlt (by omega) (by omega)) (yk_Bb K.2.1 hk hi ?_ ?_)
            · intro hq
              exact br_f (by decide) (nm_r (nI_1 k) (ih2 () (nx (fun _ _ _ => hq.2.2))))
            · intro hq
              exact br_t rfl (C0 (fun hS => hq ⟨hRk, hR, hS k i hR hE (by omega)⟩))
        · intro hE
          exact br_t rfl (nm_r (nI_1 k) (ih2 () (nx (fun _ h4 => absurd h4 hE))))
      · intro hR
        exact br_t rfl (nm_r (nI_1 k) (ih2 () (nx (fun h4 => absurd h4 hR))))
end YF
section YG
/-! merges -/
variable {g_fresh g_many g_tells g_last g_runs g_stopped : Int32} {b_actKind b_actV b_actC b_endKind b_endV b_endX b_endY b_number b_before b_behind b_reached b_todo b_words b_coming b_values b_told b_variables : Nat → Int32} {g : Nat → Nat → Nat}
def mg_c (g : Nat → Nat → Nat) (n v : Nat) : Prop := (1 ≤ g 4 n ∧ g 4 n ≠ 4) ∧ g 5 n = v
def mg_a (g : Nat → Nat → Nat) (v a : Nat) : Prop := a = 0 ∨ (gg_R g a ∧ mg_c g a v)
def mg_S (g : Nat → Nat → Nat) (v i : Nat) : Prop := ∃ a b, mg_a g v a ∧ xe_E g a b ∧ gr_c (xe_E g) (fun _ => True) b i
theorem mg_R {v i : Nat} (h : mg_S g v i) : gg_R g i := by
  obtain ⟨a, b, _, h1, h2⟩ := h
  have hb : gg_R g b := by
    obtain ⟨p, h3, h4, _⟩ := h1
    exact gr_st h3 h4 trivial
  refine gr_in (Q := fun i => gg_R g i) h2 hb ?_
  intro x y _ _ e _
  obtain ⟨p, h3, h4, _⟩ := e
  exact gr_st h3 h4 trivial
theorem mg_st {v i j : Nat} (h : mg_S g v i) (e : xe_E g i j) : mg_S g v j := by
  obtain ⟨a, b, h1, h2, h3⟩ := h
  exact ⟨a, b, h1, h2, gr_st h3 e trivial⟩
theorem mg_le {v : Nat} {Q : Nat → Prop} (h1 : ∀ a b, mg_a g v a → xe_E g a b → Q b) (h2 : ∀ x y, Q x → xe_E g x y → Q y) {i : Nat} (h : mg_S g v i) : Q i := by
  obtain ⟨a, b, h3, h4, h5⟩ := h
  exact gr_in (Q := Q) h5 (h1 a b h3 h4) (fun x y _ q e _ => h2 x y q e)
theorem ym_104 (W : gg_W g) (G : (yg_G g b_actKind b_actV b_actC b_endKind b_endV b_endX b_endY)) (K : yk_K g b_number b_before b_behind) {v : Nat} {S : Int32} (hS : ∀ i, bt S i = true → mg_S g v i) {post : Int32 → SY → Prop} {J : Int32 → Int32 → Prop}
    (C1 : ∀ T : Int32, (∀ i, bt S i = true → bt T i = true) → (∀ i, bt T i = true → mg_S g v i) → ¬ T = S → J T 1) (C0 : (∀ i j, bt S i = true → xe_E g i j → bt S j = true) → J S 0) :
    ∃ f : Nat, (wY_merges_104 post J S g_fresh g_many g_tells g_last g_runs g_stopped b_actKind b_actV b_actC b_endKind b_endV b_endX b_endY b_number b_before b_behind b_reached b_todo b_words b_coming b_values b_told b_variables f S 0) := by
  refine loop_0 (σ := Int32) (fun f i t => (wY_merges_104 post J S g_fresh g_many g_tells g_last g_runs g_stopped b_actKind b_actV b_actC b_endKind b_endV b_endX b_endY b_number b_before b_behind b_reached b_todo b_words b_coming b_values b_told b_variables f t (nI i))) (fun k t => (∀ i, bt S i = true → bt t i = true) ∧ (∀ i, bt t i = true → mg_S g v i) ∧ ∀ i j, i < k → bt S i = true → xe_E g i j → bt t j = true) 16 S ⟨fun i h => h, hS, fun i j hi => by omega⟩ ?_ ?_
  · intro f t ht
    refine br_t (by decide) ?_
    by_cases e : t = S
    · refine br_t e ?_
      rw [e] at ht ⊢
      exact C0 (fun i j hi => ht.2.2 i j (gg_R16 W (mg_R (hS i hi))) hi)
    · exact br_f e (C1 t ht.1 ht.2.1 e)
  · intro f i t hi ht ih
    refine br_f (nI_ge (b := 16) hi (by omega)) ?_
    by_cases hb : bt S i = true
    · refine br_t ((bs_g1 S (by omega)).mpr hb) (ye_e W G K (mg_R (hS i hb)) ?_)
      intro r hr
      refine nm_e (nm_r (nI_1 i) (ih _ ⟨?_, ?_, ?_⟩))
      · intro j hj
        rw [b_or, ht.1 j hj]; rfl
      · intro j hj
        rw [b_or, Bool.or_eq_true] at hj
        rcases hj with hj | hj
        · exact ht.2.1 j hj
        · exact mg_st (hS i hb) ((hr j).mp hj)
      · intro i' j hi' hb' hE
        rw [b_or, Bool.or_eq_true]
        by_cases e : i' = i
        · subst e; exact Or.inr ((hr j).mpr hE)
        · exact Or.inl (ht.2.2 i' j (by omega) hb' hE)
    · refine br_f (fun h => hb ((bs_g1 S (by omega)).mp h)) (nm_r (nI_1 i) (ih t ⟨ht.1, ht.2.1, fun i' j hi' hb' hE => ?_⟩))
      by_cases e : i' = i
      · subst e; exact absurd hb' hb
      · exact ht.2.2 i' j (by omega) hb' hE
theorem ym_94 (W : gg_W g) (G : (yg_G g b_actKind b_actV b_actC b_endKind b_endV b_endX b_endY)) (K : yk_K g b_number b_before b_behind) {v : Nat} {post : Int32 → SY → Prop} (C : ∀ S : Int32, (∀ i, bt S i = true ↔ mg_S g v i) → post S (g_fresh, g_many, g_tells, g_last, g_runs, g_stopped, b_actKind, b_actV, b_actC, b_endKind, b_endV, b_endX, b_endY, b_number, b_before, b_behind, b_reached, b_todo, b_words, b_coming, b_values, b_told, b_variables)) :
    ∀ (f : Nat) (S : Int32), ct_c (fun i => !bt S i) 16 + 1 < f → (∀ i, bt S i = true → mg_S g v i) → (∀ a b, mg_a g v a → xe_E g a b → bt S b = true) → (wY_merges_94 post g_fresh g_many g_tells g_last g_runs g_stopped b_actKind b_actV b_actC b_endKind b_endV b_endX b_endY b_number b_before b_behind b_reached b_todo b_words b_coming b_values b_told b_variables f S 1) := by
  intro f
  induction f with
  | zero => intro S h; omega
  | succ f ih =>
    intro S hf hS h0
    refine br_f (by decide) (ym_104 W G K hS ?_ ?_)
    · intro T h1 h2 h3
      refine ih T ?_ h2 (fun a b ha hE => h1 b (h0 a b ha hE))
      have hnew : ∃ i, i < 16 ∧ bt T i = true ∧ bt S i = false := by
        apply Classical.byContradiction
        intro hno
        apply h3
        apply b_ext
        intro i _
        by_cases hi : bt T i = true
        · rw [hi]
          exact (ts_nf (fun h => hno ⟨i, gg_R16 W (mg_R (h2 i hi)), hi, h⟩)).symm
        · rw [ts_nt hi]
          exact (ts_nt (fun h => hi (h1 i h))).symm
      obtain ⟨i, hi16, hi1, hi2⟩ := hnew
      have := ct_lt (p := fun i => !bt T i) (q := fun i => !bt S i) 16 i hi16 (fun j _ hj => by
        have hj' : (!bt T j) = true := hj
        show (!bt S j) = true
        rw [Bool.not_eq_true'] at hj' ⊢
        exact ts_nt (fun h => by rw [h1 j h] at hj'; cases hj')) (by show (!bt T i) = false; rw [hi1]; rfl) (by show (!bt S i) = true; rw [hi2]; rfl)
      omega
    · intro h1
      obtain ⟨f', rfl⟩ : ∃ f', f = f' + 1 := ⟨f - 1, by omega⟩
      refine br_t rfl (C S (fun i => ⟨fun h => hS i h, fun h => ?_⟩))
      exact mg_le (Q := fun i => bt S i = true) h0 (fun x y q e => h1 x y q e) h
theorem ym_m (W : gg_W g) (G : (yg_G g b_actKind b_actV b_actC b_endKind b_endV b_endX b_endY)) (K : yk_K g b_number b_before b_behind) {v : Nat} (hv : v < 4) {post : Int32 → SY → Prop} (C : ∀ S : Int32, (∀ i, bt S i = true ↔ mg_S g v i) → post S (g_fresh, g_many, g_tells, g_last, g_runs, g_stopped, b_actKind, b_actV, b_actC, b_endKind, b_endV, b_endX, b_endY, b_number, b_before, b_behind, b_reached, b_todo, b_words, b_coming, b_values, b_told, b_variables)) {r0 : Int32} (hr0 : ∀ i, bt r0 i = true ↔ xe_E g 0 i) : ∃ f : Nat, (wY_merges_23 post (nI v) g_fresh g_many g_tells g_last g_runs g_stopped b_actKind b_actV b_actC b_endKind b_endV b_endX b_endY b_number b_before b_behind b_reached b_todo b_words b_coming b_values b_told b_variables f r0 0) := by
  refine loop_0 (σ := Int32) (fun f i t => (wY_merges_23 post (nI v) g_fresh g_many g_tells g_last g_runs g_stopped b_actKind b_actV b_actC b_endKind b_endV b_endX b_endY b_number b_before b_behind b_reached b_todo b_words b_coming b_values b_told b_variables f t (nI i))) (fun k t => ∀ i, bt t i = true ↔ ∃ a, (a = 0 ∨ (a < k ∧ gg_R g a ∧ mg_c g a v)) ∧ xe_E g a i) 16 r0 ?_ ?_ ?_
  · intro i
    rw [hr0 i]
    constructor
    · intro h; exact ⟨0, Or.inl rfl, h⟩
    · intro ⟨a, h1, h2⟩
      rcases h1 with h1 | h1
      · rw [h1] at h2; exact h2
      · omega
  · intro f t ht
    refine br_t (by decide) ⟨18, ym_94 W G K C 18 t ?_ ?_ ?_⟩
    · have := ct_le (fun i => !bt t i) 16
      omega
    · intro i hi
      obtain ⟨a, h1, h2⟩ := (ht i).mp hi
      refine ⟨a, i, ?_, h2, gr_rf⟩
      rcases h1 with h1 | h1
      · exact Or.inl h1
      · exact Or.inr h1.2
    · intro a b ha hE
      refine (ht b).mpr ⟨a, ?_, hE⟩
      rcases ha with ha | ha
      · exact Or.inl ha
      · exact Or.inr ⟨gg_R16 W ha.1, ha⟩
  · intro f i t hi ht ih
    have hw := W i
    have hG := G i hi
    have ek : b_actKind (nI i).toNatClampNeg = nI (g 4 i) := by rw [nI_clamp (by omega), hG.2.2.2.1]
    have skip : ¬ (gg_R g i ∧ mg_c g i v) → ∀ j, bt t j = true ↔ ∃ a, (a = 0 ∨ (a < i + 1 ∧ gg_R g a ∧ mg_c g a v)) ∧ xe_E g a j := by
      intro hno j
      rw [ht j]
      constructor
      · intro ⟨a, h1, h2⟩
        refine ⟨a, ?_, h2⟩
        rcases h1 with h1 | h1
        · exact Or.inl h1
        · exact Or.inr ⟨by omega, h1.2⟩
      · intro ⟨a, h1, h2⟩
        refine ⟨a, ?_, h2⟩
        rcases h1 with h1 | h1
        · exact Or.inl h1
        · refine Or.inr ⟨?_, h1.2⟩
          by_cases e : a = i
          · subst e; exact absurd h1.2 hno
          · omega
    have go0 : ¬ mg_c g i v → (wY_merges_62 post (wY_merges_23 post (nI v) g_fresh g_many g_tells g_last g_runs g_stopped b_actKind b_actV b_actC b_endKind b_endV b_endX b_endY b_number b_before b_behind b_reached b_todo b_words b_coming b_values b_told b_variables f) (nI v) t (nI i) g_fresh g_many g_tells g_last g_runs g_stopped b_actKind b_actV b_actC b_endKind b_endV b_endX b_endY b_number b_before b_behind b_reached b_todo b_words b_coming b_values b_told b_variables) := by
      intro hno
      unfold wY_merges_62 wY_merges_63
      refine yk_s W K.1 hi ?_ ?_
      · intro _
        exact br_f (by decide) (br_t rfl (nm_r (nI_1 i) (ih t (skip (fun h => hno h.2)))))
      · intro _
        exact br_t rfl (nm_r (nI_1 i) (ih t (skip (fun h => hno h.2))))
    refine br_f (nI_ge (b := 16) hi (by omega)) (And.intro (xg_i hi) ?_)
    by_cases k0 : g 4 i = 0
    · exact br_t (by rw [ek, k0]; decide) (go0 (fun h => by have := h.1; omega))
    · refine br_f (by rw [ek]; exact nI_nle (by omega) (by omega)) (And.intro (xg_i hi) ?_)
      by_cases k4 : g 4 i = 4
      · exact br_t (by rw [ek, k4]; rfl) (go0 (fun h => h.1.2 k4))
      · refine br_f (by rw [ek]; exact fun e => k4 (bs_inj (b := 4) e (by omega) (by omega))) (And.intro (xg_i hi) ?_)
        have ev : b_actV (nI i).toNatClampNeg = nI (g 5 i) := by rw [nI_clamp (by omega), hG.2.2.2.2.1 (by omega)]
        by_cases e5 : g 5 i = v
        · refine br_t (by rw [ev, e5]) (yk_s W K.1 hi ?_ ?_)
          · intro hR
            refine br_f (by decide) (br_f (by decide) (ye_e W G K hR ?_))
            intro r hr
            refine nm_e (nm_r (nI_1 i) (ih _ (fun j => ?_)))
            rw [b_or, Bool.or_eq_true, ht j, hr j]
            constructor
            · intro h
              rcases h with ⟨a, h1, h2⟩ | h
              · refine ⟨a, ?_, h2⟩
                rcases h1 with h1 | h1
                · exact Or.inl h1
                · exact Or.inr ⟨by omega, h1.2⟩
              · exact ⟨i, Or.inr ⟨by omega, hR, ⟨by omega, k4⟩, e5⟩, h⟩
            · intro ⟨a, h1, h2⟩
              rcases h1 with h1 | h1
              · exact Or.inl ⟨a, Or.inl h1, h2⟩
              · by_cases e : a = i
                · subst e; exact Or.inr h2
                · exact Or.inl ⟨a, Or.inr ⟨by omega, h1.2⟩, h2⟩
          · intro hR
            exact br_t rfl (nm_r (nI_1 i) (ih t (skip (fun h => hR h.1))))
        · exact br_f (by rw [ev]; exact fun h => e5 (bs_inj h (by omega) (by omega))) (go0 (fun h => e5 h.2))
end YG
end
section
section XW
variable {f_known f_seen f_many f_ordered f_isStraight f_entered f_todo f_length f_waiting f_tellings f_last f_stopped f_steps f_ran : Int32} {f_left : Int64} {a_acts a_actV a_actC a_ends a_endV a_endX a_endY a_numbers a_byNumber a_before a_forward a_backward a_orderOf a_at a_from a_semi a_label a_up a_found a_stack a_place a_chiefs a_tails a_edges a_rulers a_loops a_innermost a_outer a_deep a_alive a_values a_present a_code a_target a_pending a_pendingOf a_begins a_openAt a_vars a_told : Nat → Int32} {g : Nat → Nat → Nat}
/-! X: merges -/
theorem xm_57 (W : gg_W g) (hE : xe_Ed g a_edges) {v : Nat} {post : Int32 → SX → Prop} (C : ∀ S : Int32, (∀ i, bt S i = true ↔ mg_S g v i) → post S (f_known, f_seen, f_many, f_ordered, f_isStraight, f_entered, f_todo, f_length, f_waiting, f_tellings, f_last, f_stopped, f_steps, f_left, f_ran, a_acts, a_actV, a_actC, a_ends, a_endV, a_endX, a_endY, a_numbers, a_byNumber, a_before, a_forward, a_backward, a_orderOf, a_at, a_from, a_semi, a_label, a_up, a_found, a_stack, a_place, a_chiefs, a_tails, a_edges, a_rulers, a_loops, a_innermost, a_outer, a_deep, a_alive, a_values, a_present, a_code, a_target, a_pending, a_pendingOf, a_begins, a_openAt, a_vars, a_told)) :
    ∀ (f : Nat) (S T : Int32), ct_c (fun i => bt T i) 16 + ct_c (fun i => !bt S i) 16 < f → (∀ i, bt S i = true → mg_S g v i) → (∀ i, bt T i = true → mg_a g v i ∨ mg_S g v i) → (∀ i, bt T i = true → gg_R g i) →
      (∀ a b, mg_a g v a → xe_E g a b → bt T a = true ∨ bt S b = true) → (∀ x y, bt S x = true → xe_E g x y → bt T x = true ∨ bt S y = true) → (wX_merges_57 post f_known f_seen f_many f_ordered f_isStraight f_entered f_todo f_length f_waiting f_tellings f_last f_stopped f_steps f_left f_ran a_acts a_actV a_actC a_ends a_endV a_endX a_endY a_numbers a_byNumber a_before a_forward a_backward a_orderOf a_at a_from a_semi a_label a_up a_found a_stack a_place a_chiefs a_tails a_edges a_rulers a_loops a_innermost a_outer a_deep a_alive a_values a_present a_code a_target a_pending a_pendingOf a_begins a_openAt a_vars a_told f S T) := by
  intro f
  induction f with
  | zero => intro S T h; omega
  | succ f ih =>
    intro S T hf s1 s2 s3 s4 s5
    by_cases hT : T = 0
    · subst hT
      have no : ∀ i, bt (0 : Int32) i = true → False := fun i h => by rw [b_0] at h; cases h
      refine br_t rfl (C S (fun i => ⟨fun h => s1 i h, fun h => ?_⟩))
      refine mg_le (Q := fun i => bt S i = true) (fun a b ha hE => ?_) (fun x y q e => ?_) h
      · rcases s4 a b ha hE with h | h
        · exact absurd h (no a)
        · exact h
      · rcases s5 x y q e with h | h
        · exact absurd h (no x)
        · exact h
    · obtain ⟨l, hl32, hl, hm⟩ := bs_fst hT
      have hRl := s3 l hl
      have hl16 := gg_R16 W hRl
      have ed := fun i => hE l hl16 i
      have hed : ∀ i, xe_E g l i → mg_S g v i := by
        intro i hi
        rcases s2 l hl with h | h
        · exact ⟨l, i, h, hi, gr_rf⟩
        · exact mg_st h hi
      refine br_f hT (bs_lw hl hm (nm_e (And.intro (xg_i hl16) (nm_r (e' := (T &&& (T - 1)) ||| (a_edges l &&& (S ^^^ (-1)))) (by rw [nI_clamp (by omega)]) (And.intro (xg_i hl16) (nm_r (e' := S ||| a_edges l) (by rw [nI_clamp (by omega)]) ?_))))))
      have eT : ∀ i, bt ((T &&& (T - 1)) ||| (a_edges l &&& (S ^^^ (-1)))) i = true ↔ (bt T i = true ∧ i ≠ l) ∨ (xe_E g l i ∧ bt S i = false) := by
        intro i
        rw [b_or, Bool.or_eq_true, bs_cl hl hm, bs_nt, Bool.and_eq_true, Bool.and_eq_true, decide_eq_true_iff, Bool.not_eq_true', ed i]
      have eS : ∀ i, bt (S ||| a_edges l) i = true ↔ bt S i = true ∨ xe_E g l i := by
        intro i
        rw [b_or, Bool.or_eq_true, ed i]
      refine ih _ _ ?_ ?_ ?_ ?_ ?_ ?_
      · have h1 := ct_mo (p := fun i => bt ((T &&& (T - 1)) ||| (a_edges l &&& (S ^^^ (-1)))) i) (q := fun i => (bt T i && decide (i ≠ l)) || (bt (a_edges l) i && !bt S i)) 16 (fun i _ hi => by
          show ((bt T i && decide (i ≠ l)) || (bt (a_edges l) i && !bt S i)) = true
          rcases (eT i).mp hi with h | h
          · simp [h.1, h.2]
          · simp [(ed i).mpr h.1, h.2])
        have h2 := ct_or (fun i => bt T i && decide (i ≠ l)) (fun i => bt (a_edges l) i && !bt S i) 16
        have h3 := ct_rm (p := fun i => bt T i && decide (i ≠ l)) (q := fun i => bt T i) 16 l hl16 (fun i _ hi => by simp [hi]) (by simp) hl
        have h4 : ct_c (fun i => !bt (S ||| a_edges l) i) 16 + ct_c (fun i => bt (a_edges l) i && !bt S i) 16 = ct_c (fun i => !bt S i) 16 := by
          have key : ∀ n, ct_c (fun i => !bt (S ||| a_edges l) i) n + ct_c (fun i => bt (a_edges l) i && !bt S i) n = ct_c (fun i => !bt S i) n := by
            intro n
            induction n with
            | zero => rfl
            | succ n ihn =>
              show ct_c _ n + (if (!bt (S ||| a_edges l) n) = true then 1 else 0) + (ct_c _ n + (if (bt (a_edges l) n && !bt S n) = true then 1 else 0)) = ct_c _ n + (if (!bt S n) = true then 1 else 0)
              rw [b_or]
              cases bt S n <;> cases bt (a_edges l) n <;> simp <;> omega
          exact key 16
        omega
      · intro i hi
        rcases (eS i).mp hi with h | h
        · exact s1 i h
        · exact hed i h
      · intro i hi
        rcases (eT i).mp hi with h | h
        · exact s2 i h.1
        · exact Or.inr (hed i h.1)
      · intro i hi
        rcases (eT i).mp hi with h | h
        · exact s3 i h.1
        · exact mg_R (hed i h.1)
      · intro a b ha hE2
        by_cases e : a = l
        · subst e; exact Or.inr ((eS b).mpr (Or.inr hE2))
        · rcases s4 a b ha hE2 with h | h
          · exact Or.inl ((eT a).mpr (Or.inl ⟨h, e⟩))
          · exact Or.inr ((eS b).mpr (Or.inl h))
      · intro x y hx hE2
        by_cases e : x = l
        · subst e; exact Or.inr ((eS y).mpr (Or.inr hE2))
        · by_cases hS : bt S x = true
          · rcases s5 x y hS hE2 with h | h
            · exact Or.inl ((eT x).mpr (Or.inl ⟨h, e⟩))
            · exact Or.inr ((eS y).mpr (Or.inl h))
          · rcases (eS x).mp hx with h | h
            · exact absurd h hS
            · exact Or.inl ((eT x).mpr (Or.inr ⟨h, ts_nt hS⟩))
theorem xm_m (W : gg_W g) (G : (xg_G g a_acts a_actV a_actC a_ends a_endV a_endX a_endY)) (hn : xn_N g f_seen f_many a_byNumber a_numbers) (hE : xe_Ed g a_edges) {v : Nat} (hv : v < 4) {post : Int32 → SX → Prop} (C : ∀ S : Int32, (∀ i, bt S i = true ↔ mg_S g v i) → post S (f_known, f_seen, f_many, f_ordered, f_isStraight, f_entered, f_todo, f_length, f_waiting, f_tellings, f_last, f_stopped, f_steps, f_left, f_ran, a_acts, a_actV, a_actC, a_ends, a_endV, a_endX, a_endY, a_numbers, a_byNumber, a_before, a_forward, a_backward, a_orderOf, a_at, a_from, a_semi, a_label, a_up, a_found, a_stack, a_place, a_chiefs, a_tails, a_edges, a_rulers, a_loops, a_innermost, a_outer, a_deep, a_alive, a_values, a_present, a_code, a_target, a_pending, a_pendingOf, a_begins, a_openAt, a_vars, a_told)) : ∃ f : Nat, (wX_merges_20 post (nI v) 0 f_known f_seen f_many f_ordered f_isStraight f_entered f_todo f_length f_waiting f_tellings f_last f_stopped f_steps f_left f_ran a_acts a_actV a_actC a_ends a_endV a_endX a_endY a_numbers a_byNumber a_before a_forward a_backward a_orderOf a_at a_from a_semi a_label a_up a_found a_stack a_place a_chiefs a_tails a_edges a_rulers a_loops a_innermost a_outer a_deep a_alive a_values a_present a_code a_target a_pending a_pendingOf a_begins a_openAt a_vars a_told f 1 0) := by
  refine loop_0 (σ := Int32) (fun f i t => (wX_merges_20 post (nI v) 0 f_known f_seen f_many f_ordered f_isStraight f_entered f_todo f_length f_waiting f_tellings f_last f_stopped f_steps f_left f_ran a_acts a_actV a_actC a_ends a_endV a_endX a_endY a_numbers a_byNumber a_before a_forward a_backward a_orderOf a_at a_from a_semi a_label a_up a_found a_stack a_place a_chiefs a_tails a_edges a_rulers a_loops a_innermost a_outer a_deep a_alive a_values a_present a_code a_target a_pending a_pendingOf a_begins a_openAt a_vars a_told f t (nI i))) (fun k t => ∀ i, bt t i = true ↔ i = 0 ∨ (i < k ∧ mg_c g i v)) 16 1 ?_ ?_ ?_
  · intro i
    rw [bs_1, decide_eq_true_iff]
    constructor
    · intro h; exact Or.inl h
    · intro h
      rcases h with h | h
      · exact h
      · omega
  · intro f t ht
    have eT : ∀ i, bt (t &&& f_seen) i = true ↔ mg_a g v i ∧ gg_R g i := by
      intro i
      rw [b_and, Bool.and_eq_true, ht i, hn.1 i]
      constructor
      · intro h
        refine ⟨?_, h.2⟩
        rcases h.1 with h1 | h1
        · exact Or.inl h1
        · exact Or.inr ⟨h.2, h1.2⟩
      · intro h
        refine ⟨?_, h.2⟩
        rcases h.1 with h1 | h1
        · exact Or.inl h1
        · exact Or.inr ⟨gg_R16 W h.2, h1.2⟩
    have no : ∀ i, bt (0 : Int32) i = true → False := fun i h => by rw [b_0] at h; cases h
    refine br_t (by decide) (nm_e ⟨40, xm_57 W hE C 40 0 _ ?_ (fun i h => absurd h (no i)) (fun i h => Or.inl ((eT i).mp h).1) (fun i h => ((eT i).mp h).2) (fun a b ha hE2 => Or.inl ((eT a).mpr ⟨ha, ?_⟩)) (fun x y h => absurd h (no x))⟩)
    · have h1 := ct_le (fun i => bt (t &&& f_seen) i) 16
      have h2 := ct_le (fun i => !bt (0 : Int32) i) 16
      omega
    · rcases ha with ha | ha
      · rw [ha]; exact gr_rf
      · exact ha.1
  · intro f i t hi ht ih
    have hw := W i
    have hG := G i hi
    have ek : a_acts (nI i).toNatClampNeg = nI (g 4 i) := by rw [nI_clamp (by omega), hG.2.2.2.2.1]
    have ev : a_actV (nI i).toNatClampNeg = nI (g 5 i) := by rw [nI_clamp (by omega), hG.2.2.2.2.2.1]
    have skip : ¬ mg_c g i v → ∀ j, bt t j = true ↔ j = 0 ∨ (j < i + 1 ∧ mg_c g j v) := by
      intro hno j
      rw [ht j]
      constructor
      · intro h
        rcases h with h | h
        · exact Or.inl h
        · exact Or.inr ⟨by omega, h.2⟩
      · intro h
        rcases h with h | h
        · exact Or.inl h
        · refine Or.inr ⟨?_, h.2⟩
          by_cases e : j = i
          · subst e; exact absurd h.2 hno
          · omega
    have go0 : ¬ mg_c g i v → ∀ r : Int32, r = 0 → ((r = 0 → (∀ x4_125 : Int32, x4_125 = nI i + 1 → (wX_merges_20 post (nI v) 0 f_known f_seen f_many f_ordered f_isStraight f_entered f_todo f_length f_waiting f_tellings f_last f_stopped f_steps f_left f_ran a_acts a_actV a_actC a_ends a_endV a_endX a_endY a_numbers a_byNumber a_before a_forward a_backward a_orderOf a_at a_from a_semi a_label a_up a_found a_stack a_place a_chiefs a_tails a_edges a_rulers a_loops a_innermost a_outer a_deep a_alive a_values a_present a_code a_target a_pending a_pendingOf a_begins a_openAt a_vars a_told f t x4_125))) ∧ (¬ r = 0 → (∀ x3_126 : Int32, x3_126 = t ||| ((1 : Int32) <<< (nI i &&& 31)) → (∀ x4_127 : Int32, x4_127 = nI i + 1 → (wX_merges_20 post (nI v) 0 f_known f_seen f_many f_ordered f_isStraight f_entered f_todo f_length f_waiting f_tellings f_last f_stopped f_steps f_left f_ran a_acts a_actV a_actC a_ends a_endV a_endX a_endY a_numbers a_byNumber a_before a_forward a_backward a_orderOf a_at a_from a_semi a_label a_up a_found a_stack a_place a_chiefs a_tails a_edges a_rulers a_loops a_innermost a_outer a_deep a_alive a_values a_present a_code a_target a_pending a_pendingOf a_begins a_openAt a_vars a_told f x3_126 x4_127))))) := by
      intro hno r hr
      exact br_t hr (nm_r (nI_1 i) (ih t (skip hno)))
    refine br_f (nI_ge (b := 16) hi (by omega)) (And.intro (xg_i hi) ?_)
    by_cases k0 : g 4 i = 0
    · exact br_t (by rw [ek, k0]; decide) (go0 (fun h => by have := h.1; omega) 0 rfl)
    · refine br_f (by rw [ek]; exact nI_nle (by omega) (by omega)) (And.intro (xg_i hi) ?_)
      by_cases k4 : g 4 i = 4
      · exact br_t (by rw [ek, k4]; rfl) (go0 (fun h => h.1.2 k4) 0 rfl)
      · refine br_f (by rw [ek]; exact fun e => k4 (bs_inj (b := 4) e (by omega) (by omega))) (And.intro (xg_i hi) ?_)
        by_cases e5 : g 5 i = v
        · refine br_t (by rw [ev, e5]) (br_f (by decide) (nm_e (nm_r (nI_1 i) (ih _ (fun j => ?_)))))
          rw [ye_or (by omega), ht j]
          constructor
          · intro h
            rcases h with h | h
            · rcases h with h | h
              · exact Or.inl h
              · exact Or.inr ⟨by omega, h.2⟩
            · subst h; exact Or.inr ⟨by omega, ⟨by omega, k4⟩, e5⟩
          · intro h
            rcases h with h | h
            · exact Or.inl (Or.inl h)
            · by_cases e : j = i
              · exact Or.inr e
              · exact Or.inl (Or.inr ⟨by omega, h.2⟩)
        · exact br_f (by rw [ev]; exact fun h => e5 (bs_inj h (by omega) (by omega))) (go0 (fun h => e5 h.2) 0 rfl)
end XW
section YH
variable {g_fresh g_many g_tells g_last g_runs g_stopped : Int32} {b_actKind b_actV b_actC b_endKind b_endV b_endX b_endY b_number b_before b_behind b_reached b_todo b_words b_coming b_values b_told b_variables : Nat → Int32} {g : Nat → Nat → Nat}
/-! Y: live -/
theorem yv_lk (W : gg_W g) (G : (yg_G g b_actKind b_actV b_actC b_endKind b_endV b_endX b_endY)) {n v : Nat} (hn : n < 16) (hv : v < 4) {post : Int32 → Prop} (h1 : gg_lk g n v → post 1) (h0 : ¬ gg_lk g n v → post 0) : (wpY_looks post (g_fresh, g_many, g_tells, g_last, g_runs, g_stopped, b_actKind, b_actV, b_actC, b_endKind, b_endV, b_endX, b_endY, b_number, b_before, b_behind, b_reached, b_todo, b_words, b_coming, b_values, b_told, b_variables) (nI n) (nI v)) := by
  have hw := W n
  have hG := G n hn
  have ek : b_actKind (nI n).toNatClampNeg = nI (g 4 n) := by rw [nI_clamp (by omega), hG.2.2.2.1]
  have ne : ∀ k, k ≤ 5 → g 4 n ≠ k → ¬ nI (g 4 n) = nI k := fun k hk h1 h2 => h1 (bs_inj h2 (by omega) (by omega))
  have go : g 4 n = 2 ∨ g 4 n = 4 → (wY_looks_17 post (nI n) (nI v) (nI (g 4 n)) g_fresh g_many g_tells g_last g_runs g_stopped b_actKind b_actV b_actC b_endKind b_endV b_endX b_endY b_number b_before b_behind b_reached b_todo b_words b_coming b_values b_told b_variables) := by
    intro hk
    have ev : b_actV (nI n).toNatClampNeg = nI (g 5 n) := by rw [nI_clamp (by omega), hG.2.2.2.2.1 (by omega)]
    refine And.intro (xg_i hn) ?_
    by_cases e : g 5 n = v
    · exact br_t (by rw [ev, e]) (h1 (Or.inl ⟨hk, e⟩))
    · refine br_f (by rw [ev]; exact fun h => e (bs_inj h (by omega) (by omega))) (br_f (ne 3 (by omega) (by omega)) (h0 (fun h => ?_)))
      rcases h with h | h
      · exact e h.2
      · omega
  refine And.intro (xg_i hn) (nm_r ek ?_)
  by_cases k2 : g 4 n = 2
  · exact br_t (by rw [k2]; rfl) (go (Or.inl k2))
  · refine br_f (ne 2 (by omega) k2) ?_
    by_cases k4 : g 4 n = 4
    · exact br_t (by rw [k4]; rfl) (go (Or.inr k4))
    · refine br_f (ne 4 (by omega) k4) ?_
      by_cases k3 : g 4 n = 3
      · have ec : b_actC (nI n).toNatClampNeg = nI (g 6 n) := by rw [nI_clamp (by omega), hG.2.2.2.2.2 (by omega) (by omega)]
        refine br_t (by rw [k3]; rfl) (And.intro (xg_i hn) ?_)
        by_cases e : g 6 n = v
        · exact br_t (by rw [ec, e]) (h1 (Or.inr ⟨k3, e⟩))
        · refine br_f (by rw [ec]; exact fun h => e (bs_inj h (by omega) (by omega))) (h0 (fun h => ?_))
          rcases h with h | h
          · omega
          · exact e h.2
      · refine br_f (ne 3 (by omega) k3) (h0 (fun h => ?_))
        rcases h with h | h
        · omega
        · omega
theorem yv_rp (W : gg_W g) (G : (yg_G g b_actKind b_actV b_actC b_endKind b_endV b_endX b_endY)) {n v : Nat} (hn : n < 16) (hv : v < 4) {post : Int32 → Prop} (h1 : gg_rp g n v → post 1) (h0 : ¬ gg_rp g n v → post 0) : (wpY_replaces post (g_fresh, g_many, g_tells, g_last, g_runs, g_stopped, b_actKind, b_actV, b_actC, b_endKind, b_endV, b_endX, b_endY, b_number, b_before, b_behind, b_reached, b_todo, b_words, b_coming, b_values, b_told, b_variables) (nI n) (nI v)) := by
  have hw := W n
  have hG := G n hn
  have ek : b_actKind (nI n).toNatClampNeg = nI (g 4 n) := by rw [nI_clamp (by omega), hG.2.2.2.1]
  have ne : ∀ k, k ≤ 5 → g 4 n ≠ k → ¬ nI (g 4 n) = nI k := fun k hk h1 h2 => h1 (bs_inj h2 (by omega) (by omega))
  have go : g 4 n = 1 ∨ g 4 n = 3 ∨ g 4 n = 5 → (wY_replaces_22 post (nI n) (nI v) g_fresh g_many g_tells g_last g_runs g_stopped b_actKind b_actV b_actC b_endKind b_endV b_endX b_endY b_number b_before b_behind b_reached b_todo b_words b_coming b_values b_told b_variables) := by
    intro hk
    have ev : b_actV (nI n).toNatClampNeg = nI (g 5 n) := by rw [nI_clamp (by omega), hG.2.2.2.2.1 (by omega)]
    refine And.intro (xg_i hn) ?_
    by_cases e : g 5 n = v
    · exact br_t (by rw [ev, e]) (h1 ⟨hk, e⟩)
    · exact br_f (by rw [ev]; exact fun h => e (bs_inj h (by omega) (by omega))) (h0 (fun h => e h.2))
  refine And.intro (xg_i hn) (nm_r ek ?_)
  by_cases k1 : g 4 n = 1
  · exact br_t (by rw [k1]; rfl) (go (Or.inl k1))
  · refine br_f (ne 1 (by omega) k1) ?_
    by_cases k3 : g 4 n = 3
    · exact br_t (by rw [k3]; rfl) (go (Or.inr (Or.inl k3)))
    · refine br_f (ne 3 (by omega) k3) ?_
      by_cases k5 : g 4 n = 5
      · exact br_t (by rw [k5]; rfl) (go (Or.inr (Or.inr k5)))
      · exact br_f (ne 5 (by omega) k5) (h0 (fun h => by have := h.1; omega))
def yv_E (g : Nat → Nat → Nat) (v x y : Nat) : Prop := ¬ gg_rp g x v ∧ gg_E g x y
def yv_I (g : Nat → Nat → Nat) (v a : Nat) (re : Nat → Int32) (tl : List Nat) (td : Nat → Int32) : Prop :=
  (∀ i, i < 16 → re i = 0 ∨ (re i = 1 ∧ gr_c (yv_E g v) (fun _ => True) a i)) ∧ re a = 1 ∧ (∀ i, i ∈ tl → i < 16 ∧ re i = 1) ∧ ao_R tl td ∧ tl.length + yr_u re ≤ 16
theorem yv_115 (W : gg_W g) (G : (yg_G g b_actKind b_actV b_actC b_endKind b_endV b_endX b_endY)) {v a n : Nat} (hn : n < 16) {x2 : Int32} {post : Int32 → SY → Prop} {J : Int32 → (Nat → Int32) → (Nat → Int32) → (Nat → Int32) → (Nat → Int32) → (Nat → Int32) → (Nat → Int32) → (Nat → Int32) → (Nat → Int32) → (Nat → Int32) → (Nat → Int32) → (Nat → Int32) → (Nat → Int32) → (Nat → Int32) → (Nat → Int32) → (Nat → Int32) → (Nat → Int32) → (Nat → Int32) → Prop} (hP : gr_c (yv_E g v) (fun _ => True) a n) (hrp : ¬ gg_rp g n v) {tl0 : List Nat} (h0 : yv_I g v a b_reached tl0 b_todo)
    (C : ∀ (tl : List Nat) (re td : Nat → Int32), yv_I g v a re tl td → (∀ i, i < 16 → b_reached i = 1 → re i = 1) → (∀ i, i < 16 → re i = 1 → b_reached i = 1 ∨ i ∈ tl) → (∀ s, gg_E g n s → re s = 1) → (∀ i, i ∈ tl0 → i ∈ tl) → tl.length + 2 * yr_u re ≤ tl0.length + 2 * yr_u b_reached →
      (J (nI tl.length) b_actKind b_actV b_actC b_endKind b_endV b_endX b_endY b_number b_before b_behind re td b_words b_coming b_values b_told b_variables)) :
    ∃ f : Nat, (wY_isLive_115 post J x2 (nI n) (nI (ys_a g n)) g_fresh g_many g_tells g_last g_runs g_stopped f (nI tl0.length) 0 b_actKind b_actV b_actC b_endKind b_endV b_endX b_endY b_number b_before b_behind b_reached b_todo b_words b_coming b_values b_told b_variables) := by
  have ha2 := ys_a2 g n
  refine loop_0 (σ := List Nat × (Nat → Int32) × (Nat → Int32)) (fun f k t => (wY_isLive_115 post J x2 (nI n) (nI (ys_a g n)) g_fresh g_many g_tells g_last g_runs g_stopped f (nI t.1.length) (nI k) b_actKind b_actV b_actC b_endKind b_endV b_endX b_endY b_number b_before b_behind t.2.1 t.2.2 b_words b_coming b_values b_told b_variables))
    (fun k t => yv_I g v a t.2.1 t.1 t.2.2 ∧ (∀ i, i < 16 → b_reached i = 1 → t.2.1 i = 1) ∧ (∀ i, i < 16 → t.2.1 i = 1 → b_reached i = 1 ∨ i ∈ t.1) ∧ (∀ j, j < k → t.2.1 (ys_s g n j) = 1) ∧ (∀ i, i ∈ tl0 → i ∈ t.1) ∧ t.1.length + 2 * yr_u t.2.1 ≤ tl0.length + 2 * yr_u b_reached)
    (ys_a g n) (tl0, b_reached, b_todo) ⟨h0, fun i _ h => h, fun i _ h => Or.inl h, fun j hj => by omega, fun i h => h, Nat.le_refl _⟩ ?_ ?_
  · intro f t ht
    obtain ⟨t1, t2, t3, t4, t5, t6⟩ := ht
    refine br_t (nI_le (Nat.le_refl _) (by omega)) (C t.1 t.2.1 t.2.2 t1 t2 t3 ?_ t5 t6)
    intro s hE
    obtain ⟨k, hk, e⟩ := (ys_E W).mp hE
    rw [← e]
    exact t4 k hk
  · intro f k t hk ht ih
    obtain ⟨t1, t2, t3, t4, t5, t6⟩ := ht
    obtain ⟨r1, r2, r3, r4, r5⟩ := t1
    have hs16 := ys_s16 W n k
    refine br_f (nI_ge hk (by omega)) (yg_su W G hn hk (And.intro (xg_i hs16) ?_))
    have nx : ∀ (re : Nat → Int32), (∀ j, j < k → re (ys_s g n j) = 1) → re (ys_s g n k) = 1 → ∀ j, j < k + 1 → re (ys_s g n j) = 1 := by
      intro re h1 h2 j hj
      by_cases e : j = k
      · subst e; exact h2
      · exact h1 j (by omega)
    have er : t.2.1 (nI (ys_s g n k)).toNatClampNeg = t.2.1 (ys_s g n k) := by rw [nI_clamp (by omega)]
    rcases r1 _ hs16 with h | ⟨h, _⟩
    · have hne : ys_s g n k ≠ a := by
        intro e
        rw [e, r2] at h
        exact absurd h (by decide)
      have hum := yr_m hs16 h
      refine br_t (by rw [er]; exact h) (And.intro (xg_i hs16) (nm_r (e' := upd t.2.1 (ys_s g n k) 1) (by rw [bs_z1, xg_u (by omega)]) (nm_r (nI_1 _) (And.intro (vp_in_nI (by omega) (by omega)) (nm_r (e' := upd t.2.2 t.1.length (nI (ys_s g n k))) (by rw [xg_u (by omega)]) (nm_r (nI_1 k) (ih (ys_s g n k :: t.1, upd t.2.1 (ys_s g n k) 1, upd t.2.2 t.1.length (nI (ys_s g n k))) ⟨⟨?_, ?_, ?_, ?_, ?_⟩, ?_, ?_, ?_, ?_, ?_⟩)))))))
      · intro i hi
        show upd t.2.1 (ys_s g n k) 1 i = 0 ∨ (upd t.2.1 (ys_s g n k) 1 i = 1 ∧ gr_c (yv_E g v) (fun _ => True) a i)
        by_cases e : i = ys_s g n k
        · refine Or.inr ⟨by rw [e]; exact pk_us, ?_⟩
          rw [e]
          exact gr_st hP ⟨hrp, (ys_E W).mpr ⟨k, hk, rfl⟩⟩ trivial
        · rw [pk_un e]
          exact r1 i hi
      · exact (pk_un (Ne.symm hne)).trans r2
      · intro i hi
        show _ ∧ upd t.2.1 (ys_s g n k) 1 i = 1
        rcases List.mem_cons.mp hi with e | e
        · rw [e]; exact ⟨hs16, pk_us⟩
        · have := r3 i e
          by_cases e2 : i = ys_s g n k
          · rw [e2]; exact ⟨hs16, pk_us⟩
          · exact ⟨this.1, (pk_un e2).trans this.2⟩
      · exact ⟨pk_us, ao_k t.1 r4 (fun i hi => pk_un (by omega))⟩
      · show (ys_s g n k :: t.1).length + yr_u (upd t.2.1 (ys_s g n k) 1) ≤ 16
        rw [List.length_cons]; omega
      · intro i hi hb
        show upd t.2.1 (ys_s g n k) 1 i = 1
        by_cases e : i = ys_s g n k
        · rw [e]; exact pk_us
        · rw [pk_un e]; exact t2 i hi hb
      · intro i hi hb
        have hb : upd t.2.1 (ys_s g n k) 1 i = 1 := hb
        by_cases e : i = ys_s g n k
        · rw [e]; exact Or.inr List.mem_cons_self
        · rw [pk_un e] at hb
          rcases t3 i hi hb with h2 | h2
          · exact Or.inl h2
          · exact Or.inr (List.mem_cons_of_mem _ h2)
      · refine nx (upd t.2.1 (ys_s g n k) 1) (fun j hj => ?_) pk_us
        by_cases e : ys_s g n j = ys_s g n k
        · rw [e]; exact pk_us
        · rw [pk_un e]; exact t4 j hj
      · intro i hi
        exact List.mem_cons_of_mem _ (t5 i hi)
      · show (ys_s g n k :: t.1).length + 2 * yr_u (upd t.2.1 (ys_s g n k) 1) ≤ _
        rw [List.length_cons]; omega
    · refine br_f (by rw [er, h]; decide) (nm_r (nI_1 k) (ih t ⟨⟨r1, r2, r3, r4, r5⟩, t2, t3, nx t.2.1 t4 h, t5, t6⟩))
theorem yv_40 (W : gg_W g) (G : (yg_G g b_actKind b_actV b_actC b_endKind b_endV b_endX b_endY)) {v a : Nat} (hv : v < 4) (ha : a < 16) {post : Int32 → SY → Prop} (C1 : gg_V g v a → ∀ re td : Nat → Int32, post 1 (g_fresh, g_many, g_tells, g_last, g_runs, g_stopped, b_actKind, b_actV, b_actC, b_endKind, b_endV, b_endX, b_endY, b_number, b_before, b_behind, re, td, b_words, b_coming, b_values, b_told, b_variables)) (C0 : ¬ gg_V g v a → ∀ re td : Nat → Int32, post 0 (g_fresh, g_many, g_tells, g_last, g_runs, g_stopped, b_actKind, b_actV, b_actC, b_endKind, b_endV, b_endX, b_endY, b_number, b_before, b_behind, re, td, b_words, b_coming, b_values, b_told, b_variables)) :
    ∀ (f : Nat) (tl : List Nat) (re td : Nat → Int32), tl.length + 2 * yr_u re < f → yv_I g v a re tl td → (∀ i, i < 16 → re i = 1 → i ∈ tl ∨ (¬ gg_lk g i v ∧ (gg_rp g i v ∨ (¬ gg_ts g i v ∧ ∀ s, gg_E g i s → re s = 1)))) → (wY_isLive_40 post (nI v) g_fresh g_many g_tells g_last g_runs g_stopped f (nI tl.length) b_actKind b_actV b_actC b_endKind b_endV b_endX b_endY b_number b_before b_behind re td b_words b_coming b_values b_told b_variables) := by
  intro f
  induction f with
  | zero => intro tl re td h; omega
  | succ f ih =>
    intro tl re td hf hI hc
    obtain ⟨r1, r2, r3, r4, r5⟩ := hI
    cases tl with
    | nil =>
      refine br_t (by decide) (C0 (fun hV => ?_) re td)
      obtain ⟨m, h1, h2⟩ := hV
      have hm : m < 16 ∧ re m = 1 := by
        refine gr_in (Q := fun i => i < 16 ∧ re i = 1) h1 ⟨ha, r2⟩ ?_
        intro x y _ hx e _
        rcases hc x hx.1 hx.2 with h3 | ⟨_, h3⟩
        · cases h3
        · rcases h3 with h3 | h3
          · exact absurd h3 e.1
          · exact ⟨gg_E16 W e.2, h3.2 y e.2⟩
      rcases hc m hm.1 hm.2 with h3 | ⟨h3, h4⟩
      · cases h3
      · rcases h2 with h2 | h2
        · exact h3 h2
        · rcases h4 with h4 | h4
          · exact h2.1 h4
          · exact h4.1 h2.2
    | cons n tl =>
      rw [List.length_cons] at hf r5
      have hn := r3 n List.mem_cons_self
      have hPn : gr_c (yv_E g v) (fun _ => True) a n := by
        rcases r1 n hn.1 with h | h
        · rw [h] at hn; exact absurd hn.2 (by decide)
        · exact h.2
      have hw := W n
      have hG := G n hn.1
      have e0 : b_endKind (nI n).toNatClampNeg = nI (g 0 n) := by rw [nI_clamp (by omega), hG.1]
      have hPn' : gr_c (fun x y => ¬ gg_rp g x v ∧ gg_E g x y) (fun _ => True) a n := hPn
      have keep : (¬ gg_lk g n v ∧ (gg_rp g n v ∨ (¬ gg_ts g n v ∧ ∀ s, gg_E g n s → re s = 1))) → ∀ i, i < 16 → re i = 1 → i ∈ tl ∨ (¬ gg_lk g i v ∧ (gg_rp g i v ∨ (¬ gg_ts g i v ∧ ∀ s, gg_E g i s → re s = 1))) := by
        intro h3 i hi hre
        rcases hc i hi hre with h | h
        · rcases List.mem_cons.mp h with h | h
          · rw [h]; exact Or.inr h3
          · exact Or.inl h
        · exact Or.inr h
      refine br_f (nI_nle (by rw [List.length_cons]; omega) (by rw [List.length_cons]; omega)) (nm_r (e' := nI tl.length) (pk_m1 _) (And.intro (vp_in_nI (by omega) (by omega)) (nm_r (e' := nI n) (by rw [nI_clamp (by omega)]; exact r4.1) (yv_lk W G hn.1 hv ?_ ?_))))
      · intro hl
        exact br_f (by decide) (C1 ⟨n, hPn', Or.inl hl⟩ re td)
      · intro hl
        refine br_t rfl (yv_rp W G hn.1 hv ?_ ?_)
        · intro hrp
          exact br_f (by decide) (ih tl re td (by omega) ⟨r1, r2, fun i hi => r3 i (List.mem_cons_of_mem _ hi), r4.2, by omega⟩ (keep ⟨hl, Or.inl hrp⟩))
        · intro hrp
          have go : ¬ gg_ts g n v → (wY_isLive_104 post (wY_isLive_40 post (nI v) g_fresh g_many g_tells g_last g_runs g_stopped f) (nI v) (nI tl.length) (nI n) g_fresh g_many g_tells g_last g_runs g_stopped b_actKind b_actV b_actC b_endKind b_endV b_endX b_endY b_number b_before b_behind re td b_words b_coming b_values b_told b_variables) := by
            intro hts
            refine yg_af W G hn.1 (yv_115 (b_reached := re) (b_todo := td) W G hn.1 hPn hrp ⟨r1, r2, fun i hi => r3 i (List.mem_cons_of_mem _ hi), r4.2, by omega⟩ ?_)
            intro tl' re' td' hI' q2 q3 q4 q5 q6
            refine ih tl' re' td' (by omega) hI' ?_
            intro i hi hre
            rcases q3 i hi hre with h | h
            · by_cases e : i = n
              · subst e; exact Or.inr ⟨hl, Or.inr ⟨hts, q4⟩⟩
              · rcases hc i hi h with h2 | h2
                · rcases List.mem_cons.mp h2 with h3 | h3
                  · exact absurd h3 e
                  · exact Or.inl (q5 i h3)
                · refine Or.inr ⟨h2.1, ?_⟩
                  rcases h2.2 with h4 | h4
                  · exact Or.inl h4
                  · exact Or.inr ⟨h4.1, fun s hE => q2 s (gg_E16 W hE) (h4.2 s hE)⟩
            · exact Or.inl h
          refine br_t rfl (And.intro (xg_i hn.1) ?_)
          by_cases k2 : g 0 n = 2
          · have e1 : b_endV (nI n).toNatClampNeg = nI (g 1 n) := by rw [nI_clamp (by omega), (hG.2.2.1 k2).1]
            refine br_t (by rw [e0, k2]; rfl) (And.intro (xg_i hn.1) ?_)
            by_cases ev : g 1 n = v
            · exact br_t (by rw [e1, ev]) (C1 ⟨n, hPn', Or.inr ⟨hrp, k2, ev⟩⟩ re td)
            · exact br_f (by rw [e1]; exact fun h => ev (bs_inj h (by omega) (by omega))) (go (fun h => ev h.2))
          · exact br_f (by rw [e0]; exact fun e => k2 (bs_inj (b := 2) e (by omega) (by omega))) (go (fun h => k2 h.1))
theorem yv_v (W : gg_W g) (G : (yg_G g b_actKind b_actV b_actC b_endKind b_endV b_endX b_endY)) {v a : Nat} (hv : v < 4) (ha : a < 16) {post : Int32 → SY → Prop} (C1 : gg_V g v a → ∀ re td : Nat → Int32, post 1 (g_fresh, g_many, g_tells, g_last, g_runs, g_stopped, b_actKind, b_actV, b_actC, b_endKind, b_endV, b_endX, b_endY, b_number, b_before, b_behind, re, td, b_words, b_coming, b_values, b_told, b_variables)) (C0 : ¬ gg_V g v a → ∀ re td : Nat → Int32, post 0 (g_fresh, g_many, g_tells, g_last, g_runs, g_stopped, b_actKind, b_actV, b_actC, b_endKind, b_endV, b_endX, b_endY, b_number, b_before, b_behind, re, td, b_words, b_coming, b_values, b_told, b_variables)) : (wpY_isLive post (g_fresh, g_many, g_tells, g_last, g_runs, g_stopped, b_actKind, b_actV, b_actC, b_endKind, b_endV, b_endX, b_endY, b_number, b_before, b_behind, b_reached, b_todo, b_words, b_coming, b_values, b_told, b_variables) (nI a) (nI v)) := by
  refine loop_0 (σ := Nat → Int32) (fun n i s => (wY_isLive_2 post (nI a) (nI v) g_fresh g_many g_tells g_last g_runs g_stopped n (nI i) b_actKind b_actV b_actC b_endKind b_endV b_endX b_endY b_number b_before b_behind s b_todo b_words b_coming b_values b_told b_variables)) (fun i s => ∀ j, j < i → s j = 0) 16 b_reached (fun j hj => by omega) ?_ ?_
  · intro n re hre
    refine br_t (by decide) (nm_r (e' := nI 1) (by decide) (nm_r (e' := upd b_todo 0 (nI a)) rfl (And.intro (xg_i ha) (nm_r (e' := upd re a 1) (by rw [bs_z1, xg_u (by omega)]) ⟨40, ?_⟩))))
    have hu := yr_m ha (hre a ha)
    have hle' : yr_u re ≤ 16 := ct_le (fun i => decide (re i = 0)) 16
    refine yv_40 W G hv ha C1 C0 40 [a] _ _ ?_ ⟨?_, pk_us, ?_, ⟨pk_us, trivial⟩, ?_⟩ ?_
    · show 1 + 2 * yr_u (upd re a 1) < 40
      omega
    · intro i hi
      by_cases e2 : i = a
      · subst e2; exact Or.inr ⟨pk_us, gr_rf⟩
      · rw [pk_un e2]; exact Or.inl (hre i hi)
    · intro i hi
      rw [List.mem_singleton] at hi
      subst hi
      exact ⟨ha, pk_us⟩
    · show 1 + yr_u (upd re a 1) ≤ 16
      omega
    · intro i hi h
      by_cases e2 : i = a
      · subst e2; exact Or.inl (List.mem_singleton.mpr rfl)
      · rw [pk_un e2, hre i hi] at h
        exact absurd h (by decide)
  · intro n i s hi hI ih
    refine br_f (nI_ge (b := 16) hi (by omega)) (And.intro (xg_i hi) (nm_r (e' := upd s i 0) (by rw [bs_z0, xg_u (by omega)]) (nm_r (nI_1 i) (ih _ ?_))))
    intro j hj
    by_cases ej : j = i
    · subst ej; exact pk_us
    · exact (pk_un ej).trans (hI j (by omega))
theorem yv_l (W : gg_W g) (G : (yg_G g b_actKind b_actV b_actC b_endKind b_endV b_endX b_endY)) {a : Nat} (ha : a < 16) {post : Int32 → SY → Prop} (C : ∀ (r : Int32) (re td : Nat → Int32), (∀ v, bt r v = true ↔ gg_V g v a) → post r (g_fresh, g_many, g_tells, g_last, g_runs, g_stopped, b_actKind, b_actV, b_actC, b_endKind, b_endV, b_endX, b_endY, b_number, b_before, b_behind, re, td, b_words, b_coming, b_values, b_told, b_variables)) : ∃ f : Nat, (wY_live_18 post (nI a) f 0 0 g_fresh g_many g_tells g_last g_runs g_stopped b_actKind b_actV b_actC b_endKind b_endV b_endX b_endY b_number b_before b_behind b_reached b_todo b_words b_coming b_values b_told b_variables) := by
  refine loop_0 (σ := Int32 × (Nat → Int32) × (Nat → Int32)) (fun f i t => (wY_live_18 post (nI a) f t.1 (nI i) g_fresh g_many g_tells g_last g_runs g_stopped b_actKind b_actV b_actC b_endKind b_endV b_endX b_endY b_number b_before b_behind t.2.1 t.2.2 b_words b_coming b_values b_told b_variables)) (fun k t => ∀ v, bt t.1 v = true ↔ v < k ∧ gg_V g v a) 4 (0, b_reached, b_todo) ?_ ?_ ?_
  · intro v
    show bt 0 v = true ↔ _
    rw [b_0]
    constructor
    · intro h; cases h
    · intro h; omega
  · intro f t ht
    refine br_t (by decide) (C t.1 t.2.1 t.2.2 (fun v => ?_))
    rw [ht v]
    exact ⟨fun h => h.2, fun h => ⟨gg_V4 W h, h⟩⟩
  · intro f i t hi ht ih
    refine br_f (nI_ge (b := 4) hi (by omega)) (yv_v (b_reached := t.2.1) (b_todo := t.2.2) W G hi ha ?_ ?_)
    · intro hV re td
      refine br_f (by decide) (nm_e (nm_r (nI_1 i) (ih (_, re, td) (fun v => ?_))))
      show bt (t.1 ||| (1 : Int32) <<< (nI i &&& 31)) v = true ↔ _
      rw [ye_or (by omega), ht v]
      constructor
      · intro h
        rcases h with h | h
        · exact ⟨by omega, h.2⟩
        · subst h; exact ⟨by omega, hV⟩
      · intro h
        by_cases e : v = i
        · exact Or.inr e
        · exact Or.inl ⟨by omega, h.2⟩
    · intro hV re td
      refine br_t rfl (nm_r (nI_1 i) (ih (t.1, re, td) (fun v => ?_)))
      show bt t.1 v = true ↔ _
      rw [ht v]
      constructor
      · intro h; exact ⟨by omega, h.2⟩
      · intro h
        refine ⟨?_, h.2⟩
        by_cases e : v = i
        · subst e; exact absurd h.2 hV
        · omega
end YH
end
section
section YI
variable {g_fresh g_many g_tells g_last g_runs g_stopped : Int32} {b_actKind b_actV b_actC b_endKind b_endV b_endX b_endY b_number b_before b_behind b_reached b_todo b_words b_coming b_values b_told b_variables : Nat → Int32} {g : Nat → Nat → Nat}
/-! Y: known -/
theorem yw_m (W : gg_W g) (G : (yg_G g b_actKind b_actV b_actC b_endKind b_endV b_endX b_endY)) {s : Nat → Nat → Nat} {n v : Nat} (hn : n < 16) (hv : v < 4) (A : vl_A s b_values) (h6 : ∀ v, v < 4 → s n v ≤ 16) {post : Int32 → Prop} (h : post (nI (vl_m g n v (s n)))) : (wpY_made post (g_fresh, g_many, g_tells, g_last, g_runs, g_stopped, b_actKind, b_actV, b_actC, b_endKind, b_endV, b_endX, b_endY, b_number, b_before, b_behind, b_reached, b_todo, b_words, b_coming, b_values, b_told, b_variables) (nI n) (nI v)) := by
  have hw := W n
  have hG := G n hn
  have ek : b_actKind (nI n).toNatClampNeg = nI (g 4 n) := by rw [nI_clamp (by omega), hG.2.2.2.1]
  have eo : b_values (4 * nI n + nI v).toNatClampNeg = nI (s n v) := by rw [vl_ix, nI_clamp (by omega), A n v hn hv, vl_in (h6 v hv)]
  have hsv := h6 v hv
  unfold vl_m at h
  refine And.intro (by rw [vl_ix]; exact vp_in_nI (by omega) (by omega)) (nm_r eo (And.intro (xg_i hn) ?_))
  by_cases k0 : g 4 n = 0
  · rw [if_pos (Or.inl k0)] at h
    exact br_t (by rw [ek, k0]; rfl) h
  · refine br_f (by rw [ek]; exact nI_ne0 (by omega) (by omega)) (And.intro (xg_i hn) ?_)
    by_cases k4 : g 4 n = 4
    · rw [if_pos (Or.inr (Or.inl k4))] at h
      exact br_t (by rw [ek, k4]; rfl) h
    · refine br_f (by rw [ek]; exact fun e => k4 (bs_inj (b := 4) e (by omega) (by omega))) (And.intro (xg_i hn) ?_)
      have ev : b_actV (nI n).toNatClampNeg = nI (g 5 n) := by rw [nI_clamp (by omega), hG.2.2.2.2.1 (by omega)]
      by_cases e5 : g 5 n = v
      · rw [if_neg (by omega)] at h
        refine br_t (by rw [ev, e5]) (And.intro (xg_i hn) ?_)
        by_cases k1 : g 4 n = 1
        · rw [if_pos k1] at h
          refine br_t (by rw [ek, k1]; rfl) (And.intro (xg_i hn) ?_)
          rw [nI_clamp (by omega), hG.2.2.2.2.2 (by omega) (by omega)]
          exact h
        · rw [if_neg k1] at h
          refine br_f (by rw [ek]; exact fun e => k1 (bs_inj (b := 1) e (by omega) (by omega))) (And.intro (xg_i hn) ?_)
          by_cases k2 : g 4 n = 2
          · rw [if_pos k2] at h
            refine br_t (by rw [ek, k2]; rfl) ?_
            by_cases ks : s n v = 16
            · rw [if_pos ks] at h
              exact br_t (by rw [ks]; rfl) h
            · rw [if_neg ks] at h
              refine br_f (fun e => ks (bs_inj (b := 16) e (by omega) (by omega))) (And.intro (xg_i hn) ?_)
              rw [nI_clamp (by omega), hG.2.2.2.2.2 (by omega) (by omega), nI_add, pk_andN (by omega) 4 (by decide)]
              exact h
          · rw [if_neg k2] at h
            refine br_f (by rw [ek]; exact fun e => k2 (bs_inj (b := 2) e (by omega) (by omega))) (And.intro (xg_i hn) ?_)
            by_cases k3 : g 4 n = 3
            · rw [if_pos k3] at h
              have h64 := hw.2.2.2.2.2.2.2 k3
              have ec : b_actC (nI n).toNatClampNeg = nI (g 6 n) := by rw [nI_clamp (by omega), hG.2.2.2.2.2 (by omega) (by omega)]
              refine br_t (by rw [ek, k3]; rfl) (And.intro (xg_i hn) (And.intro (by rw [ec, vl_ix]; exact vp_in_nI (by omega) (by omega)) ?_))
              rw [ec, vl_ix, nI_clamp (by omega), A n _ hn h64, vl_in (h6 _ h64)]
              exact h
            · rw [if_neg k3] at h
              exact br_f (by rw [ek]; exact fun e => k3 (bs_inj (b := 3) e (by omega) (by omega))) h
      · rw [if_pos (Or.inr (Or.inr e5))] at h
        exact br_f (by rw [ev]; exact fun e => e5 (bs_inj e (by omega) (by omega))) h
theorem yw_c {s : Nat → Nat → Nat} {m v x : Nat} (hm : m < 16) (hv : v < 4) (A : vl_A s b_values) (h7 : s m v ≤ 17) (hx : x ≤ 16) {post : Int32 → SY → Prop}
    (C : ∀ (r : Int32) (va : Nat → Int32), vl_A (vl_p s m v (vl_j (s m v) x)) va → ((r = 0 ∧ vl_j (s m v) x = s m v) ∨ (r = 1 ∧ vl_j (s m v) x ≠ s m v)) → post r (g_fresh, g_many, g_tells, g_last, g_runs, g_stopped, b_actKind, b_actV, b_actC, b_endKind, b_endV, b_endX, b_endY, b_number, b_before, b_behind, b_reached, b_todo, b_words, b_coming, va, b_told, b_variables)) : (wpY_comes post (g_fresh, g_many, g_tells, g_last, g_runs, g_stopped, b_actKind, b_actV, b_actC, b_endKind, b_endV, b_endX, b_endY, b_number, b_before, b_behind, b_reached, b_todo, b_words, b_coming, b_values, b_told, b_variables) (nI m) (nI v) (nI x)) := by
  have eo : b_values (4 * nI m + nI v).toNatClampNeg = vl_i (s m v) := by rw [vl_ix, nI_clamp (by omega)]; exact A m v hm hv
  have i64 : vp_in (4 * nI m + nI v) 64 := by rw [vl_ix]; exact vp_in_nI (by omega) (by omega)
  have hj := vl_j16 h7 hx
  have fin : ∀ z : Int32, z = vl_i (vl_j (s m v) x) → (wY_comes_34 post (nI m) (nI v) (vl_i (s m v)) z g_fresh g_many g_tells g_last g_runs g_stopped b_actKind b_actV b_actC b_endKind b_endV b_endX b_endY b_number b_before b_behind b_reached b_todo b_words b_coming b_values b_told b_variables) := by
    intro z hz
    refine And.intro i64 (nm_r (e' := upd b_values (4 * m + v) (vl_i (vl_j (s m v) x))) (by rw [hz, vl_ix, xg_u (by omega)]) ?_)
    by_cases e : vl_j (s m v) x = s m v
    · exact br_t (by rw [hz, e]) (C 0 _ (vl_Au A hm hv) (Or.inl ⟨rfl, e⟩))
    · exact br_f (by rw [hz]; exact fun h => e ((vl_ij (by omega) h7).mp h)) (C 1 _ (vl_Au A hm hv) (Or.inr ⟨rfl, e⟩))
  refine And.intro i64 (nm_r eo ?_)
  unfold vl_j at fin
  by_cases h17 : s m v = 17
  · rw [if_pos h17] at fin
    exact br_f (fun h => absurd ((vl_il h7).mpr h17) (Int32.not_lt.mpr h)) (fin _ (vl_in hx).symm)
  · rw [if_neg h17] at fin
    refine br_t (Int32.not_lt.mp (fun h => h17 ((vl_il h7).mp h))) ?_
    by_cases e : s m v = x
    · rw [if_pos e] at fin
      exact br_t (by rw [vl_in (by omega), e]) (fin _ rfl)
    · rw [if_neg e] at fin
      exact br_f (by rw [vl_in (by omega)]; exact fun h => e (bs_inj h (by omega) (by omega))) (fin _ rfl)
theorem yw_o {a b : Int32} {p q : Prop} (h1 : (a = 0 ∧ ¬ p) ∨ (a = 1 ∧ p)) (h2 : (b = 0 ∧ ¬ q) ∨ (b = 1 ∧ q)) : (a ||| b = 0 ∧ ¬ (p ∨ q)) ∨ (a ||| b = 1 ∧ (p ∨ q)) := by
  rcases h1 with ⟨e1, h1⟩ | ⟨e1, h1⟩ <;> rcases h2 with ⟨e2, h2⟩ | ⟨e2, h2⟩ <;> rw [e1, e2]
  · exact Or.inl ⟨by decide, fun h => by rcases h with h | h; exact h1 h; exact h2 h⟩
  · exact Or.inr ⟨by decide, Or.inr h2⟩
  · exact Or.inr ⟨by decide, Or.inl h1⟩
  · exact Or.inr ⟨by decide, Or.inl h1⟩
theorem yw_83 (W : gg_W g) (G : (yg_G g b_actKind b_actV b_actC b_endKind b_endV b_endX b_endY)) {s : Nat → Nat → Nat} {n k : Nat} (hn : n < 16) (hk : k < ys_a g n) (U : vl_U s) (A : vl_A s b_values) (h0 : s n 0 ≠ 17) {mo x3 x4 : Int32} {P : Prop} (hmo : (mo = 0 ∧ ¬ P) ∨ (mo = 1 ∧ P)) {post : Int32 → SY → Prop} {J : Int32 → Int32 → Int32 → Int32 → Int32 → Int32 → Int32 → Int32 → (Nat → Int32) → (Nat → Int32) → (Nat → Int32) → (Nat → Int32) → (Nat → Int32) → (Nat → Int32) → (Nat → Int32) → (Nat → Int32) → (Nat → Int32) → (Nat → Int32) → (Nat → Int32) → (Nat → Int32) → (Nat → Int32) → (Nat → Int32) → (Nat → Int32) → (Nat → Int32) → (Nat → Int32) → Prop}
    (C : ∀ (mo' : Int32) (va : Nat → Int32), vl_A (vl_g s (ys_s g n k) (fun v => vl_m g n v (s n))) va → ((mo' = 0 ∧ ¬ (P ∨ ∃ v, v < 4 ∧ vl_g s (ys_s g n k) (fun v => vl_m g n v (s n)) (ys_s g n k) v ≠ s (ys_s g n k) v)) ∨ (mo' = 1 ∧ (P ∨ ∃ v, v < 4 ∧ vl_g s (ys_s g n k) (fun v => vl_m g n v (s n)) (ys_s g n k) v ≠ s (ys_s g n k) v))) →
      (J mo' (nI (k + 1)) g_fresh g_many g_tells g_last g_runs g_stopped b_actKind b_actV b_actC b_endKind b_endV b_endX b_endY b_number b_before b_behind b_reached b_todo b_words b_coming va b_told b_variables)) : (wY_give_83 post J (nI n) mo x3 x4 (nI k) g_fresh g_many g_tells g_last g_runs g_stopped b_actKind b_actV b_actC b_endKind b_endV b_endX b_endY b_number b_before b_behind b_reached b_todo b_words b_coming b_values b_told b_variables) := by
  have h6 := vl_U6 U hn h0
  have hs16 := ys_s16 W n k
  have hp6 : ∀ v, v < 4 → vl_m g n v (s n) ≤ 16 := fun v hv => vl_m16 W hv h6
  unfold wY_give_83
  refine yg_su W G hn hk (yw_m W G (v := 0) hn (by omega) A h6 (yw_m W G (v := 1) hn (by omega) A h6 (yw_m W G (v := 2) hn (by omega) A h6 (yw_m W G (v := 3) hn (by omega) A h6 ?_))))
  generalize hm : ys_s g n k = m at *
  have h7 : ∀ v, v < 4 → s m v ≤ 17 := fun v hv => vl_U7 U hs16 hv
  have ev : ∀ v, v < 4 → vl_g s m (fun v => vl_m g n v (s n)) m v = vl_j (s m v) (vl_m g n v (s n)) := fun v _ => vl_gs
  refine yw_c (v := 0) hs16 (by omega) A (h7 0 (by omega)) (hp6 0 (by omega)) ?_
  intro r0 va0 A0 c0
  refine nm_e ?_
  have e1 : vl_p s m 0 (vl_j (s m 0) (vl_m g n 0 (s n))) m 1 = s m 1 := vl_pn (by omega)
  refine yw_c (v := 1) hs16 (by omega) A0 (by rw [e1]; exact h7 1 (by omega)) (hp6 1 (by omega)) ?_
  intro r1 va1 A1 c1
  rw [e1] at A1 c1
  refine nm_e ?_
  have e2 : vl_p (vl_p s m 0 (vl_j (s m 0) (vl_m g n 0 (s n)))) m 1 (vl_j (s m 1) (vl_m g n 1 (s n))) m 2 = s m 2 := (vl_pn (by omega)).trans (vl_pn (by omega))
  refine yw_c (v := 2) hs16 (by omega) A1 (by rw [e2]; exact h7 2 (by omega)) (hp6 2 (by omega)) ?_
  intro r2 va2 A2 c2
  rw [e2] at A2 c2
  refine nm_e ?_
  have e3 : vl_p (vl_p (vl_p s m 0 (vl_j (s m 0) (vl_m g n 0 (s n)))) m 1 (vl_j (s m 1) (vl_m g n 1 (s n)))) m 2 (vl_j (s m 2) (vl_m g n 2 (s n))) m 3 = s m 3 := ((vl_pn (by omega)).trans (vl_pn (by omega))).trans (vl_pn (by omega))
  refine yw_c (v := 3) hs16 (by omega) A2 (by rw [e3]; exact h7 3 (by omega)) (hp6 3 (by omega)) ?_
  intro r3 va3 A3 c3
  rw [e3] at A3 c3
  refine nm_e (nm_r (nI_1 k) (C _ va3 ?_ ?_))
  · intro n' v hn' hv
    rw [A3 n' v hn' hv]
    by_cases e : n' = m
    · subst e
      rw [vl_gs]
      rcases (show v = 0 ∨ v = 1 ∨ v = 2 ∨ v = 3 by omega) with h | h | h | h <;> subst h
      · rw [vl_pn (by omega), vl_pn (by omega), vl_pn (by omega), vl_ps]
      · rw [vl_pn (by omega), vl_pn (by omega), vl_ps]
      · rw [vl_pn (by omega), vl_ps]
      · rw [vl_ps]
    · rw [vl_gn e, vl_pn (by omega), vl_pn (by omega), vl_pn (by omega), vl_pn (by omega)]
  · have flip : ∀ {r : Int32} {v : Nat}, ((r = 0 ∧ vl_j (s m v) (vl_m g n v (s n)) = s m v) ∨ (r = 1 ∧ vl_j (s m v) (vl_m g n v (s n)) ≠ s m v)) → ((r = 0 ∧ ¬ (vl_j (s m v) (vl_m g n v (s n)) ≠ s m v)) ∨ (r = 1 ∧ vl_j (s m v) (vl_m g n v (s n)) ≠ s m v)) := by
      intro r v h
      rcases h with h | h
      · exact Or.inl ⟨h.1, fun h2 => h2 h.2⟩
      · exact Or.inr h
    have hall := yw_o (yw_o (yw_o (yw_o hmo (flip c0)) (flip c1)) (flip c2)) (flip c3)
    have hiff : ((((P ∨ vl_j (s m 0) (vl_m g n 0 (s n)) ≠ s m 0) ∨ vl_j (s m 1) (vl_m g n 1 (s n)) ≠ s m 1) ∨ vl_j (s m 2) (vl_m g n 2 (s n)) ≠ s m 2) ∨ vl_j (s m 3) (vl_m g n 3 (s n)) ≠ s m 3) ↔ (P ∨ ∃ v, v < 4 ∧ vl_g s m (fun v => vl_m g n v (s n)) m v ≠ s m v) := by
      constructor
      · intro h
        rcases h with (((h | h) | h) | h) | h
        · exact Or.inl h
        · exact Or.inr ⟨0, by omega, by rw [vl_gs]; exact h⟩
        · exact Or.inr ⟨1, by omega, by rw [vl_gs]; exact h⟩
        · exact Or.inr ⟨2, by omega, by rw [vl_gs]; exact h⟩
        · exact Or.inr ⟨3, by omega, by rw [vl_gs]; exact h⟩
      · intro h
        rcases h with h | ⟨v, hv, h⟩
        · exact Or.inl (Or.inl (Or.inl (Or.inl h)))
        · rw [vl_gs] at h
          rcases (show v = 0 ∨ v = 1 ∨ v = 2 ∨ v = 3 by omega) with e | e | e | e <;> subst e
          · exact Or.inl (Or.inl (Or.inl (Or.inr h)))
          · exact Or.inl (Or.inl (Or.inr h))
          · exact Or.inl (Or.inr h)
          · exact Or.inr h
    rw [hiff] at hall
    exact hall
/-- what a pass over a node keeps -/
def yw_R (g : Nat → Nat → Nat) (s : Nat → Nat → Nat) (mo : Int32) (s' : Nat → Nat → Nat) (va : Nat → Int32) : Prop :=
  vl_U s' ∧ vl_B g s' ∧ vl_A s' va ∧ (∀ m v, m < 16 → v < 4 → vl_le (s m v) (s' m v)) ∧ ((mo = 0 ∧ ∀ m v, m < 16 → v < 4 → s' m v = s m v) ∨ (mo = 1 ∧ vl_H s' + 1 ≤ vl_H s))
theorem yw_39 (W : gg_W g) (G : (yg_G g b_actKind b_actV b_actC b_endKind b_endV b_endX b_endY)) {s : Nat → Nat → Nat} {n t : Nat} (hn : n < 16) (h0 : s n 0 ≠ 17) (U0 : vl_U s) (B0 : vl_B g s) (A0 : vl_A s b_values) (ht : g 0 n = 2 → t = vl_m g n (g 1 n) (s n)) (ht2 : g 0 n ≠ 2 → t = 16) {post : Int32 → SY → Prop}
    (C : ∀ (mo : Int32) (va : Nat → Int32) (s' : Nat → Nat → Nat), yw_R g s mo s' va → (mo = 0 → vl_S g s n) → post mo (g_fresh, g_many, g_tells, g_last, g_runs, g_stopped, b_actKind, b_actV, b_actC, b_endKind, b_endV, b_endX, b_endY, b_number, b_before, b_behind, b_reached, b_todo, b_words, b_coming, va, b_told, b_variables)) : ∃ f : Nat, (wY_give_39 post (nI n) (nI t) (nI (ys_a g n)) f 0 0 g_fresh g_many g_tells g_last g_runs g_stopped b_actKind b_actV b_actC b_endKind b_endV b_endX b_endY b_number b_before b_behind b_reached b_todo b_words b_coming b_values b_told b_variables) := by
  have hw := W n
  have ha2 := ys_a2 g n
  have h6 := vl_U6 U0 hn h0
  have ht16 : t ≤ 16 := by
    by_cases e : g 0 n = 2
    · rw [ht e]; exact vl_m16 W hw.2.1 h6
    · rw [ht2 e]; omega
  -- which ways are gone
  have hal : ∀ k, k < ys_a g n → (vl_t g n (ys_s g n k) t ↔ ¬ (ys_a g n = 2 ∧ t ≠ 16 ∧ ¬ (t = 0 ↔ k = 0))) := by
    intro k hk
    have hE : gg_E g n (ys_s g n k) := (ys_E W).mpr ⟨k, hk, rfl⟩
    unfold vl_t
    constructor
    · intro h ⟨h1, h2, h3⟩
      have k2 : g 0 n = 2 ∧ g 2 n ≠ g 3 n := by
        unfold ys_a at h1
        by_cases e0 : g 0 n = 0
        · rw [if_pos e0] at h1; omega
        · rw [if_neg e0] at h1
          by_cases e1 : g 0 n = 1 ∨ g 2 n = g 3 n
          · rw [if_pos e1] at h1; omega
          · exact ⟨by have : ¬ g 0 n = 1 := fun h => e1 (Or.inl h); omega, fun h => e1 (Or.inr h)⟩
      rcases h.2 k2.1 with h4 | h4 | h4
      · exact h2 h4
      · apply h3
        unfold ys_s at h4
        by_cases e : k = 0
        · exact ⟨fun _ => e, fun _ => h4.1⟩
        · rw [if_neg e] at h4
          exact absurd h4.2.symm k2.2
      · apply h3
        unfold ys_s at h4
        by_cases e : k = 0
        · rw [if_pos e] at h4
          exact absurd h4.2 k2.2
        · exact ⟨fun h5 => absurd h5 h4.1, fun h5 => absurd h5 e⟩
    · intro h
      refine ⟨hE, fun k2 => ?_⟩
      by_cases e16 : t = 16
      · exact Or.inl e16
      · by_cases ex : g 2 n = g 3 n
        · have hs : ys_s g n k = g 2 n := by
            unfold ys_s
            split
            · rfl
            · exact ex.symm
          by_cases e0 : t = 0
          · exact Or.inr (Or.inl ⟨e0, hs⟩)
          · exact Or.inr (Or.inr ⟨e0, hs.trans ex⟩)
        · have ha : ys_a g n = 2 := by
            unfold ys_a
            rw [if_neg (by omega), if_neg (by omega)]
          have h3 : (t = 0 ↔ k = 0) := Classical.byContradiction (fun h4 => h ⟨ha, e16, h4⟩)
          by_cases e0 : t = 0
          · refine Or.inr (Or.inl ⟨e0, ?_⟩)
            unfold ys_s
            rw [if_pos (h3.mp e0)]
          · refine Or.inr (Or.inr ⟨e0, ?_⟩)
            unfold ys_s
            rw [if_neg (fun h4 => e0 (h3.mpr h4))]
  refine loop_0 (σ := Int32 × (Nat → Int32)) (fun f k t' => (wY_give_39 post (nI n) (nI t) (nI (ys_a g n)) f t'.1 (nI k) g_fresh g_many g_tells g_last g_runs g_stopped b_actKind b_actV b_actC b_endKind b_endV b_endX b_endY b_number b_before b_behind b_reached b_todo b_words b_coming t'.2 b_told b_variables))
    (fun k t' => ∃ s', yw_R g s t'.1 s' t'.2 ∧ (t'.1 = 0 → ∀ j, j < k → vl_t g n (ys_s g n j) t → ∀ v, v < 4 → vl_le (vl_m g n v (s n)) (s (ys_s g n j) v))) (ys_a g n) (0, b_values) ⟨s, ⟨U0, B0, A0, fun m v _ _ => vl_rf _, Or.inl ⟨rfl, fun m v _ _ => rfl⟩⟩, fun _ j hj => by omega⟩ ?_ ?_
  · intro f t' hI
    obtain ⟨s', hR, hI2⟩ := hI
    have hnar : narrow .boolean (.int t'.1) = .int t'.1 := by
      rcases hR.2.2.2.2 with h | h
      · rw [h.1]; exact yk_n0
      · rw [h.1]; exact yk_n1
    refine br_t (nI_le (Nat.le_refl _) (by omega)) (And.intro hnar (C t'.1 t'.2 s' hR (fun e _ m ha v hv => ?_)))
    obtain ⟨k, hk, ek⟩ := (ys_E W).mp ha.1
    have ha' : vl_t g n (ys_s g n k) t := by
      rw [ek]
      unfold vl_a at ha
      by_cases k2 : g 0 n = 2
      · rw [ht k2]; exact ha
      · exact ⟨ha.1, fun h => absurd h k2⟩
    have := hI2 e k hk ha' v hv
    rw [ek] at this
    exact this
  · intro f k t' hk hI ih
    obtain ⟨s', hR, hI2⟩ := hI
    obtain ⟨U, B, A, hle, hmo⟩ := hR
    have h0' : s' n 0 ≠ 17 := vl_e0 (hle n 0 hn (by omega)) h0
    have hs16 := ys_s16 W n k
    have skip : ¬ vl_t g n (ys_s g n k) t → (wY_give_39 post (nI n) (nI t) (nI (ys_a g n)) f t'.1 (nI (k + 1)) g_fresh g_many g_tells g_last g_runs g_stopped b_actKind b_actV b_actC b_endKind b_endV b_endX b_endY b_number b_before b_behind b_reached b_todo b_words b_coming t'.2 b_told b_variables) := by
      intro hno
      refine ih t' ⟨s', ⟨U, B, A, hle, hmo⟩, fun e j hj ha => ?_⟩
      by_cases ej : j = k
      · subst ej; exact absurd ha hno
      · exact hI2 e j (by omega) ha
    have go : vl_t g n (ys_s g n k) t → (wY_give_83 post (wY_give_39 post (nI n) (nI t) (nI (ys_a g n)) f) (nI n) t'.1 (nI t) (nI (ys_a g n)) (nI k) g_fresh g_many g_tells g_last g_runs g_stopped b_actKind b_actV b_actC b_endKind b_endV b_endX b_endY b_number b_before b_behind b_reached b_todo b_words b_coming t'.2 b_told b_variables) := by
      intro ha
      have h6' := vl_U6 U hn h0'
      have hp6 : ∀ v, v < 4 → vl_m g n v (s' n) ≤ 16 := fun v hv => vl_m16 W hv h6'
      have hmono : ∀ v, v < 4 → vl_le (vl_m g n v (s n)) (vl_m g n v (s' n)) := fun v hv => vl_mm W hv h6 (fun v hv => hle n v hn hv)
      have htl : vl_le t (vl_m g n (g 1 n) (s' n)) ∨ g 0 n ≠ 2 := by
        by_cases k2 : g 0 n = 2
        · refine Or.inl ?_
          rw [ht k2]; exact hmono _ hw.2.1
        · exact Or.inr k2
      have hpS : ∀ s2, vl_C g s2 → ∀ v, v < 4 → vl_le (vl_m g n v (s' n)) (s2 (ys_s g n k) v) := by
        rcases htl with h | h
        · exact vl_pS W U B hn h0' h ht16 ha
        · exact vl_pS W U B hn h0' (vl_rf _) (hp6 _ hw.2.1) ⟨ha.1, fun h2 => absurd h2 h⟩
      refine yw_83 (b_values := t'.2) (P := t'.1 = 1) W G hn hk U A h0' (by
        rcases hmo with h | h
        · exact Or.inl ⟨h.1, by rw [h.1]; decide⟩
        · exact Or.inr ⟨h.1, h.1⟩) ?_
      intro mo' va A' hmo'
      have hle' : ∀ m v, m < 16 → v < 4 → vl_le (s' m v) (vl_g s' (ys_s g n k) (fun v => vl_m g n v (s' n)) m v) := fun m v _ _ => vl_gl
      have U' := vl_gU U (m := ys_s g n k) hp6
      refine ih (mo', va) ⟨vl_g s' (ys_s g n k) (fun v => vl_m g n v (s' n)), ⟨U', vl_gB B hp6 hpS, A', fun m v hm hv => vl_tr (hle m v hm hv) (hle' m v hm hv), ?_⟩, ?_⟩
      · rcases hmo' with ⟨e, h⟩ | ⟨e, h⟩
        · refine Or.inl ⟨e, fun m v hm hv => ?_⟩
          rcases hmo with ⟨e2, h2⟩ | ⟨e2, h2⟩
          · by_cases em : m = ys_s g n k
            · rw [em, ← h2 _ v hs16 hv]
              exact Classical.byContradiction (fun h3 => h (Or.inr ⟨v, hv, h3⟩))
            · rw [vl_gn em]; exact h2 m v hm hv
          · exact absurd (Or.inl e2) h
        · refine Or.inr ⟨e, ?_⟩
          have hl := vl_Hl hle'
          rcases hmo with ⟨e2, h2⟩ | ⟨e2, h2⟩
          · rcases h with h | ⟨v, hv, h⟩
            · rw [e2] at h; exact absurd h (by decide)
            · have h3 := vl_Hs hle' hs16 hv (vl_U7 U' hs16 hv) h
              have h4 := vl_Hl hle
              omega
          · omega
      · intro e j hj ha2' v hv
        have e : mo' = 0 := e
        have hst : (∀ m v, m < 16 → v < 4 → s' m v = s m v) ∧ t'.1 = 0 ∧ ¬ ∃ v, v < 4 ∧ vl_g s' (ys_s g n k) (fun v => vl_m g n v (s' n)) (ys_s g n k) v ≠ s' (ys_s g n k) v := by
          rcases hmo' with ⟨_, h⟩ | ⟨e2, h⟩
          · rcases hmo with ⟨e2, h2⟩ | ⟨e2, h2⟩
            · exact ⟨h2, e2, fun h3 => h (Or.inr h3)⟩
            · exact absurd (Or.inl e2) h
          · rw [e] at e2; exact absurd e2 (by decide)
        by_cases ej : j = k
        · subst ej
          have h3 : vl_g s' (ys_s g n j) (fun v => vl_m g n v (s' n)) (ys_s g n j) v = s' (ys_s g n j) v := Classical.byContradiction (fun h4 => hst.2.2 ⟨v, hv, h4⟩)
          rw [vl_gs] at h3
          rw [← hst.1 _ v hs16 hv, ← h3]
          exact vl_tr (hmono v hv) (vl_j2 _ _)
        · exact hI2 hst.2.1 j (by omega) ha2' v hv
    refine br_f (nI_ge hk (by omega)) ?_
    by_cases ea : ys_a g n = 2
    · refine br_t (by rw [ea]; rfl) ?_
      by_cases e16 : t = 16
      · exact br_t (by rw [e16]; rfl) (go ((hal k hk).mpr (fun h => h.2.1 e16)))
      · refine br_f (fun h => e16 (bs_inj (b := 16) h (by omega) (by omega))) ?_
        by_cases e0 : t = 0
        · refine br_t (by rw [e0]; rfl) ?_
          by_cases k0 : k = 0
          · exact br_t (by rw [k0]; rfl) (br_t rfl (go ((hal k hk).mpr (fun h => h.2.2 ⟨fun _ => k0, fun _ => e0⟩))))
          · exact br_f (fun h => k0 (bs_inj (b := 0) h (by omega) (by omega))) (br_f (by decide) (nm_r (nI_1 k) (skip (fun h => (hal k hk).mp h ⟨ea, e16, fun h2 => k0 (h2.mp e0)⟩))))
        · refine br_f (fun h => e0 (bs_inj (b := 0) h (by omega) (by omega))) ?_
          by_cases k0 : k = 0
          · exact br_t (by rw [k0]; rfl) (br_f (by decide) (nm_r (nI_1 k) (skip (fun h => (hal k hk).mp h ⟨ea, e16, fun h2 => e0 (h2.mpr k0)⟩))))
          · exact br_f (fun h => k0 (bs_inj (b := 0) h (by omega) (by omega))) (br_t rfl (go ((hal k hk).mpr (fun h => h.2.2 ⟨fun h2 => absurd h2 e0, fun h2 => absurd h2 k0⟩))))
    · exact br_f (fun h => ea (bs_inj (b := 2) h (by omega) (by omega))) (go ((hal k hk).mpr (fun h => ea h.1)))
theorem yw_g (W : gg_W g) (G : (yg_G g b_actKind b_actV b_actC b_endKind b_endV b_endX b_endY)) {s : Nat → Nat → Nat} {n : Nat} (hn : n < 16) (h0 : s n 0 ≠ 17) (U0 : vl_U s) (B0 : vl_B g s) (A0 : vl_A s b_values) {post : Int32 → SY → Prop}
    (C : ∀ (mo : Int32) (va : Nat → Int32) (s' : Nat → Nat → Nat), yw_R g s mo s' va → (mo = 0 → vl_S g s n) → post mo (g_fresh, g_many, g_tells, g_last, g_runs, g_stopped, b_actKind, b_actV, b_actC, b_endKind, b_endV, b_endX, b_endY, b_number, b_before, b_behind, b_reached, b_todo, b_words, b_coming, va, b_told, b_variables)) : (wpY_give post (g_fresh, g_many, g_tells, g_last, g_runs, g_stopped, b_actKind, b_actV, b_actC, b_endKind, b_endV, b_endX, b_endY, b_number, b_before, b_behind, b_reached, b_todo, b_words, b_coming, b_values, b_told, b_variables) (nI n)) := by
  have hw := W n
  have hG := G n hn
  have h6 := vl_U6 U0 hn h0
  have e0 : b_endKind (nI n).toNatClampNeg = nI (g 0 n) := by rw [nI_clamp (by omega), hG.1]
  refine And.intro (xg_i hn) ?_
  by_cases k2 : g 0 n = 2
  · refine br_t (by rw [e0, k2]; rfl) (And.intro (xg_i hn) ?_)
    rw [nI_clamp (by omega), (hG.2.2.1 k2).1]
    refine yw_m W G hn hw.2.1 A0 h6 ?_
    unfold wY_give_28
    exact yg_af W G hn (yw_39 W G hn h0 U0 B0 A0 (fun _ => rfl) (fun h => absurd k2 h) C)
  · refine br_f (by rw [e0]; exact fun e => k2 (bs_inj (b := 2) e (by omega) (by omega))) ?_
    unfold wY_give_28
    exact yg_af W G hn (yw_39 (t := 16) W G hn h0 U0 B0 A0 (fun h => absurd h k2) (fun _ => rfl) C)
theorem yw_62 (W : gg_W g) (G : (yg_G g b_actKind b_actV b_actC b_endKind b_endV b_endX b_endY)) {s : Nat → Nat → Nat} (U0 : vl_U s) (B0 : vl_B g s) (A0 : vl_A s b_values) {x1 x2 : Int32} {post : Int32 → SY → Prop} {J : Int32 → Int32 → Int32 → Int32 → Int32 → Int32 → Int32 → (Nat → Int32) → (Nat → Int32) → (Nat → Int32) → (Nat → Int32) → (Nat → Int32) → (Nat → Int32) → (Nat → Int32) → (Nat → Int32) → (Nat → Int32) → (Nat → Int32) → (Nat → Int32) → (Nat → Int32) → (Nat → Int32) → (Nat → Int32) → (Nat → Int32) → (Nat → Int32) → (Nat → Int32) → Prop}
    (C1 : ∀ (va : Nat → Int32) (s' : Nat → Nat → Nat), vl_U s' → vl_B g s' → vl_A s' va → (∀ m v, m < 16 → v < 4 → vl_le (s m v) (s' m v)) → vl_H s' + 1 ≤ vl_H s → (J 1 g_fresh g_many g_tells g_last g_runs g_stopped b_actKind b_actV b_actC b_endKind b_endV b_endX b_endY b_number b_before b_behind b_reached b_todo b_words b_coming va b_told b_variables))
    (C0 : ∀ (va : Nat → Int32) (s' : Nat → Nat → Nat), vl_U s' → vl_B g s' → vl_A s' va → (∀ m v, m < 16 → v < 4 → vl_le (s m v) (s' m v)) → (∀ n, n < 16 → vl_S g s' n) → (J 0 g_fresh g_many g_tells g_last g_runs g_stopped b_actKind b_actV b_actC b_endKind b_endV b_endX b_endY b_number b_before b_behind b_reached b_todo b_words b_coming va b_told b_variables)) :
    ∃ f : Nat, (wY_known_62 post J x1 x2 f 0 0 g_fresh g_many g_tells g_last g_runs g_stopped b_actKind b_actV b_actC b_endKind b_endV b_endX b_endY b_number b_before b_behind b_reached b_todo b_words b_coming b_values b_told b_variables) := by
  refine loop_0 (σ := Int32 × (Nat → Int32)) (fun f i t => (wY_known_62 post J x1 x2 f t.1 (nI i) g_fresh g_many g_tells g_last g_runs g_stopped b_actKind b_actV b_actC b_endKind b_endV b_endX b_endY b_number b_before b_behind b_reached b_todo b_words b_coming t.2 b_told b_variables))
    (fun i t => ∃ s', yw_R g s t.1 s' t.2 ∧ (t.1 = 0 → ∀ n, n < i → vl_S g s' n)) 16 (0, b_values) ⟨s, ⟨U0, B0, A0, fun m v _ _ => vl_rf _, Or.inl ⟨rfl, fun m v _ _ => rfl⟩⟩, fun _ n hn => by omega⟩ ?_ ?_
  · intro f t hI
    obtain ⟨s', ⟨U, B, A, hle, hmo⟩, h2⟩ := hI
    refine br_t (by decide) ?_
    rcases hmo with ⟨e, h⟩ | ⟨e, h⟩
    · rw [e]; exact C0 t.2 s' U B A hle (h2 e)
    · rw [e]; exact C1 t.2 s' U B A hle h
  · intro f i t hi hI ih
    obtain ⟨s', ⟨U, B, A, hle, hmo⟩, h2⟩ := hI
    have e4 : (4 * nI i : Int32) = nI (4 * i) := by rw [show (4 : Int32) * nI i = nI 4 * nI i from rfl, pk_mul]
    have ev : t.2 (4 * nI i).toNatClampNeg = vl_i (s' i 0) := by rw [e4, nI_clamp (by omega)]; exact A i 0 hi (by omega)
    have h7 := vl_U7 U hi (v := 0) (by omega)
    refine br_f (nI_ge (b := 16) hi (by omega)) (And.intro (by rw [e4]; exact vp_in_nI (by omega) (by omega)) ?_)
    by_cases h17 : s' i 0 = 17
    · refine br_t (by rw [ev]; exact (vl_il h7).mpr h17) (nm_r (nI_1 i) (ih t ⟨s', ⟨U, B, A, hle, hmo⟩, fun e n hn => ?_⟩))
      by_cases en : n = i
      · subst en; exact fun h => absurd h17 h
      · exact h2 e n (by omega)
    · refine br_f (by rw [ev]; exact fun h => h17 ((vl_il h7).mp h)) (yw_g (b_values := t.2) W G hi h17 U B A ?_)
      intro mo va s2 hR hS
      obtain ⟨U2, B2, A2, hle2, hmo2⟩ := hR
      have hleT : ∀ m v, m < 16 → v < 4 → vl_le (s m v) (s2 m v) := fun m v hm hv => vl_tr (hle m v hm hv) (hle2 m v hm hv)
      refine nm_e (nm_r (nI_1 i) (ih (_, va) ⟨s2, ⟨U2, B2, A2, hleT, ?_⟩, ?_⟩))
      · show (t.1 ||| mo = 0 ∧ _) ∨ (t.1 ||| mo = 1 ∧ _)
        rcases hmo with ⟨e, h⟩ | ⟨e, h⟩ <;> rcases hmo2 with ⟨e2, h3⟩ | ⟨e2, h3⟩
        · exact Or.inl ⟨by rw [e, e2]; decide, fun m v hm hv => (h3 m v hm hv).trans (h m v hm hv)⟩
        · exact Or.inr ⟨by rw [e, e2]; decide, by have := vl_Hl hle; omega⟩
        · exact Or.inr ⟨by rw [e, e2]; decide, by have := vl_Hl hle2; omega⟩
        · exact Or.inr ⟨by rw [e, e2]; decide, by have := vl_Hl hle2; omega⟩
      · intro e n hn
        have e : t.1 ||| mo = 0 := e
        have hz : t.1 = 0 ∧ mo = 0 := by
          rcases hmo with ⟨e3, _⟩ | ⟨e3, _⟩ <;> rcases hmo2 with ⟨e4, _⟩ | ⟨e4, _⟩
          · exact ⟨e3, e4⟩
          · rw [e3, e4] at e; exact absurd e (by decide)
          · rw [e3, e4] at e; exact absurd e (by decide)
          · rw [e3, e4] at e; exact absurd e (by decide)
        have hsame : ∀ m v, m < 16 → v < 4 → s2 m v = s' m v := by
          rcases hmo2 with ⟨_, h3⟩ | ⟨e4, _⟩
          · exact h3
          · rw [hz.2] at e4; exact absurd e4 (by decide)
        have hn16 : n < 16 := by omega
        refine vl_Sk W ?_ (fun v hv => hsame n v hn16 hv) hle2
        by_cases en : n = i
        · subst en; exact hS hz.2
        · exact h2 hz.1 n (by omega)
theorem yw_53 (W : gg_W g) (G : (yg_G g b_actKind b_actV b_actC b_endKind b_endV b_endX b_endY)) {x v : Nat} (hx : x < 16) (hv : v < 4) {post : Int32 → SY → Prop} (C : ∀ (s : Nat → Nat → Nat) (va : Nat → Int32), vl_F g s → post (vl_i (s x v)) (g_fresh, g_many, g_tells, g_last, g_runs, g_stopped, b_actKind, b_actV, b_actC, b_endKind, b_endV, b_endX, b_endY, b_number, b_before, b_behind, b_reached, b_todo, b_words, b_coming, va, b_told, b_variables)) :
    ∀ (f : Nat) (s : Nat → Nat → Nat) (va : Nat → Int32), vl_H s + 1 < f → vl_U s → vl_B g s → vl_A s va → (∀ v, v < 4 → vl_le 0 (s 0 v)) → (wY_known_53 post (nI x) (nI v) f 1 g_fresh g_many g_tells g_last g_runs g_stopped b_actKind b_actV b_actC b_endKind b_endV b_endX b_endY b_number b_before b_behind b_reached b_todo b_words b_coming va b_told b_variables) := by
  intro f
  induction f with
  | zero => intro s va h; omega
  | succ f ih =>
    intro s va hf U B A h00
    refine br_f (by decide) (yw_62 (b_values := va) W G U B A ?_ ?_)
    · intro va' s' U' B' A' hle hH
      exact ih s' va' (by omega) U' B' A' (fun v hv => vl_tr (h00 v hv) (hle 0 v (by omega) hv))
    · intro va' s' U' B' A' hle hS
      obtain ⟨f', rfl⟩ : ∃ f', f = f' + 1 := ⟨f - 1, by omega⟩
      refine br_t rfl (And.intro (by rw [vl_ix]; exact vp_in_nI (by omega) (by omega)) ?_)
      rw [vl_ix, nI_clamp (by omega), A' x v hx hv]
      exact C s' va' ⟨⟨U', fun v hv => vl_tr (h00 v hv) (hle 0 v (by omega) hv), hS⟩, B'⟩
theorem yw_k (W : gg_W g) (G : (yg_G g b_actKind b_actV b_actC b_endKind b_endV b_endX b_endY)) {x v : Nat} (hx : x < 16) (hv : v < 4) {post : Int32 → SY → Prop} (C : ∀ (s : Nat → Nat → Nat) (va : Nat → Int32), vl_F g s → post (vl_i (s x v)) (g_fresh, g_many, g_tells, g_last, g_runs, g_stopped, b_actKind, b_actV, b_actC, b_endKind, b_endV, b_endX, b_endY, b_number, b_before, b_behind, b_reached, b_todo, b_words, b_coming, va, b_told, b_variables)) : ∃ f : Nat, (wY_known_23 post (nI x) (nI v) g_fresh g_many g_tells g_last g_runs g_stopped f 0 b_actKind b_actV b_actC b_endKind b_endV b_endX b_endY b_number b_before b_behind b_reached b_todo b_words b_coming b_values b_told b_variables) := by
  refine loop_0 (σ := Nat → Int32) (fun f i t => (wY_known_23 post (nI x) (nI v) g_fresh g_many g_tells g_last g_runs g_stopped f (nI i) b_actKind b_actV b_actC b_endKind b_endV b_endX b_endY b_number b_before b_behind b_reached b_todo b_words b_coming t b_told b_variables)) (fun i t => ∀ j, j < i → t j = if j < 4 then 0 else -1) 64 b_values (fun j hj => by omega) ?_ ?_
  · intro f t ht
    refine br_t (by decide) ⟨200, yw_53 W G hx hv C 200 xv_0 t ?_ ?_ ?_ ?_ ?_⟩
    · have := vl_H7 (s := xv_0)
      omega
    · intro n hn
      by_cases e : n = 0
      · refine Or.inr (fun v hv => ?_)
        unfold xv_0; rw [if_pos e]; omega
      · refine Or.inl (fun v hv => ?_)
        unfold xv_0; rw [if_neg e]
    · intro s' hC n hn v hv
      unfold xv_0
      split
      · rename_i e; rw [e]; exact hC.2.1 v hv
      · exact Or.inl rfl
    · intro n v hn hv
      unfold xv_0
      rw [ht _ (by omega)]
      by_cases e : n = 0
      · rw [if_pos e, if_pos (by omega)]; rfl
      · rw [if_neg e, if_neg (by omega)]; rfl
    · intro v hv
      exact vl_rf 0
  · intro f i t hi ht ih
    have nx : ∀ z : Int32, z = (if i < 4 then 0 else -1) → ∀ j, j < i + 1 → upd t i z j = if j < 4 then 0 else -1 := by
      intro z hz j hj
      by_cases e : j = i
      · subst e; rw [pk_us]; exact hz
      · rw [pk_un e]; exact ht j (by omega)
    have i64 : vp_in (nI i) 64 := vp_in_nI hi (by omega)
    refine br_f (nI_ge (b := 64) hi (by omega)) ?_
    by_cases h4 : i < 4
    · exact br_f (nI_ge (b := 4) h4 (by omega)) (And.intro i64 (nm_r (e' := upd t i 0) (by rw [xg_u (by omega)]) (nm_r (nI_1 i) (ih _ (nx 0 (if_pos h4).symm)))))
    · exact br_t (nI_le (a := 4) (by omega) (by omega)) (And.intro i64 (nm_r (e' := upd t i (-1)) (by rw [xg_u (by omega)]) (nm_r (nI_1 i) (ih _ (nx (-1) (if_neg h4).symm)))))
end YI
end
section
section YJ
variable {g_fresh g_many g_tells g_last g_runs g_stopped : Int32} {b_actKind b_actV b_actC b_endKind b_endV b_endX b_endY b_number b_before b_behind b_reached b_todo b_words b_coming b_values b_told b_variables : Nat → Int32} {g : Nat → Nat → Nat}
/-! Y: the code -/
theorem yx_m (W : gg_W g) (G : (yg_G g b_actKind b_actV b_actC b_endKind b_endV b_endX b_endY)) (K : yk_K g b_number b_before b_behind) {s : Nat} (hs : gg_R g s) {post : Int32 → Prop} (h1 : gg_M g s → post 1) (h0 : ¬ gg_M g s → post 0) : (wpY_isMeeting post (g_fresh, g_many, g_tells, g_last, g_runs, g_stopped, b_actKind, b_actV, b_actC, b_endKind, b_endV, b_endX, b_endY, b_number, b_before, b_behind, b_reached, b_todo, b_words, b_coming, b_values, b_told, b_variables) (nI s)) := by
  have hs16 := gg_R16 W hs
  have hlen := df_ln W
  have hnum : ∀ m, gg_R g m → gg_n g m < 16 := fun m hm => by have := (gg_nl W hm).1; omega
  have en : ∀ m, m < 16 → gg_R g m → b_number (nI m).toNatClampNeg = nI (gg_n g m) := by
    intro m hm hR
    rw [nI_clamp (by omega)]
    rcases K.1 m hm with h | h
    · exact h.2
    · exact absurd hR h.1
  refine loop_0 (σ := Int32) (fun f i t => (wY_isMeeting_4 post (nI s) g_fresh g_many g_tells g_last g_runs g_stopped b_actKind b_actV b_actC b_endKind b_endV b_endX b_endY b_number b_before b_behind b_reached b_todo b_words b_coming b_values b_told b_variables f t (nI i))) (fun j t => t = nI (ct_c (fun p => pd_b (gg_R g p ∧ gg_E g p s ∧ gg_n g p < gg_n g s)) j)) 16 0 rfl ?_ ?_
  · intro f t ht
    subst ht
    have hc := ct_le (fun p => pd_b (gg_R g p ∧ gg_E g p s ∧ gg_n g p < gg_n g s)) 16
    refine br_t (by decide) ?_
    by_cases hM : gg_M g s
    · exact br_f (nI_ge (a := 1) hM (by omega)) (h1 hM)
    · exact br_t (nI_le (b := 1) (by unfold gg_M gg_mc at hM; omega) (by omega)) (h0 hM)
  · intro f i t hi ht ih
    have hc : ct_c (fun p => pd_b (gg_R g p ∧ gg_E g p s ∧ gg_n g p < gg_n g s)) (i + 1) = ct_c (fun p => pd_b (gg_R g p ∧ gg_E g p s ∧ gg_n g p < gg_n g s)) i + (if pd_b (gg_R g i ∧ gg_E g i s ∧ gg_n g i < gg_n g s) = true then 1 else 0) := rfl
    have skip : ¬ (gg_R g i ∧ gg_E g i s ∧ gg_n g i < gg_n g s) → t = nI (ct_c (fun p => pd_b (gg_R g p ∧ gg_E g p s ∧ gg_n g p < gg_n g s)) (i + 1)) := by
      intro h
      rw [ht, hc, if_neg (by rw [pd_f h]; exact Bool.noConfusion)]; rfl
    refine br_f (nI_ge (b := 16) hi (by omega)) (yk_s W K.1 hi ?_ ?_)
    · intro hR
      refine br_f (by decide) (yg_le W G hi hs16 ?_ ?_)
      · intro hE
        have n1 := hnum i hR
        have n2 := hnum s hs
        refine br_f (by decide) (And.intro (xg_i hi) (And.intro (xg_i hs16) ?_))
        rw [en i hi hR, en s hs16 hs]
        by_cases hle : gg_n g s ≤ gg_n g i
        · exact br_t (nI_le hle (by omega)) (nm_r (nI_1 i) (ih t (skip (fun h => by omega))))
        · refine br_f (nI_ge (by omega) (by omega)) (nm_e (nm_r (nI_1 i) (ih _ ?_)))
          rw [ht, nI_1, hc, if_pos (pd_t ⟨hR, hE, by omega⟩)]
      · intro hE
        exact br_t rfl (nm_r (nI_1 i) (ih t (skip (fun h => hE h.2.1))))
    · intro hR
      exact br_t rfl (nm_r (nI_1 i) (ih t (skip (fun h => hR h.1))))
theorem yx_N (W : gg_W g) {m d : Nat} (hm : gg_R g m) : yk_BN g m d ↔ dm_I (gg_E g) 0 d m := by
  constructor
  · intro ⟨h1, h2, h3⟩
    refine ⟨h1, h2.2.2, fun e he hD => ?_⟩
    have hRe := dm_re hm hD
    by_cases e2 : e = d
    · rw [e2]; exact dm_rf
    · exact (h3 e (gg_R16 W hRe) he e2 ⟨hRe, hm, hD⟩).2.2
  · intro h
    have hRd := dm_re hm h.2.1
    exact ⟨h.1, ⟨hRd, hm, h.2.1⟩, fun e _ he _ hq => ⟨hq.1, hRd, h.2.2 e he hq.2.2⟩⟩
theorem yx_mt (W : gg_W g) (G : (yg_G g b_actKind b_actV b_actC b_endKind b_endV b_endX b_endY)) (K : yk_K g b_number b_before b_behind) {n k : Nat} (hn : gg_R g n) (hk : k < 16) {post : Int32 → Prop} (C1 : ∀ m, gg_R g m → gg_n g m = k → dm_I (gg_E g) 0 n m → gg_M g m → post (nI m)) (C0 : (∀ m, gg_R g m → gg_n g m = k → ¬ (dm_I (gg_E g) 0 n m ∧ gg_M g m)) → post (-1)) : (wpY_meeting post (g_fresh, g_many, g_tells, g_last, g_runs, g_stopped, b_actKind, b_actV, b_actC, b_endKind, b_endV, b_endX, b_endY, b_number, b_before, b_behind, b_reached, b_todo, b_words, b_coming, b_values, b_told, b_variables) (nI n) (nI k)) := by
  have hn16 := gg_R16 W hn
  have hlen := df_ln W
  refine pk_loop (σ := Unit) (fun f i _ => (wY_meeting_2 post (nI n) (nI k) g_fresh g_many g_tells g_last g_runs g_stopped b_actKind b_actV b_actC b_endKind b_endV b_endX b_endY b_number b_before b_behind b_reached b_todo b_words b_coming b_values b_told b_variables f (nI i))) (fun i _ => ∀ m, m < i → gg_R g m → gg_n g m = k → ¬ (dm_I (gg_E g) 0 n m ∧ gg_M g m)) 16 1 () (by omega) ?_ ?_ ?_
  · intro m hm hR hk2 h
    have : m = 0 := by omega
    subst this
    exact h.1.1 (dm_rt h.1.2.1)
  · intro f _ h
    exact br_t (by decide) (C0 (fun m hR => h m (gg_R16 W hR) hR))
  · intro f i _ hi h ih
    have nx : ¬ (gg_R g i ∧ gg_n g i = k ∧ dm_I (gg_E g) 0 n i ∧ gg_M g i) → ∀ m, m < i + 1 → gg_R g m → gg_n g m = k → ¬ (dm_I (gg_E g) 0 n m ∧ gg_M g m) := by
      intro h2 m hm hR hk2 h3
      by_cases e : m = i
      · subst e; exact h2 ⟨hR, hk2, h3⟩
      · exact h m (by omega) hR hk2 h3
    refine br_f (nI_ge (b := 16) hi (by omega)) (And.intro (xg_i hi) ?_)
    rw [nI_clamp (by omega)]
    rcases K.1 i hi with ⟨hR, e⟩ | ⟨hR, e⟩
    · rw [e]
      have hni : gg_n g i < 16 := by have := (gg_nl W hR).1; omega
      by_cases hk2 : gg_n g i = k
      · refine br_t (by rw [hk2]) (yx_m W G K hR ?_ ?_)
        · intro hM
          refine br_f (by decide) (yk_Bn K.2.1 hi ?_ ?_)
          · intro d hd hN
            have hI := (yx_N W hR).mp hN
            by_cases ed : d = n
            · subst ed
              exact br_t rfl (C1 i hR hk2 hI hM)
            · exact br_f (fun h => ed (bs_inj h (by omega) (by omega))) (nm_r (nI_1 i) (ih () (nx (fun h2 => ed (dm_un hR hI h2.2.2.1)))))
          · intro hno
            refine br_f (bs_ne' (by omega)) (nm_r (nI_1 i) (ih () (nx (fun h2 => hno n hn16 ((yx_N W hR).mpr h2.2.2.1)))))
        · intro hM
          exact br_t rfl (nm_r (nI_1 i) (ih () (nx (fun h2 => hM h2.2.2.2))))
      · exact br_f (fun h => hk2 (bs_inj h (by omega) (by omega))) (nm_r (nI_1 i) (ih () (nx (fun h2 => hk2 h2.2.1))))
    · rw [e]
      exact br_f (bs_ne' (by omega)) (nm_r (nI_1 i) (ih () (nx (fun h2 => hR h2.1))))
/-! what is to come, as codes (the next first), against what waits -/
def yx_c (g : Nat → Nat → Nat) (c : Nat) (it : Nat × Nat × Nat) : Prop :=
  (c < 1000 ∧ it.1 ≠ 0 ∧ c = 16 * it.1 + it.2.1) ∨ (c = 1000 + it.2.1 ∧ it.1 = 0 ∧ it.2.1 < 16) ∨ ∃ n s, c = 2000 + (16 * n + s) ∧ n < 16 ∧ s < 16 ∧ gg_R g n ∧ gg_E g n s ∧ it = cd_wy g n s
def yx_R (g : Nat → Nat → Nat) : List Nat → List (Nat × Nat × Nat) → Prop
  | [], [] => True
  | [], _ :: _ => False
  | _ :: _, [] => False
  | c :: yl, it :: st => yx_c g c it ∧ yx_R g yl st
theorem yx_Ra : ∀ (a : List Nat) (x : List (Nat × Nat × Nat)) (b : List Nat) (y : List (Nat × Nat × Nat)), yx_R g a x → yx_R g b y → yx_R g (a ++ b) (x ++ y)
  | [], [], _, _, _, h => h
  | [], _ :: _, _, _, h, _ => by cases h
  | _ :: _, [], _, _, h, _ => by cases h
  | c :: a, it :: x, b, y, h1, h2 => ⟨h1.1, yx_Ra a x b y h1.2 h2⟩
theorem yx_Rl : ∀ (a : List Nat) (x : List (Nat × Nat × Nat)), yx_R g a x → a.length = x.length
  | [], [], _ => rfl
  | [], _ :: _, h => by cases h
  | _ :: _, [], h => by cases h
  | c :: a, it :: x, h => by rw [List.length_cons, List.length_cons, yx_Rl a x h.2]
def yx_pb : List Nat → List Nat
  | [] => []
  | m :: ms => yx_pb ms ++ [80, 1000 + m]
theorem yx_pbs : ∀ (ms : List Nat) (m : Nat), yx_pb (ms ++ [m]) = 80 :: (1000 + m) :: yx_pb ms
  | [], m => rfl
  | a :: ms, m => by
    show yx_pb (ms ++ [m]) ++ [80, 1000 + a] = _
    rw [yx_pbs ms m]; rfl
theorem yx_pbl : ∀ ms : List Nat, (yx_pb ms).length = 2 * ms.length
  | [] => rfl
  | m :: ms => by
    show (yx_pb ms ++ [80, 1000 + m]).length = _
    rw [List.length_append, yx_pbl ms, List.length_cons, List.length_cons, List.length_cons, List.length_nil]
    omega
theorem yx_pbR : ∀ ms : List Nat, (∀ m, m ∈ ms → m < 16) → yx_R g (yx_pb ms) (cd_pb ms)
  | [], _ => trivial
  | m :: ms, h => yx_Ra _ _ _ _ (yx_pbR ms (fun m' hm' => h m' (List.mem_cons_of_mem _ hm'))) ⟨Or.inl ⟨by omega, by show (5 : Nat) ≠ 0; omega, rfl⟩, Or.inr (Or.inl ⟨rfl, rfl, h m List.mem_cons_self⟩), trivial⟩
def yx_e (g : Nat → Nat → Nat) (n : Nat) : List Nat := if g 0 n = 0 then [128] else if g 0 n = 1 ∨ g 2 n = g 3 n then [2000 + (16 * n + g 2 n)] else [48 + g 1 n, 2000 + (16 * n + g 2 n), 64, 2000 + (16 * n + g 3 n), 80]
theorem yx_57 (W : gg_W g) (G : (yg_G g b_actKind b_actV b_actC b_endKind b_endV b_endX b_endY)) (K : yk_K g b_number b_before b_behind) {n : Nat} (hR : gg_R g n) {yl1 ws1 : List Nat} {post : Int32 → SY → Prop} (hroom : yl1.length + 2 * (cd_ms g n).length + 5 ≤ 590) (hroom2 : ws1.length + (cd_ms g n).length + 1 ≤ 590)
    (C : ∀ wo co : Nat → Int32, xc_C (ws1 ++ ((cd_ms g n).map (fun m => 32 + m) ++ [n])) wo → ao_R (yx_e g n ++ (yx_pb (cd_ms g n) ++ yl1)) co → post (nI (yx_e g n ++ (yx_pb (cd_ms g n) ++ yl1)).length) (g_fresh, nI (ws1 ++ ((cd_ms g n).map (fun m => 32 + m) ++ [n])).length, g_tells, g_last, g_runs, g_stopped, b_actKind, b_actV, b_actC, b_endKind, b_endV, b_endX, b_endY, b_number, b_before, b_behind, b_reached, b_todo, wo, co, b_values, b_told, b_variables)) :
    ∀ (f K2 : Nat) (pre : List Nat) (wo co : Nat → Int32), K2 < f → K2 ≤ 16 → pre ++ cd_m g n (if K2 ≤ (df_o g).length then K2 else (df_o g).length) = cd_ms g n → xc_C (ws1 ++ pre.map (fun m => 32 + m)) wo → ao_R (yx_pb pre ++ yl1) co →
      (wY_code_57 post (nI n) g_fresh g_tells g_last g_runs g_stopped f (nI (yx_pb pre ++ yl1).length) (nI K2 - 1) (nI (ws1 ++ pre.map (fun m => 32 + m)).length) b_actKind b_actV b_actC b_endKind b_endV b_endX b_endY b_number b_before b_behind b_reached b_todo wo co b_values b_told b_variables) := by
  have hn16 := gg_R16 W hR
  have hw := W n
  have hG := G n hn16
  have hlen := df_ln W
  have put : ∀ {l : List Nat} {co : Nat → Int32} (c : Nat), ao_R l co → ao_R (c :: l) (upd co l.length (nI c)) := fun {l co} c h => ⟨pk_us, ao_k l h (fun i hi => pk_un (by omega))⟩
  have em : ∀ {ws : List Nat} {wo : Nat → Int32} (w : Nat), xc_C ws wo → xc_C (ws ++ [w]) (upd wo ws.length (nI w)) := by
    intro ws wo w h j hj
    rw [List.length_append, List.length_singleton] at hj
    by_cases e : j = ws.length
    · subst e; rw [pk_us, gw_0]; rfl
    · rw [pk_un e, gw_l _ _ _ (by omega)]; exact h j (by omega)
  intro f
  induction f with
  | zero => intro K2 pre wo co h; omega
  | succ f ih =>
    intro K2 pre wo co hf hK hpre hwo hco
    have hprel : pre.length ≤ (cd_ms g n).length := by rw [← hpre, List.length_append]; omega
    have hlw : (ws1 ++ pre.map (fun m => 32 + m)).length = ws1.length + pre.length := by rw [List.length_append, List.length_map]
    have hls : (yx_pb pre ++ yl1).length = 2 * pre.length + yl1.length := by rw [List.length_append, yx_pbl]
    cases K2 with
    | zero =>
      rw [if_pos (Nat.zero_le _)] at hpre
      rw [show cd_m g n 0 = [] from rfl, List.append_nil] at hpre
      subst hpre
      have hl1 : nI ((ws1 ++ (cd_ms g n).map (fun m => 32 + m)).length + 1) = nI (ws1 ++ ((cd_ms g n).map (fun m => 32 + m) ++ [n])).length := by rw [← List.append_assoc, List.length_append (bs := [n])]; rfl
      have hwo1 := em n hwo
      rw [List.append_assoc] at hwo1
      have ew : upd wo (nI (ws1 ++ (cd_ms g n).map (fun m => 32 + m)).length).toNatClampNeg (0 + nI n) = upd wo (ws1 ++ (cd_ms g n).map (fun m => 32 + m)).length (nI n) := by rw [xg_u (by omega), Int32.zero_add]
      refine br_t (by decide) (nm_r (nI_1 _) (And.intro (vp_in_nI (by omega) (by omega)) (nm_r ew (yg_af W G hn16 ?_))))
      rw [hl1]
      have e2000 : ∀ s : Nat, (2000 + 16 * nI n) + nI s = nI (2000 + (16 * n + s)) := by
        intro s
        rw [show (2000 + 16 * nI n : Int32) = nI 2000 + nI 16 * nI n from rfl, pk_mul, nI_add, nI_add, Nat.add_assoc]
      have i600 : ∀ k, k ≤ 595 → vp_in (nI k) 600 := fun k hk => vp_in_nI (by omega) (by omega)
      unfold yx_e at C
      unfold ys_a
      by_cases k0 : g 0 n = 0
      · rw [if_pos k0] at C ⊢
        refine br_t rfl (nm_r (nI_1 _) (And.intro (i600 _ (by omega)) (nm_r (e' := upd co (yx_pb (cd_ms g n) ++ yl1).length (nI 128)) (by rw [xg_u (by omega)]; rfl) ?_)))
        exact br_f (by decide) (br_f (by decide) (C _ _ hwo1 (put 128 hco)))
      · rw [if_neg k0] at C ⊢
        have eX : b_endX (nI n).toNatClampNeg = nI (g 2 n) := by rw [nI_clamp (by omega), hG.2.1 (by omega)]
        by_cases k1 : g 0 n = 1 ∨ g 2 n = g 3 n
        · rw [if_pos k1] at C ⊢
          refine br_f (by decide) (br_t rfl (nm_r (nI_1 _) (And.intro (xg_i hn16) (And.intro (i600 _ (by omega)) (nm_r (e' := upd co (yx_pb (cd_ms g n) ++ yl1).length (nI (2000 + (16 * n + g 2 n)))) (by rw [eX, e2000, xg_u (by omega)]) ?_)))))
          exact br_f (by decide) (C _ _ hwo1 (put _ hco))
        · rw [if_neg k1] at C ⊢
          have k2 : g 0 n = 2 := by
            have : ¬ g 0 n = 1 := fun h => k1 (Or.inl h)
            omega
          have eY : b_endY (nI n).toNatClampNeg = nI (g 3 n) := by rw [nI_clamp (by omega), (hG.2.2.1 k2).2]
          have eV : b_endV (nI n).toNatClampNeg = nI (g 1 n) := by rw [nI_clamp (by omega), (hG.2.2.1 k2).1]
          have l0 := (yx_pb (cd_ms g n) ++ yl1).length
          refine br_f (by decide) (br_f (by decide) (br_t rfl ?_))
          refine nm_r (nI_1 _) (And.intro (i600 _ (by omega)) (nm_r (e' := upd co (yx_pb (cd_ms g n) ++ yl1).length (nI 80)) (by rw [xg_u (by omega)]; rfl) ?_))
          have hc1 := put 80 hco
          refine nm_r (nI_1 _) (And.intro (xg_i hn16) (And.intro (i600 _ (by omega)) (nm_r (e' := upd (upd co (yx_pb (cd_ms g n) ++ yl1).length (nI 80)) ((yx_pb (cd_ms g n) ++ yl1).length + 1) (nI (2000 + (16 * n + g 3 n)))) (by rw [eY, e2000, xg_u (by omega)]) ?_)))
          have hc2 := put (2000 + (16 * n + g 3 n)) hc1
          refine nm_r (nI_1 _) (And.intro (i600 _ (by omega)) (nm_r (e' := upd (upd (upd co (yx_pb (cd_ms g n) ++ yl1).length (nI 80)) ((yx_pb (cd_ms g n) ++ yl1).length + 1) (nI (2000 + (16 * n + g 3 n)))) ((yx_pb (cd_ms g n) ++ yl1).length + 1 + 1) (nI 64)) (by rw [xg_u (by omega)]; rfl) ?_))
          have hc3 := put 64 hc2
          refine nm_r (nI_1 _) (And.intro (xg_i hn16) (And.intro (i600 _ (by omega)) (nm_r (e' := upd (upd (upd (upd co (yx_pb (cd_ms g n) ++ yl1).length (nI 80)) ((yx_pb (cd_ms g n) ++ yl1).length + 1) (nI (2000 + (16 * n + g 3 n)))) ((yx_pb (cd_ms g n) ++ yl1).length + 1 + 1) (nI 64)) ((yx_pb (cd_ms g n) ++ yl1).length + 1 + 1 + 1) (nI (2000 + (16 * n + g 2 n)))) (by rw [eX, e2000, xg_u (by omega)]) ?_)))
          have hc4 := put (2000 + (16 * n + g 2 n)) hc3
          refine nm_r (nI_1 _) (And.intro (xg_i hn16) (And.intro (i600 _ (by omega)) (nm_r (e' := upd (upd (upd (upd (upd co (yx_pb (cd_ms g n) ++ yl1).length (nI 80)) ((yx_pb (cd_ms g n) ++ yl1).length + 1) (nI (2000 + (16 * n + g 3 n)))) ((yx_pb (cd_ms g n) ++ yl1).length + 1 + 1) (nI 64)) ((yx_pb (cd_ms g n) ++ yl1).length + 1 + 1 + 1) (nI (2000 + (16 * n + g 2 n)))) ((yx_pb (cd_ms g n) ++ yl1).length + 1 + 1 + 1 + 1) (nI (48 + g 1 n))) (by rw [eV, show (48 + nI (g 1 n) : Int32) = nI 48 + nI (g 1 n) from rfl, nI_add, xg_u (by omega)]) ?_)))
          have hc5 := put (48 + g 1 n) hc4
          exact C _ _ hwo1 hc5
    | succ k =>
      rw [show nI (k + 1) - 1 = nI k from nI_pred k]
      have hdec : nI k + (-1) = nI k - 1 := (Int32.sub_eq_add_neg _ _).symm
      refine br_f (nI_pos (by omega)) (yx_mt W G K hR (by omega) ?_ ?_)
      · intro m hRm hnm hI hM
        have hm16 := gg_R16 W hRm
        have hkl : k < (df_o g).length := by have := (gg_nl W hRm).1; omega
        have hx : (df_o g).getD k 0 = m := by rw [← hnm]; exact (gg_nl W hRm).2
        have hpre2 : (pre ++ [m]) ++ cd_m g n (if k ≤ (df_o g).length then k else (df_o g).length) = cd_ms g n := by
          rw [if_pos (by omega)] at hpre ⊢
          rw [← hpre, List.append_assoc]
          have : cd_m g n (k + 1) = if pd_b (dm_I (gg_E g) 0 n ((df_o g).getD k 0) ∧ gg_M g ((df_o g).getD k 0)) = true then (df_o g).getD k 0 :: cd_m g n k else cd_m g n k := rfl
          rw [this, hx, if_pos (pd_t ⟨hI, hM⟩)]
          rfl
        have hprel2 : pre.length + 1 ≤ (cd_ms g n).length := by
          rw [← hpre2, List.length_append, List.length_append]
          show _ ≤ pre.length + 1 + _
          omega
        refine br_t (nI_pos' (by omega)) (nm_r (nI_1 _) (And.intro (vp_in_nI (by omega) (by omega)) (nm_r (e' := upd wo (ws1 ++ pre.map (fun m => 32 + m)).length (nI (32 + m))) (by rw [show (32 + nI m : Int32) = nI 32 + nI m from rfl, nI_add, xg_u (by omega)]) (nm_r (nI_1 _) (And.intro (vp_in_nI (by omega) (by omega)) (nm_r (e' := upd co (yx_pb pre ++ yl1).length (nI (1000 + m))) (by rw [show (1000 + nI m : Int32) = nI 1000 + nI m from rfl, nI_add, xg_u (by omega)]) (nm_r (nI_1 _) (And.intro (vp_in_nI (by omega) (by omega)) (nm_r (e' := upd (upd co (yx_pb pre ++ yl1).length (nI (1000 + m))) ((yx_pb pre ++ yl1).length + 1) (nI 80)) (by rw [xg_u (by omega)]; rfl) (nm_r hdec ?_))))))))))
        have hw2 := em (32 + m) hwo
        have ew : (ws1 ++ pre.map (fun m => 32 + m)) ++ [32 + m] = ws1 ++ (pre ++ [m]).map (fun m => 32 + m) := by rw [List.map_append, List.append_assoc]; rfl
        have hc2 := put 80 (put (1000 + m) hco)
        have es : 80 :: (1000 + m) :: (yx_pb pre ++ yl1) = yx_pb (pre ++ [m]) ++ yl1 := by rw [yx_pbs]; rfl
        have el : nI ((ws1 ++ pre.map (fun m => 32 + m)).length + 1) = nI (ws1 ++ (pre ++ [m]).map (fun m => 32 + m)).length := by rw [← ew, List.length_append (bs := [32 + m])]; rfl
        have el2 : nI ((yx_pb pre ++ yl1).length + 1 + 1) = nI (yx_pb (pre ++ [m]) ++ yl1).length := by rw [← es]; rfl
        rw [ew] at hw2
        rw [es] at hc2
        rw [el, el2]
        exact ih k (pre ++ [m]) _ _ (by omega) (by omega) hpre2 hw2 hc2
      · intro hno
        refine br_f bs_n1' (nm_r hdec (ih k pre wo co (by omega) (by omega) ?_ hwo hco))
        by_cases hkl : k + 1 ≤ (df_o g).length
        · rw [if_pos hkl] at hpre
          rw [if_pos (by omega), ← hpre]
          have hgn := gg_ng W (show k < (df_o g).length by omega)
          have : cd_m g n (k + 1) = if pd_b (dm_I (gg_E g) 0 n ((df_o g).getD k 0) ∧ gg_M g ((df_o g).getD k 0)) = true then (df_o g).getD k 0 :: cd_m g n k else cd_m g n k := rfl
          rw [this, if_neg (by rw [pd_f (hno _ hgn.1 hgn.2)]; exact Bool.noConfusion)]
        · rw [if_neg hkl] at hpre
          by_cases hkl2 : k ≤ (df_o g).length
          · rw [if_pos hkl2, show k = (df_o g).length by omega]; exact hpre
          · rw [if_neg hkl2]; exact hpre
theorem yx_cd (W : gg_W g) (G : (yg_G g b_actKind b_actV b_actC b_endKind b_endV b_endX b_endY)) (K : yk_K g b_number b_before b_behind) {n : Nat} (hR : gg_R g n) {yl ws : List Nat} {post : Int32 → SY → Prop} (hroom : yl.length + 2 * (cd_ms g n).length + 6 ≤ 590) (hroom2 : ws.length + (cd_ms g n).length + 2 ≤ 590) (hw0 : xc_C ws b_words) (hc0 : ao_R yl b_coming)
    (C : ∀ wo co re td : Nat → Int32, xc_C (ws ++ ((if pd_b (gg_H g n) = true then [16 + n] else []) ++ ((cd_ms g n).map (fun m => 32 + m) ++ [n]))) wo → ao_R (yx_e g n ++ (yx_pb (cd_ms g n) ++ ((if pd_b (gg_H g n) = true then [80] else []) ++ yl))) co →
      post (nI (yx_e g n ++ (yx_pb (cd_ms g n) ++ ((if pd_b (gg_H g n) = true then [80] else []) ++ yl))).length) (g_fresh, nI (ws ++ ((if pd_b (gg_H g n) = true then [16 + n] else []) ++ ((cd_ms g n).map (fun m => 32 + m) ++ [n]))).length, g_tells, g_last, g_runs, g_stopped, b_actKind, b_actV, b_actC, b_endKind, b_endV, b_endX, b_endY, b_number, b_before, b_behind, re, td, wo, co, b_values, b_told, b_variables)) :
    (wpY_code post (g_fresh, nI ws.length, g_tells, g_last, g_runs, g_stopped, b_actKind, b_actV, b_actC, b_endKind, b_endV, b_endX, b_endY, b_number, b_before, b_behind, b_reached, b_todo, b_words, b_coming, b_values, b_told, b_variables) (nI n) (nI yl.length)) := by
  have hn16 := gg_R16 W hR
  have hlen := df_ln W
  have ems : [] ++ cd_m g n (if 16 ≤ (df_o g).length then 16 else (df_o g).length) = cd_ms g n := by
    by_cases h : 16 ≤ (df_o g).length
    · rw [if_pos h, show (16 : Nat) = (df_o g).length by omega]; rfl
    · rw [if_neg h]; rfl
  unfold wpY_code
  refine yl_l W G K hR ?_
  intro r re td hr
  by_cases hH : gg_H g n
  · have hnz : ¬ r = 0 := bs_nz ((hr n).mpr (gl_h.mp hH))
    rw [if_pos (pd_t hH)] at C
    have hone : ([80] : List Nat).length = 1 := rfl
    have e1 : (if pd_b (gg_H g n) = true then [80] else []) = [80] := if_pos (pd_t hH)
    rw [e1] at C
    refine br_f hnz (br_f (by decide) (nm_r (nI_1 _) (And.intro (vp_in_nI (by omega) (by omega)) (nm_r (e' := upd b_words ws.length (nI (16 + n))) (by rw [show (16 + nI n : Int32) = nI 16 + nI n from rfl, nI_add, xg_u (by omega)]) (nm_r (nI_1 _) (And.intro (vp_in_nI (by omega) (by omega)) (nm_r (e' := upd b_coming yl.length (nI 80)) (by rw [xg_u (by omega)]; rfl) ⟨17, ?_⟩)))))))
    have hw1 : xc_C (ws ++ [16 + n]) (upd b_words ws.length (nI (16 + n))) := by
      intro j hj
      rw [List.length_append, List.length_singleton] at hj
      by_cases e : j = ws.length
      · subst e; rw [pk_us, gw_0]; rfl
      · rw [pk_un e, gw_l _ _ _ (by omega)]; exact hw0 j (by omega)
    have hc1 : ao_R (80 :: yl) (upd b_coming yl.length (nI 80)) := ⟨pk_us, ao_k yl hc0 (fun i hi => pk_un (by omega))⟩
    have el : nI (ws.length + 1) = nI ((ws ++ [16 + n]) ++ ([] : List Nat).map (fun m => 32 + m)).length := by rw [List.map_nil, List.append_nil, List.length_append]; rfl
    rw [el]
    refine yx_57 (yl1 := 80 :: yl) (ws1 := ws ++ [16 + n]) W G K hR (by rw [List.length_cons]; omega) (by rw [List.length_append]; show ws.length + 1 + _ + 1 ≤ 590; omega) ?_ 17 16 [] _ _ (by omega) (by omega) ems (by rw [List.map_nil, List.append_nil]; exact hw1) hc1
    intro wo co h1 h2
    have f1 : ws ++ ([16 + n] ++ ((cd_ms g n).map (fun m => 32 + m) ++ [n])) = (ws ++ [16 + n]) ++ ((cd_ms g n).map (fun m => 32 + m) ++ [n]) := by rw [List.append_assoc]
    have h3 := C wo co re td (by rw [f1]; exact h1) h2
    rw [f1] at h3
    exact h3
  · have hz : r = 0 := by
      apply bs_z
      intro i _
      exact ts_nt (fun h => hH (gl_H ((hr i).mp h)))
    rw [if_neg (by rw [pd_f hH]; exact Bool.noConfusion)] at C
    have e1 : (if pd_b (gg_H g n) = true then [80] else []) = [] := if_neg (by rw [pd_f hH]; exact Bool.noConfusion)
    rw [e1] at C
    refine br_t hz (br_t rfl ⟨17, ?_⟩)
    have el : nI ws.length = nI (ws ++ ([] : List Nat).map (fun m => 32 + m)).length := by rw [List.map_nil, List.append_nil]
    rw [el]
    refine yx_57 (yl1 := yl) (ws1 := ws) W G K hR (by omega) (by omega) ?_ 17 16 [] _ _ (by omega) (by omega) ems (by rw [List.map_nil, List.append_nil]; exact hw0) hc0
    intro wo co h1 h2
    exact C wo co re td h1 h2
end YJ
end
section
section YK
variable {g_fresh g_many g_tells g_last g_runs g_stopped : Int32} {b_actKind b_actV b_actC b_endKind b_endV b_endX b_endY b_number b_before b_behind b_reached b_todo b_words b_coming b_values b_told b_variables : Nat → Int32} {g : Nat → Nat → Nat}
def yx_h : List Nat → Nat
  | [] => 0
  | c :: _ => if 2000 ≤ c then 1 else 0
theorem yx_h1 (l : List Nat) : yx_h l ≤ 1 := by
  cases l with
  | nil => exact Nat.zero_le _
  | cons c l =>
    show (if 2000 ≤ c then 1 else 0) ≤ 1
    split <;> omega
noncomputable def yx_t (g : Nat → Nat → Nat) (n : Nat) : List Nat := if g 0 n = 0 then [128] else if g 0 n = 1 ∨ g 2 n = g 3 n then [] else [48 + g 1 n]
theorem yx_et (W : gg_W g) {n : Nat} (hR : gg_R g n) : ∃ e2, yx_e g n = yx_t g n ++ e2 ∧ yx_R g e2 (cd_pw g n) ∧ (yx_t g n).length ≤ 1 ∧ ∀ w, w ∈ yx_t g n → w < 1000 := by
  have hw := W n
  have hn16 := gg_R16 W hR
  unfold yx_e yx_t cd_pw
  by_cases k0 : g 0 n = 0
  · rw [if_pos k0, if_pos k0, if_pos k0]
    refine ⟨[], rfl, trivial, Nat.le_refl _, fun w h => ?_⟩
    rw [List.mem_singleton] at h; omega
  · rw [if_neg k0, if_neg k0, if_neg k0]
    have hEx : gg_E g n (g 2 n) := Or.inl ⟨by omega, rfl⟩
    by_cases k1 : g 0 n = 1 ∨ g 2 n = g 3 n
    · rw [if_pos k1, if_pos k1, if_pos k1]
      exact ⟨_, rfl, ⟨Or.inr (Or.inr ⟨n, g 2 n, rfl, hn16, by omega, hR, hEx, rfl⟩), trivial⟩, Nat.zero_le _, fun w h => by cases h⟩
    · rw [if_neg k1, if_neg k1, if_neg k1]
      have hEy : gg_E g n (g 3 n) := Or.inr ⟨by have : ¬ g 0 n = 1 := fun h => k1 (Or.inl h); omega, rfl⟩
      refine ⟨[2000 + (16 * n + g 2 n), 64, 2000 + (16 * n + g 3 n), 80], rfl, ⟨Or.inr (Or.inr ⟨n, g 2 n, rfl, hn16, by omega, hR, hEx, rfl⟩), Or.inl ⟨by omega, by show (4 : Nat) ≠ 0; omega, rfl⟩, Or.inr (Or.inr ⟨n, g 3 n, rfl, hn16, by omega, hR, hEy, rfl⟩), Or.inl ⟨by omega, by show (5 : Nat) ≠ 0; omega, rfl⟩, trivial⟩, Nat.le_refl _, fun w h => ?_⟩
      rw [List.mem_singleton] at h; omega
theorem yx_w (W : gg_W g) (G : (yg_G g b_actKind b_actV b_actC b_endKind b_endV b_endX b_endY)) (K : yk_K g b_number b_before b_behind) {n s : Nat} (hR : gg_R g n) (hE : gg_E g n s) {yl : List Nat} (hl : yl.length < 600) (hc : ao_R yl b_coming) {post : Int32 → SY → Prop}
    (C : ∀ (c : Nat) (co : Nat → Int32), c < 2000 → yx_c g c (cd_wy g n s) → ao_R (c :: yl) co → post (nI (yl.length + 1)) (g_fresh, g_many, g_tells, g_last, g_runs, g_stopped, b_actKind, b_actV, b_actC, b_endKind, b_endV, b_endX, b_endY, b_number, b_before, b_behind, b_reached, b_todo, b_words, co, b_values, b_told, b_variables)) : (wpY_way post (g_fresh, g_many, g_tells, g_last, g_runs, g_stopped, b_actKind, b_actV, b_actC, b_endKind, b_endV, b_endX, b_endY, b_number, b_before, b_behind, b_reached, b_todo, b_words, b_coming, b_values, b_told, b_variables) (nI n) (nI s) (nI yl.length)) := by
  have hRs : gg_R g s := gr_st hR hE trivial
  have hn16 := gg_R16 W hR
  have hs16 := gg_R16 W hRs
  have hlen := df_ln W
  have hnum : ∀ m, gg_R g m → gg_n g m < 16 := fun m hm => by have := (gg_nl W hm).1; omega
  have h1 := hnum n hR
  have h2 := hnum s hRs
  have en : ∀ m, m < 16 → gg_R g m → b_number (nI m).toNatClampNeg = nI (gg_n g m) := by
    intro m hm hR
    rw [nI_clamp (by omega)]
    rcases K.1 m hm with h | h
    · exact h.2
    · exact absurd hR h.1
  have fin : ∀ (c : Nat) (z : Int32), z = nI c → c < 2000 → yx_c g c (cd_wy g n s) → (vp_in (nI yl.length) 600 ∧ ∀ co : Nat → Int32, co = upd b_coming (nI yl.length).toNatClampNeg z → post (nI yl.length + 1) (g_fresh, g_many, g_tells, g_last, g_runs, g_stopped, b_actKind, b_actV, b_actC, b_endKind, b_endV, b_endX, b_endY, b_number, b_before, b_behind, b_reached, b_todo, b_words, co, b_values, b_told, b_variables)) := by
    intro c z hz hc2 hx
    refine And.intro (vp_in_nI hl (by omega)) (nm_r (e' := upd b_coming yl.length (nI c)) (by rw [hz, xg_u (by omega)]) ?_)
    rw [nI_1]
    exact C c _ hc2 hx ⟨pk_us, ao_k yl hc (fun i hi => pk_un (by omega))⟩
  refine And.intro (xg_i hs16) (And.intro (xg_i hn16) ?_)
  rw [en n hn16 hR, en s hs16 hRs]
  rcases cd_wyc g n s with ⟨e, h⟩ | ⟨e, h, hM⟩ | ⟨e, h, hM⟩
  · exact br_f (nI_nlt h (by omega)) (fin (96 + s) _ (by rw [show (96 + nI s : Int32) = nI 96 + nI s from rfl, nI_add]) (by omega) (by rw [e]; exact Or.inl ⟨by omega, by show (6 : Nat) ≠ 0; omega, rfl⟩))
  · exact br_t (nI_lt h (by omega)) (yx_m W G K hRs (fun _ => br_f (by decide) (fin (112 + s) _ (by rw [show (112 + nI s : Int32) = nI 112 + nI s from rfl, nI_add]) (by omega) (by rw [e]; exact Or.inl ⟨by omega, by show (7 : Nat) ≠ 0; omega, rfl⟩))) (fun h => absurd hM h))
  · exact br_t (nI_lt h (by omega)) (yx_m W G K hRs (fun h => absurd h hM) (fun _ => br_t rfl (fin (1000 + s) _ (by rw [show (1000 + nI s : Int32) = nI 1000 + nI s from rfl, nI_add]) (by omega) (by rw [e]; exact Or.inr (Or.inl ⟨rfl, rfl, hs16⟩)))))
theorem yx_19 (W : gg_W g) (hSt : gg_St g) (G : (yg_G g b_actKind b_actV b_actC b_endKind b_endV b_endX b_endY)) (K : yk_K g b_number b_before b_behind) {L : List Nat} {post : SY → Prop} (C : ∀ wo co re td : Nat → Int32, xc_C L wo → post (g_fresh, nI L.length, g_tells, g_last, g_runs, g_stopped, b_actKind, b_actV, b_actC, b_endKind, b_endV, b_endX, b_endY, b_number, b_before, b_behind, re, td, wo, co, b_values, b_told, b_variables)) :
    ∀ (F f : Nat) (yl : List Nat) (st : List (Nat × Nat × Nat)) (ws pw : List Nat) (op : Nat → Bool) (wo co re td : Nat → Int32), 3 * f + pw.length + yx_h yl < F → cd_r g f st (ws ++ pw) = some L → cp_P g st op → st.length + cp_u g op ≤ 113 → (ws ++ pw).length + st.length + cp_v g op ≤ 180 → yx_R g yl st → pw.length ≤ 1 → (∀ w, w ∈ pw → w < 1000) → xc_C ws wo → ao_R (pw ++ yl) co →
      (wY_write_19 post F (nI (pw ++ yl).length) g_fresh (nI ws.length) g_tells g_last g_runs g_stopped b_actKind b_actV b_actC b_endKind b_endV b_endX b_endY b_number b_before b_behind re td wo co b_values b_told b_variables) := by
  intro F
  induction F with
  | zero => intro f yl st ws pw op wo co re td h; omega
  | succ F ih =>
    intro f yl st ws pw op wo co re td hF hr P h1 h2 hyx hpl hpw hwo hco
    have hyl := yx_Rl yl st hyx
    rw [List.length_append] at h2
    have emit : ∀ (w : Nat) (rest : List Nat), w < 1000 → ao_R (w :: rest) co → rest.length < 600 → ws.length < 600 → (wY_write_19 post F (nI rest.length) g_fresh (nI (ws ++ [w]).length) g_tells g_last g_runs g_stopped b_actKind b_actV b_actC b_endKind b_endV b_endX b_endY b_number b_before b_behind re td (upd wo ws.length (nI w)) co b_values b_told b_variables) →
        (wY_write_19 post (F + 1) (nI (w :: rest).length) g_fresh (nI ws.length) g_tells g_last g_runs g_stopped b_actKind b_actV b_actC b_endKind b_endV b_endX b_endY b_number b_before b_behind re td wo co b_values b_told b_variables) := by
      intro w rest hw hc hl1 hl2 hgo
      refine br_f (nI_nle (by rw [List.length_cons]; omega) (by rw [List.length_cons]; omega)) (nm_r (e' := nI rest.length) (pk_m1 _) (And.intro (vp_in_nI hl1 (by omega)) (nm_r (e' := nI w) (by rw [nI_clamp (by omega)]; exact hc.1) ?_)))
      refine br_f (nI_ge (b := 1000) hw (by omega)) (nm_r (nI_1 _) (And.intro (vp_in_nI hl2 (by omega)) (nm_r (e' := upd wo ws.length (nI w)) (by rw [xg_u (by omega)]) ?_)))
      have el : nI (ws.length + 1) = nI (ws ++ [w]).length := by rw [List.length_append]; rfl
      rw [el]
      exact hgo
    have emw : ∀ w : Nat, xc_C (ws ++ [w]) (upd wo ws.length (nI w)) := by
      intro w j hj
      rw [List.length_append, List.length_singleton] at hj
      by_cases e : j = ws.length
      · subst e; rw [pk_us, gw_0]; rfl
      · rw [pk_un e, gw_l _ _ _ (by omega)]; exact hwo j (by omega)
    cases pw with
    | cons w pw' =>
      rw [List.length_cons] at hpl hF h2
      have : pw' = [] := List.eq_nil_of_length_eq_zero (by omega)
      subst this
      refine emit w yl (hpw w List.mem_cons_self) hco (by omega) (by omega) ?_
      refine ih f yl st (ws ++ [w]) [] op _ co re td (by rw [List.length_nil]; omega) (by rw [List.append_nil]; exact hr) P h1 (by rw [List.append_nil, List.length_append, List.length_singleton]; omega) hyx (Nat.zero_le _) (fun w h => by cases h) (emw w) hco.2
    | nil =>
      rw [List.append_nil] at hr
      rw [List.length_nil] at h2 hF
      cases yl with
      | nil =>
        cases st with
        | cons it st => cases hyx
        | nil =>
          cases f with
          | zero => cases hr
          | succ f =>
            have hr : some ws = some L := hr
            have hr := Option.some.inj hr
            subst hr
            exact br_t (by decide) (C wo co re td hwo)
      | cons c yl =>
        cases st with
        | nil => cases hyx
        | cons it st =>
          obtain ⟨hc, hyx'⟩ := hyx
          have hyl' := yx_Rl yl st hyx'
          rw [List.length_cons] at h1 h2
          have hh1 := yx_h1 yl
          obtain ⟨k, n, i⟩ := it
          rcases hc with ⟨c1, c2, c3⟩ | ⟨c1, c2, c3⟩ | ⟨n', s', c1, c2, c3, c4, c5, c6⟩
          · have c3 : c = 16 * k + n := c3
            have c2 : k ≠ 0 := c2
            cases f with
            | zero => cases hr
            | succ f =>
              have e : cd_r g (f + 1) ((k, n, i) :: st) ws = cd_r g f st (ws ++ [16 * k + n]) := if_neg c2
              rw [e] at hr
              refine emit c yl c1 hco (by omega) (by omega) ?_
              refine ih f yl st (ws ++ [c]) [] op _ co re td (by rw [List.length_nil]; omega) (by rw [List.append_nil, c3]; exact hr) (cp_P1 P c2) (by omega) (by rw [List.append_nil, List.length_append, List.length_singleton]; omega) hyx' (Nat.zero_le _) (fun w h => by cases h) (emw c) hco.2
          · have c2 : k = 0 := c2
            subst c2
            have c1 : c = 1000 + n := c1
            have c3 : n < 16 := c3
            cases f with
            | zero => cases hr
            | succ f =>
              obtain ⟨P', hR, h0⟩ := cp_P2 W hSt P
              have hu : cp_u g (df_m op n) + (cd_pu g n).length = cp_u g op := cp_uo (fun m => (cd_pu g m).length) c3 h0
              have hv : cp_v g (df_m op n) + ((cd_pu g n).length + (cd_wo g n).length) = cp_v g op := cp_uo (fun m => (cd_pu g m).length + (cd_wo g m).length) c3 h0
              have e : cd_r g (f + 1) ((0, n, i) :: st) ws = cd_r g f (cd_pu g n ++ st) (ws ++ cd_wo g n) := rfl
              rw [e] at hr
              have hwg := (cd_wg W n).2.2.2.2.2.2
              have hsub : nI c - 1000 = nI n := by rw [c1, show (1000 : Int32) = nI 1000 from rfl, pk_sub (by omega), Nat.add_sub_cancel_left]
              obtain ⟨e2, t1, t2, t3, t4⟩ := yx_et W hR
              have h16 : ∀ m, m ∈ cd_ms g n → m < 16 := fun m hm => gg_R16 W ((cd_in W).mp hm).1
              have hms : (cd_ms g n).length ≤ 16 := by
                have h5 := cd_ml (g := g) n (df_o g).length
                have h6 := ct_le (fun j => pd_b (dm_I (gg_E g) 0 n ((df_o g).getD j 0) ∧ gg_M g ((df_o g).getD j 0))) (df_o g).length
                have h7 := df_ln W
                have h8 : (cd_ms g n).length = ct_c (fun j => pd_b (dm_I (gg_E g) 0 n ((df_o g).getD j 0) ∧ gg_M g ((df_o g).getD j 0))) (df_o g).length := h5
                omega
              refine br_f (nI_nle (by rw [List.nil_append, List.length_cons]; omega) (by rw [List.nil_append, List.length_cons]; omega)) (nm_r (e' := nI yl.length) (pk_m1 _) (And.intro (vp_in_nI (by omega) (by omega)) (nm_r (e' := nI c) (by rw [nI_clamp (by omega)]; exact hco.1) ?_)))
              refine br_t (nI_le (a := 1000) (by omega) (by omega)) (br_f (nI_ge (b := 2000) (by omega) (by omega)) ?_)
              rw [hsub]
              refine yx_cd (b_words := wo) (b_coming := co) (b_reached := re) (b_todo := td) W G K hR (by omega) (by omega) hwo hco.2 ?_
              intro wo' co' re' td' k1 k2
              have hh2 := yx_h1 (e2 ++ (yx_pb (cd_ms g n) ++ ((if pd_b (gg_H g n) = true then [80] else []) ++ yl)))
              have ews : ws ++ cd_wo g n = (ws ++ ((if pd_b (gg_H g n) = true then [16 + n] else []) ++ ((cd_ms g n).map (fun m => 32 + m) ++ [n]))) ++ yx_t g n := by
                unfold cd_wo yx_t
                rw [List.append_assoc, List.append_assoc, List.append_assoc]
                rfl
              rw [ews] at hr
              have hlen2 : ((ws ++ ((if pd_b (gg_H g n) = true then [16 + n] else []) ++ ((cd_ms g n).map (fun m => 32 + m) ++ [n]))) ++ yx_t g n).length = ws.length + (cd_wo g n).length := by rw [← ews, List.length_append]
              rw [t1, List.append_assoc] at k2 ⊢
              refine ih f (e2 ++ (yx_pb (cd_ms g n) ++ ((if pd_b (gg_H g n) = true then [80] else []) ++ yl))) _ _ (yx_t g n) _ wo' co' re' td' (by omega) hr P' (by rw [List.length_append]; omega) (by rw [hlen2, List.length_append]; omega) ?_ t3 t4 k1 k2
              unfold cd_pu
              rw [List.append_assoc, List.append_assoc]
              refine yx_Ra _ _ _ _ t2 (yx_Ra _ _ _ _ (yx_pbR _ h16) (yx_Ra _ _ _ _ ?_ hyx'))
              split
              · exact ⟨Or.inl ⟨by omega, by show (5 : Nat) ≠ 0; omega, rfl⟩, trivial⟩
              · trivial
          · have hh : yx_h (c :: yl) = 1 := if_pos (show 2000 ≤ c by omega)
            rw [hh] at hF
            have hsub : nI c - 2000 = nI (16 * n' + s') := by rw [c1, show (2000 : Int32) = nI 2000 from rfl, pk_sub (by omega), Nat.add_sub_cancel_left]
            have hdiv : nI (16 * n' + s') / 16 = nI n' := by rw [show (16 : Int32) = nI 16 from rfl, pk_div (by omega) (by omega) (by omega)]; exact congrArg nI (by omega)
            have hrem : nI (16 * n' + s') - nI (16 * n' + s') / 16 * 16 = nI s' := by rw [show (16 : Int32) = nI 16 from rfl, pk_rem (by omega) (by omega) (by omega)]; exact congrArg nI (by omega)
            refine br_f (nI_nle (by rw [List.nil_append, List.length_cons]; omega) (by rw [List.nil_append, List.length_cons]; omega)) (nm_r (e' := nI yl.length) (pk_m1 _) (And.intro (vp_in_nI (by omega) (by omega)) (nm_r (e' := nI c) (by rw [nI_clamp (by omega)]; exact hco.1) ?_)))
            refine br_t (nI_le (a := 1000) (by omega) (by omega)) (br_t (nI_le (a := 2000) (by omega) (by omega)) (And.intro (by decide) (And.intro (by decide) ?_)))
            rw [hsub, hrem, hdiv]
            refine yx_w (b_words := wo) (b_coming := co) (b_reached := re) (b_todo := td) W G K c4 c5 (by omega) hco.2 ?_
            intro c' co' d1 d2 d3
            have hh3 : yx_h (c' :: yl) = 0 := if_neg (show ¬ 2000 ≤ c' by omega)
            refine ih f (c' :: yl) ((k, n, i) :: st) ws [] op wo co' re td (by rw [hh3, List.length_nil]; omega) (by rw [List.append_nil]; exact hr) P (by rw [List.length_cons]; omega) (by rw [List.append_nil, List.length_cons]; omega) ⟨by rw [c6]; exact d2, hyx'⟩ (Nat.zero_le _) (fun w h => by cases h) hwo d3
theorem yx_wr (W : gg_W g) (hSt : gg_St g) (G : (yg_G g b_actKind b_actV b_actC b_endKind b_endV b_endX b_endY)) (K : yk_K g b_number b_before b_behind) {post : SY → Prop} (C : ∀ wo co re td : Nat → Int32, xc_C (cd_L g) wo → post (g_fresh, nI (cd_L g).length, g_tells, g_last, g_runs, g_stopped, b_actKind, b_actV, b_actC, b_endKind, b_endV, b_endX, b_endY, b_number, b_before, b_behind, re, td, wo, co, b_values, b_told, b_variables)) : (wpY_write post (g_fresh, g_many, g_tells, g_last, g_runs, g_stopped, b_actKind, b_actV, b_actC, b_endKind, b_endV, b_endX, b_endY, b_number, b_before, b_behind, b_reached, b_todo, b_words, b_coming, b_values, b_told, b_variables)) := by
  obtain ⟨op, sp, e1, e2, e3, e4⟩ := cd_e W hSt
  have h0 := cp_0 W
  refine nm_r (e' := nI 1) (by decide) (nm_r (e' := upd b_coming 0 (nI 1000)) rfl ⟨400, ?_⟩)
  refine yx_19 W hSt G K C 400 120 [1000] [(0, 0, 0)] [] [] (fun _ => false) b_words _ b_reached b_todo ?_ e1 (cd_P0 W) ?_ ?_ ⟨Or.inr (Or.inl ⟨rfl, rfl, by show (0 : Nat) < 16; omega⟩), trivial⟩ (Nat.zero_le _) (fun w h => by cases h) (fun j hj => by cases hj) ⟨pk_us, trivial⟩
  · have := yx_h1 [1000]
    rw [List.length_nil]
    omega
  · have : [((0 : Nat), (0 : Nat), (0 : Nat))].length = 1 := rfl
    have := h0.1
    omega
  · have : [((0 : Nat), (0 : Nat), (0 : Nat))].length = 1 := rfl
    have : (([] : List Nat) ++ []).length = 0 := rfl
    have := h0.2.1
    omega
end YK
end
section
section RA
/-! a run, pure: variables, what was told, how often, what is left of the input -/
def rn_v (g : Nat → Nat → Nat) (n : Nat) (s : (Nat → Nat) × (Nat → Nat) × Nat × Int64) : (Nat → Nat) × (Nat → Nat) × Nat × Int64 :=
  if g 4 n = 1 then (or_p s.1 (g 5 n) (g 6 n), s.2.1, s.2.2.1, s.2.2.2)
  else if g 4 n = 2 then (or_p s.1 (g 5 n) ((s.1 (g 5 n) + g 6 n) % 16), s.2.1, s.2.2.1, s.2.2.2)
  else if g 4 n = 3 then (or_p s.1 (g 5 n) (s.1 (g 6 n)), s.2.1, s.2.2.1, s.2.2.2)
  else if g 4 n = 4 then (s.1, or_p s.2.1 (s.2.2.1 % 8) (s.1 (g 5 n)), s.2.2.1 + 1, s.2.2.2)
  else if g 4 n = 5 then (or_p s.1 (g 5 n) (s.2.2.2 &&& 15).toInt32.toNatClampNeg, s.2.1, s.2.2.1, (s.2.2.2.toUInt64 >>> ((4 : Int32).toInt64.toUInt64 &&& Int64.toUInt64 63)).toInt64)
  else s
def rn_x (g : Nat → Nat → Nat) (n : Nat) (s : (Nat → Nat) × (Nat → Nat) × Nat × Int64) : Nat := if g 0 n = 1 then g 2 n else if s.1 (g 1 n) = 0 then g 2 n else g 3 n
def rn_r (g : Nat → Nat → Nat) : Nat → Nat → ((Nat → Nat) × (Nat → Nat) × Nat × Int64) → Nat → Int32 → ((Nat → Nat) × (Nat → Nat) × Nat × Int64) × Nat × Int32 × Int32
  | 0, _, s, k, l => (s, k, l, 0)
  | r + 1, n, s, k, _ => if g 0 n = 0 then (rn_v g n s, k + 1, nI n, 1) else rn_r g r (rn_x g n (rn_v g n s)) (rn_v g n s) (k + 1) (nI n)
theorem rn_15 (x : Int64) : ∃ j, j < 16 ∧ (x &&& 15).toInt32 = nI j := by
  obtain ⟨n, hn, rfl⟩ := wb_of x
  refine ⟨n % 16, by omega, ?_⟩
  rw [show (15 : Int64) = lN (2 ^ 4 - 1) from rfl, wb_mask hn (by omega), lN_i]
theorem rn_15c (x : Int64) : (x &&& 15).toInt32 = nI (x &&& 15).toInt32.toNatClampNeg ∧ (x &&& 15).toInt32.toNatClampNeg < 16 := by
  obtain ⟨j, hj, e⟩ := rn_15 x
  rw [e, nI_clamp (by omega)]
  exact ⟨rfl, hj⟩
def rn_A (s : (Nat → Nat) × (Nat → Nat) × Nat × Int64) (va to : Nat → Int32) : Prop := (∀ i, i < 4 → va i = nI (s.1 i) ∧ s.1 i < 16) ∧ (∀ i, i < 8 → to i = nI (s.2.1 i) ∧ s.2.1 i < 16)
theorem rn_Av {s : (Nat → Nat) × (Nat → Nat) × Nat × Int64} {va to : Nat → Int32} (A : rn_A s va to) {v x : Nat} (hv : v < 4) (hx : x < 16) (te : Nat) (le : Int64) : rn_A (or_p s.1 v x, s.2.1, te, le) (upd va v (nI x)) to := by
  refine ⟨fun i hi => ?_, A.2⟩
  show upd va v (nI x) i = nI (or_p s.1 v x i) ∧ or_p s.1 v x i < 16
  by_cases e : i = v
  · subst e; rw [pk_us, or_ps]; exact ⟨rfl, hx⟩
  · rw [pk_un e, or_pn e]; exact A.1 i hi
theorem rn_At {s : (Nat → Nat) × (Nat → Nat) × Nat × Int64} {va to : Nat → Int32} (A : rn_A s va to) {t x : Nat} (hx : x < 16) (te : Nat) (le : Int64) : rn_A (s.1, or_p s.2.1 t x, te, le) va (upd to t (nI x)) := by
  refine ⟨A.1, fun i hi => ?_⟩
  show upd to t (nI x) i = nI (or_p s.2.1 t x i) ∧ or_p s.2.1 t x i < 16
  by_cases e : i = t
  · subst e; rw [pk_us, or_ps]; exact ⟨rfl, hx⟩
  · rw [pk_un e, or_pn e]; exact A.2 i hi
end RA
section RB
variable {f_known f_seen f_many f_ordered f_isStraight f_entered f_todo f_length f_waiting f_tellings f_last f_stopped f_steps f_ran : Int32} {f_left : Int64} {a_acts a_actV a_actC a_ends a_endV a_endX a_endY a_numbers a_byNumber a_before a_forward a_backward a_orderOf a_at a_from a_semi a_label a_up a_found a_stack a_place a_chiefs a_tails a_edges a_rulers a_loops a_innermost a_outer a_deep a_alive a_values a_present a_code a_target a_pending a_pendingOf a_begins a_openAt a_vars a_told : Nat → Int32} {g : Nat → Nat → Nat}
/-! X: visit, wander -/
theorem rx_v (W : gg_W g) (G : (xg_G g a_acts a_actV a_actC a_ends a_endV a_endX a_endY)) {n k : Nat} (hn : n < 16) {s : (Nat → Nat) × (Nat → Nat) × Nat × Int64} (A : rn_A s a_vars a_told) (hte : s.2.2.1 ≤ 2000) {post : SX → Prop}
    (C : ∀ va to : Nat → Int32, rn_A (rn_v g n s) va to → (rn_v g n s).2.2.1 ≤ s.2.2.1 + 1 → post (f_known, f_seen, f_many, f_ordered, f_isStraight, f_entered, f_todo, f_length, f_waiting, nI (rn_v g n s).2.2.1, nI n, if g 0 n = 0 then 1 else f_stopped, nI (k + 1), (rn_v g n s).2.2.2, f_ran, a_acts, a_actV, a_actC, a_ends, a_endV, a_endX, a_endY, a_numbers, a_byNumber, a_before, a_forward, a_backward, a_orderOf, a_at, a_from, a_semi, a_label, a_up, a_found, a_stack, a_place, a_chiefs, a_tails, a_edges, a_rulers, a_loops, a_innermost, a_outer, a_deep, a_alive, a_values, a_present, a_code, a_target, a_pending, a_pendingOf, a_begins, a_openAt, va, to)) :
    (wpX_visit post (f_known, f_seen, f_many, f_ordered, f_isStraight, f_entered, f_todo, f_length, f_waiting, nI s.2.2.1, f_last, f_stopped, nI k, s.2.2.2, f_ran, a_acts, a_actV, a_actC, a_ends, a_endV, a_endX, a_endY, a_numbers, a_byNumber, a_before, a_forward, a_backward, a_orderOf, a_at, a_from, a_semi, a_label, a_up, a_found, a_stack, a_place, a_chiefs, a_tails, a_edges, a_rulers, a_loops, a_innermost, a_outer, a_deep, a_alive, a_values, a_present, a_code, a_target, a_pending, a_pendingOf, a_begins, a_openAt, a_vars, a_told) (nI n)) := by
  have hw := W n
  have hG := G n hn
  have e0 : a_ends (nI n).toNatClampNeg = nI (g 0 n) := by rw [nI_clamp (by omega), hG.1]
  have e4 : a_acts (nI n).toNatClampNeg = nI (g 4 n) := by rw [nI_clamp (by omega), hG.2.2.2.2.1]
  have e5 : a_actV (nI n).toNatClampNeg = nI (g 5 n) := by rw [nI_clamp (by omega), hG.2.2.2.2.2.1]
  have e6 : a_actC (nI n).toNatClampNeg = nI (g 6 n) := by rw [nI_clamp (by omega), hG.2.2.2.2.2.2]
  have i5 : vp_in (nI (g 5 n)) 4 := vp_in_nI hw.2.2.2.2.2.1 (by omega)
  have ne : ∀ k, k ≤ 5 → g 4 n ≠ k → ¬ nI (g 4 n) = nI k := fun k hk h1 h2 => h1 (bs_inj h2 (by omega) (by omega))
  have hv5 := A.1 (g 5 n) hw.2.2.2.2.2.1
  have fin : ∀ (va to : Nat → Int32) (te : Int32) (le : Int64), rn_A (rn_v g n s) va to → (rn_v g n s).2.2.1 ≤ s.2.2.1 + 1 → te = nI (rn_v g n s).2.2.1 → le = (rn_v g n s).2.2.2 → (wX_visit_182 post (nI n) f_known f_seen f_many f_ordered f_isStraight f_entered f_todo f_length f_waiting te (nI n) f_stopped (nI (k + 1)) le f_ran a_acts a_actV a_actC a_ends a_endV a_endX a_endY a_numbers a_byNumber a_before a_forward a_backward a_orderOf a_at a_from a_semi a_label a_up a_found a_stack a_place a_chiefs a_tails a_edges a_rulers a_loops a_innermost a_outer a_deep a_alive a_values a_present a_code a_target a_pending a_pendingOf a_begins a_openAt va to) := by
    intro va to te le hA hte2 h1 h2
    have hC := C va to hA hte2
    rw [← h1, ← h2] at hC
    refine And.intro (xg_i hn) ?_
    by_cases k0 : g 0 n = 0
    · rw [if_pos k0] at hC
      exact br_t (by rw [e0, k0]; rfl) hC
    · rw [if_neg k0] at hC
      exact br_f (by rw [e0]; exact nI_ne0 (by omega) (by omega)) hC
  refine nm_r (nI_1 k) (And.intro (xg_i hn) (nm_r e5 (And.intro (xg_i hn) (nm_r e4 ?_))))
  by_cases k0 : g 4 n = 0
  · have ev : rn_v g n s = s := by unfold rn_v; rw [if_neg (by omega), if_neg (by omega), if_neg (by omega), if_neg (by omega), if_neg (by omega)]
    exact br_t (by rw [k0]; decide) (fin _ _ _ _ (by rw [ev]; exact A) (by rw [ev]; omega) (by rw [ev]) (by rw [ev]))
  · refine br_f (nI_nlt (b := 1) (by omega) (by omega)) (br_f (nI_nlt (a := 5) (by omega) (by omega)) ?_)
    by_cases k1 : g 4 n = 1
    · have ev : rn_v g n s = (or_p s.1 (g 5 n) (g 6 n), s.2.1, s.2.2.1, s.2.2.2) := by unfold rn_v; rw [if_pos k1]
      refine br_t (by rw [k1]; rfl) (And.intro (xg_i hn) (And.intro i5 (nm_r (e' := upd a_vars (g 5 n) (nI (g 6 n))) (by rw [e6, bs_vb (by omega), xg_u (by omega)]) (fin _ _ _ _ ?_ (by rw [ev]; exact Nat.le_succ _) (by rw [ev]) (by rw [ev])))))
      rw [ev]; exact rn_Av A hw.2.2.2.2.2.1 (by omega) _ _
    · refine br_f (ne 1 (by omega) k1) ?_
      by_cases k2 : g 4 n = 2
      · have ev : rn_v g n s = (or_p s.1 (g 5 n) ((s.1 (g 5 n) + g 6 n) % 16), s.2.1, s.2.2.1, s.2.2.2) := by unfold rn_v; rw [if_neg k1, if_pos k2]
        refine br_t (by rw [k2]; rfl) (And.intro i5 (And.intro (xg_i hn) (And.intro i5 (nm_r (e' := upd a_vars (g 5 n) (nI ((s.1 (g 5 n) + g 6 n) % 16))) (by rw [e6, nI_clamp (by omega), hv5.1, nI_add, pk_andN (by omega) 4 (by decide), bs_vbb (by omega)]) (fin _ _ _ _ ?_ (by rw [ev]; exact Nat.le_succ _) (by rw [ev]) (by rw [ev]))))))
        rw [ev]; exact rn_Av A hw.2.2.2.2.2.1 (by omega) _ _
      · refine br_f (ne 2 (by omega) k2) ?_
        by_cases k3 : g 4 n = 3
        · have h64 := hw.2.2.2.2.2.2.2 k3
          have hv6 := A.1 (g 6 n) h64
          have ev : rn_v g n s = (or_p s.1 (g 5 n) (s.1 (g 6 n)), s.2.1, s.2.2.1, s.2.2.2) := by unfold rn_v; rw [if_neg k1, if_neg k2, if_pos k3]
          refine br_t (by rw [k3]; rfl) (And.intro (xg_i hn) (And.intro (by rw [e6]; exact vp_in_nI h64 (by omega)) (And.intro i5 (nm_r (e' := upd a_vars (g 5 n) (nI (s.1 (g 6 n)))) (by rw [e6, nI_clamp (by omega), nI_clamp (by omega), hv6.1, bs_vb (by omega)]) (fin _ _ _ _ ?_ (by rw [ev]; exact Nat.le_succ _) (by rw [ev]) (by rw [ev]))))))
          rw [ev]; exact rn_Av A hw.2.2.2.2.2.1 hv6.2 _ _
        · refine br_f (ne 3 (by omega) k3) ?_
          by_cases k4 : g 4 n = 4
          · have ev : rn_v g n s = (s.1, or_p s.2.1 (s.2.2.1 % 8) (s.1 (g 5 n)), s.2.2.1 + 1, s.2.2.2) := by unfold rn_v; rw [if_neg k1, if_neg k2, if_neg k3, if_pos k4]
            have e7 : nI s.2.2.1 &&& 7 = nI (s.2.2.1 % 8) := pk_andN (by omega) 3 (by decide)
            refine br_t (by rw [k4]; rfl) (nm_r (nI_1 _) (And.intro i5 (And.intro (by rw [e7]; exact vp_in_nI (by omega) (by omega)) (nm_r (e' := upd a_told (s.2.2.1 % 8) (nI (s.1 (g 5 n)))) (by rw [e7, nI_clamp (by omega), nI_clamp (by omega), hv5.1, bs_vb (by omega)]) (fin _ _ _ _ ?_ (by rw [ev]; exact Nat.le_refl _) (by rw [ev]) (by rw [ev]))))))
            rw [ev]; exact rn_At A hv5.2 _ _
          · refine br_f (ne 4 (by omega) k4) ?_
            have k5 : g 4 n = 5 := by omega
            have h15 := rn_15c s.2.2.2
            have h16 : vp_nar .byte ((s.2.2.2 &&& 15).toInt32.toInt8.toInt32) = nI (s.2.2.2 &&& 15).toInt32.toNatClampNeg := by
              obtain ⟨j, hj, e⟩ := rn_15 s.2.2.2
              rw [e, bs_vbb (by omega), nI_clamp (by omega)]
            have ev : rn_v g n s = (or_p s.1 (g 5 n) (s.2.2.2 &&& 15).toInt32.toNatClampNeg, s.2.1, s.2.2.1, (s.2.2.2.toUInt64 >>> ((4 : Int32).toInt64.toUInt64 &&& Int64.toUInt64 63)).toInt64) := by unfold rn_v; rw [if_neg k1, if_neg k2, if_neg k3, if_neg k4, if_pos k5]
            refine br_t (by rw [k5]; rfl) (And.intro i5 (nm_r (e' := upd a_vars (g 5 n) (nI (s.2.2.2 &&& 15).toInt32.toNatClampNeg)) (by rw [h16, xg_u (by omega)]) (nm_e (fin _ _ _ _ ?_ (by rw [ev]; exact Nat.le_succ _) (by rw [ev]) (by rw [ev])))))
            rw [ev]; exact rn_Av A hw.2.2.2.2.2.1 h15.2 _ _
/-- how a run of X's ends -/
def rx_C (g : Nat → Nat → Nat) (post : SX → Prop) (P : Int32 → Int32 → Int32 → Int32 → Int64 → (Nat → Int32) → (Nat → Int32) → SX) (o : ((Nat → Nat) × (Nat → Nat) × Nat × Int64) × Nat × Int32 × Int32) : Prop :=
  ∀ va to : Nat → Int32, rn_A o.1 va to → post (P (nI o.1.2.2.1) o.2.2.1 o.2.2.2 (nI o.2.1) o.1.2.2.2 va to)
theorem rx_w (W : gg_W g) (G : (xg_G g a_acts a_actV a_actC a_ends a_endV a_endX a_endY)) {lim : Nat} (hlim : lim ≤ 1000) {post : SX → Prop} {o : ((Nat → Nat) × (Nat → Nat) × Nat × Int64) × Nat × Int32 × Int32}
    (C : ∀ va to : Nat → Int32, rn_A o.1 va to → post (f_known, f_seen, f_many, f_ordered, f_isStraight, f_entered, f_todo, f_length, f_waiting, nI o.1.2.2.1, o.2.2.1, o.2.2.2, nI o.2.1, o.1.2.2.2, f_ran, a_acts, a_actV, a_actC, a_ends, a_endV, a_endX, a_endY, a_numbers, a_byNumber, a_before, a_forward, a_backward, a_orderOf, a_at, a_from, a_semi, a_label, a_up, a_found, a_stack, a_place, a_chiefs, a_tails, a_edges, a_rulers, a_loops, a_innermost, a_outer, a_deep, a_alive, a_values, a_present, a_code, a_target, a_pending, a_pendingOf, a_begins, a_openAt, va, to)) :
    ∀ (r f n k : Nat) (s : (Nat → Nat) × (Nat → Nat) × Nat × Int64) (l : Int32) (va to : Nat → Int32), r + 1 < f → k + r = lim → n < 16 → rn_A s va to → s.2.2.1 ≤ k → rn_r g r n s k l = o → (wX_wander_2 post (nI lim) f (nI n) f_known f_seen f_many f_ordered f_isStraight f_entered f_todo f_length f_waiting (nI s.2.2.1) l 0 (nI k) s.2.2.2 f_ran a_acts a_actV a_actC a_ends a_endV a_endX a_endY a_numbers a_byNumber a_before a_forward a_backward a_orderOf a_at a_from a_semi a_label a_up a_found a_stack a_place a_chiefs a_tails a_edges a_rulers a_loops a_innermost a_outer a_deep a_alive a_values a_present a_code a_target a_pending a_pendingOf a_begins a_openAt va to) := by
  intro r
  induction r with
  | zero =>
    intro f n k s l va to hf hk hn A hte ho
    obtain ⟨f, rfl⟩ : ∃ f', f = f' + 1 := ⟨f - 1, by omega⟩
    have ho : (s, k, l, (0 : Int32)) = o := ho
    subst ho
    exact br_t rfl (br_t (nI_le (by omega) (by omega)) (C va to A))
  | succ r ih =>
    intro f n k s l va to hf hk hn A hte ho
    obtain ⟨f, rfl⟩ : ∃ f', f = f' + 1 := ⟨f - 1, by omega⟩
    have hw := W n
    have hG := G n hn
    have e0 : a_ends (nI n).toNatClampNeg = nI (g 0 n) := by rw [nI_clamp (by omega), hG.1]
    have e1 : a_endV (nI n).toNatClampNeg = nI (g 1 n) := by rw [nI_clamp (by omega), hG.2.1]
    have e2 : a_endX (nI n).toNatClampNeg = nI (g 2 n) := by rw [nI_clamp (by omega), hG.2.2.1]
    have e3 : a_endY (nI n).toNatClampNeg = nI (g 3 n) := by rw [nI_clamp (by omega), hG.2.2.2.1]
    have hr : rn_r g (r + 1) n s k l = if g 0 n = 0 then (rn_v g n s, k + 1, nI n, 1) else rn_r g r (rn_x g n (rn_v g n s)) (rn_v g n s) (k + 1) (nI n) := rfl
    rw [hr] at ho
    refine br_t rfl (br_f (nI_ge (by omega) (by omega)) (rx_v (a_vars := va) (a_told := to) W G hn A (by omega) ?_))
    intro va' to' A' hte'
    refine And.intro (xg_i hn) ?_
    by_cases k0 : g 0 n = 0
    · rw [if_pos k0] at ho ⊢
      subst ho
      obtain ⟨f, rfl⟩ : ∃ f', f = f' + 1 := ⟨f - 1, by omega⟩
      refine br_f (by rw [e0, k0]; decide) (And.intro (xg_i hn) (br_f (by rw [e0, k0]; decide) (And.intro (xg_i hn) (nm_e (br_f (by decide) (C va' to' A'))))))
    · rw [if_neg k0] at ho ⊢
      unfold rn_x at ho
      by_cases k1 : g 0 n = 1
      · rw [if_pos k1] at ho
        exact br_t (by rw [e0, k1]; rfl) (And.intro (xg_i hn) (nm_r e2 (ih f _ (k + 1) _ _ va' to' (by omega) (by omega) (by omega) A' (by omega) ho)))
      · rw [if_neg k1] at ho
        have k2 : g 0 n = 2 := by omega
        have hv1 := A'.1 (g 1 n) hw.2.1
        have ev : va' (a_endV (nI n).toNatClampNeg).toNatClampNeg = nI ((rn_v g n s).1 (g 1 n)) := by rw [e1, nI_clamp (by omega)]; exact hv1.1
        refine br_f (by rw [e0]; exact fun e => k1 (bs_inj (b := 1) e (by omega) (by omega))) (And.intro (xg_i hn) (br_t (by rw [e0, k2]; rfl) (And.intro (xg_i hn) (And.intro (by rw [e1]; exact vp_in_nI hw.2.1 (by omega)) ?_))))
        by_cases hz : (rn_v g n s).1 (g 1 n) = 0
        · rw [if_pos hz] at ho
          exact br_t (by rw [ev, hz]; rfl) (And.intro (xg_i hn) (nm_r e2 (ih f _ (k + 1) _ _ va' to' (by omega) (by omega) (by omega) A' (by omega) ho)))
        · rw [if_neg hz] at ho
          exact br_f (by rw [ev]; exact nI_ne0 (by omega) (by omega)) (And.intro (xg_i hn) (nm_r e3 (ih f _ (k + 1) _ _ va' to' (by omega) (by omega) (by omega) A' (by omega) ho)))
end RB
end
section
section RC
variable {f_known f_seen f_many f_ordered f_isStraight f_entered f_todo f_length f_waiting f_tellings f_last f_stopped f_steps f_ran : Int32} {f_left : Int64} {a_acts a_actV a_actC a_ends a_endV a_endX a_endY a_numbers a_byNumber a_before a_forward a_backward a_orderOf a_at a_from a_semi a_label a_up a_found a_stack a_place a_chiefs a_tails a_edges a_rulers a_loops a_innermost a_outer a_deep a_alive a_values a_present a_code a_target a_pending a_pendingOf a_begins a_openAt a_vars a_told : Nat → Int32} {g : Nat → Nat → Nat}
/-! X: follow -/
theorem rf_wl (W : gg_W g) {n : Nat} (hn : n < 16) {i : Nat} (hi : i < cd_h g n + (cd_ms g n).length) : (cd_wo g n).getD i 0 / 16 = 1 ∨ (cd_wo g n).getD i 0 / 16 = 2 := by
  have hg := cd_wg W n
  by_cases h : i < cd_h g n
  · have hH : gg_H g n := by
      apply Classical.byContradiction
      intro hH
      unfold cd_h at h
      rw [if_neg (by rw [pd_f hH]; exact Bool.noConfusion)] at h
      omega
    have h1 : cd_h g n = 1 := by unfold cd_h; rw [if_pos (pd_t hH)]
    have : i = 0 := by omega
    subst this
    rw [hg.2.2.1 hH]
    exact Or.inl (by omega)
  · have h2 := hg.1 (i - cd_h g n) (by omega)
    rw [show cd_h g n + (i - cd_h g n) = i by omega] at h2
    rw [h2]
    have := gg_R16 W ((cd_in W).mp (gw_m (cd_ms g n) (i - cd_h g n) (by omega))).1
    exact Or.inr (by omega)
theorem rf_f (W : gg_W g) (G : (xg_G g a_acts a_actV a_actC a_ends a_endV a_endX a_endY)) {L : List Nat} {sp t2 : Nat → Nat} (F : cf_F g L sp t2) (hl : L.length ≤ 260) (hc : xc_C L a_code) (hk256 : ∀ k, k < L.length → L.getD k 0 < 256) (ht : ∀ p, p < L.length → a_target p = nI (t2 p)) {lim : Nat} (hlim : lim ≤ 1000) {post : SX → Prop} {o : ((Nat → Nat) × (Nat → Nat) × Nat × Int64) × Nat × Int32 × Int32}
    (C : ∀ va to : Nat → Int32, rn_A o.1 va to → post (f_known, f_seen, f_many, f_ordered, f_isStraight, f_entered, f_todo, f_length, f_waiting, nI o.1.2.2.1, o.2.2.1, o.2.2.2, nI o.2.1, o.1.2.2.2, f_ran, a_acts, a_actV, a_actC, a_ends, a_endV, a_endX, a_endY, a_numbers, a_byNumber, a_before, a_forward, a_backward, a_orderOf, a_at, a_from, a_semi, a_label, a_up, a_found, a_stack, a_place, a_chiefs, a_tails, a_edges, a_rulers, a_loops, a_innermost, a_outer, a_deep, a_alive, a_values, a_present, a_code, a_target, a_pending, a_pendingOf, a_begins, a_openAt, va, to)) :
    ∀ (r f n k : Nat) (s : (Nat → Nat) × (Nat → Nat) × Nat × Int64) (l : Int32) (va to : Nat → Int32), 400 * r + 300 < f → k + r = lim → gg_R g n → rn_A s va to → s.2.2.1 ≤ k → rn_r g r n s k l = o → (wX_follow_2 post (nI lim) f (nI (sp n)) f_known f_seen f_many f_ordered f_isStraight f_entered f_todo f_length f_waiting (nI s.2.2.1) l 0 (nI k) s.2.2.2 f_ran a_acts a_actV a_actC a_ends a_endV a_endX a_endY a_numbers a_byNumber a_before a_forward a_backward a_orderOf a_at a_from a_semi a_label a_up a_found a_stack a_place a_chiefs a_tails a_edges a_rulers a_loops a_innermost a_outer a_deep a_alive a_values a_present a_code a_target a_pending a_pendingOf a_begins a_openAt va to) := by
  -- what is at a place
  have cw : ∀ p, p < L.length → ((a_code (nI p).toNatClampNeg) >>> ((4 : Int32) &&& 31) = nI (L.getD p 0 / 16)) ∧ ((a_code (nI p).toNatClampNeg) &&& 15 = nI (L.getD p 0 % 16)) ∧ vp_in (nI p) 260 := by
    intro p hp
    have e : a_code (nI p).toNatClampNeg = nI (L.getD p 0) := by rw [nI_clamp (by omega)]; exact hc p hp
    rw [e]
    exact ⟨xi_4 (hk256 p hp), xi_15 (hk256 p hp), vp_in_nI (by omega) (by omega)⟩
  -- words that go on
  have adv : ∀ (f p : Nat) (te l st' : Int32) (le : Int64) (va to : Nat → Int32), p < L.length → (L.getD p 0 / 16 = 1 ∨ L.getD p 0 / 16 = 2) →
      (wX_follow_2 post (nI lim) f (nI (p + 1)) f_known f_seen f_many f_ordered f_isStraight f_entered f_todo f_length f_waiting te l 0 st' le f_ran a_acts a_actV a_actC a_ends a_endV a_endX a_endY a_numbers a_byNumber a_before a_forward a_backward a_orderOf a_at a_from a_semi a_label a_up a_found a_stack a_place a_chiefs a_tails a_edges a_rulers a_loops a_innermost a_outer a_deep a_alive a_values a_present a_code a_target a_pending a_pendingOf a_begins a_openAt va to) → (wX_follow_2 post (nI lim) (f + 1) (nI p) f_known f_seen f_many f_ordered f_isStraight f_entered f_todo f_length f_waiting te l 0 st' le f_ran a_acts a_actV a_actC a_ends a_endV a_endX a_endY a_numbers a_byNumber a_before a_forward a_backward a_orderOf a_at a_from a_semi a_label a_up a_found a_stack a_place a_chiefs a_tails a_edges a_rulers a_loops a_innermost a_outer a_deep a_alive a_values a_present a_code a_target a_pending a_pendingOf a_begins a_openAt va to) := by
    intro f p te l st' le va to hp hk h
    have hcw := cw p hp
    have ne : ∀ k, k ≤ 15 → L.getD p 0 / 16 ≠ k → ¬ nI (L.getD p 0 / 16) = nI k := fun k hk h1 h2 => h1 (bs_inj h2 (by have := hk256 p hp; omega) (by omega))
    refine br_t rfl (And.intro hcw.2.2 (nm_r hcw.1 (And.intro hcw.2.2 (nm_r hcw.2.1 (br_f (ne 0 (by omega) (by omega)) ?_)))))
    exact br_f (ne 3 (by omega) (by omega)) (br_f (ne 4 (by omega) (by omega)) (br_f (ne 6 (by omega) (by omega)) (br_f (ne 7 (by omega) (by omega)) (br_t rfl (nm_r (nI_1 p) h)))))
  -- words that jump
  have jmp : ∀ (f p : Nat) (te l st' : Int32) (le : Int64) (va to : Nat → Int32), p < L.length → (L.getD p 0 / 16 = 6 ∨ L.getD p 0 / 16 = 7) →
      (wX_follow_2 post (nI lim) f (nI (t2 p)) f_known f_seen f_many f_ordered f_isStraight f_entered f_todo f_length f_waiting te l 0 st' le f_ran a_acts a_actV a_actC a_ends a_endV a_endX a_endY a_numbers a_byNumber a_before a_forward a_backward a_orderOf a_at a_from a_semi a_label a_up a_found a_stack a_place a_chiefs a_tails a_edges a_rulers a_loops a_innermost a_outer a_deep a_alive a_values a_present a_code a_target a_pending a_pendingOf a_begins a_openAt va to) → (wX_follow_2 post (nI lim) (f + 1) (nI p) f_known f_seen f_many f_ordered f_isStraight f_entered f_todo f_length f_waiting te l 0 st' le f_ran a_acts a_actV a_actC a_ends a_endV a_endX a_endY a_numbers a_byNumber a_before a_forward a_backward a_orderOf a_at a_from a_semi a_label a_up a_found a_stack a_place a_chiefs a_tails a_edges a_rulers a_loops a_innermost a_outer a_deep a_alive a_values a_present a_code a_target a_pending a_pendingOf a_begins a_openAt va to) := by
    intro f p te l st' le va to hp hk h
    have hcw := cw p hp
    have ne : ∀ k, k ≤ 15 → L.getD p 0 / 16 ≠ k → ¬ nI (L.getD p 0 / 16) = nI k := fun k hk h1 h2 => h1 (bs_inj h2 (by have := hk256 p hp; omega) (by omega))
    have et : a_target (nI p).toNatClampNeg = nI (t2 p) := by rw [nI_clamp (by omega)]; exact ht p hp
    refine br_t rfl (And.intro hcw.2.2 (nm_r hcw.1 (And.intro hcw.2.2 (nm_r hcw.2.1 (br_f (ne 0 (by omega) (by omega)) ?_)))))
    refine br_f (ne 3 (by omega) (by omega)) (br_f (ne 4 (by omega) (by omega)) ?_)
    by_cases k6 : L.getD p 0 / 16 = 6
    · exact br_t (by rw [k6]; rfl) (br_f (by decide) (And.intro hcw.2.2 (nm_r et h)))
    · exact br_f (ne 6 (by omega) k6) (br_t (by rw [show L.getD p 0 / 16 = 7 by omega]; rfl) (br_f (by decide) (And.intro hcw.2.2 (nm_r et h))))
  -- a way
  have way : ∀ (n m f q : Nat) (te l st' : Int32) (le : Int64) (va to : Nat → Int32), m < 16 → cf_w L sp t2 (cd_wy g n m) q → (∀ f', f ≤ f' + 1 → f' ≤ f → (wX_follow_2 post (nI lim) f' (nI (sp m)) f_known f_seen f_many f_ordered f_isStraight f_entered f_todo f_length f_waiting te l 0 st' le f_ran a_acts a_actV a_actC a_ends a_endV a_endX a_endY a_numbers a_byNumber a_before a_forward a_backward a_orderOf a_at a_from a_semi a_label a_up a_found a_stack a_place a_chiefs a_tails a_edges a_rulers a_loops a_innermost a_outer a_deep a_alive a_values a_present a_code a_target a_pending a_pendingOf a_begins a_openAt va to)) → 0 < f → (wX_follow_2 post (nI lim) f (nI q) f_known f_seen f_many f_ordered f_isStraight f_entered f_todo f_length f_waiting te l 0 st' le f_ran a_acts a_actV a_actC a_ends a_endV a_endX a_endY a_numbers a_byNumber a_before a_forward a_backward a_orderOf a_at a_from a_semi a_label a_up a_found a_stack a_place a_chiefs a_tails a_edges a_rulers a_loops a_innermost a_outer a_deep a_alive a_values a_present a_code a_target a_pending a_pendingOf a_begins a_openAt va to) := by
    intro n m f q te l st' le va to hm hq h hf
    have e := (cd_wy5 g n m).2.2
    unfold cf_w at hq
    rw [e] at hq
    rcases hq with ⟨_, hq⟩ | ⟨h1, h2, h3, h4⟩
    · rw [← hq]; exact h f (by omega) (Nat.le_refl _)
    · obtain ⟨f, rfl⟩ : ∃ f', f = f' + 1 := ⟨f - 1, by omega⟩
      refine jmp f q te l st' le va to h2 (by omega) ?_
      rw [h4]
      exact h f (by omega) (by omega)
  intro r
  induction r with
  | zero =>
    intro f n k s l va to hf hk hR A hte ho
    have ho : (s, k, l, (0 : Int32)) = o := ho
    subst ho
    have hF := F.1 n hR
    have hg := cd_wg W n
    have hn16 := gg_R16 W hR
    have go : ∀ (d f : Nat), d ≤ cd_h g n + (cd_ms g n).length → d < f → (wX_follow_2 post (nI lim) f (nI (sp n + (cd_h g n + (cd_ms g n).length - d))) f_known f_seen f_many f_ordered f_isStraight f_entered f_todo f_length f_waiting (nI s.2.2.1) l 0 (nI k) s.2.2.2 f_ran a_acts a_actV a_actC a_ends a_endV a_endX a_endY a_numbers a_byNumber a_before a_forward a_backward a_orderOf a_at a_from a_semi a_label a_up a_found a_stack a_place a_chiefs a_tails a_edges a_rulers a_loops a_innermost a_outer a_deep a_alive a_values a_present a_code a_target a_pending a_pendingOf a_begins a_openAt va to) := by
      intro d
      induction d with
      | zero =>
        intro f _ hf
        obtain ⟨f, rfl⟩ : ∃ f', f = f' + 1 := ⟨f - 1, by omega⟩
        have hw : L.getD (sp n + (cd_h g n + (cd_ms g n).length - 0)) 0 = n := by
          rw [Nat.sub_zero, hF.2 _ (by have := hg.2.2.2.2.2.2; omega)]; exact hg.2.1
        have hp : sp n + (cd_h g n + (cd_ms g n).length - 0) < L.length := by have := hg.2.2.2.2.2.2; omega
        have hcw := cw _ hp
        rw [hw] at hcw
        exact br_t rfl (And.intro hcw.2.2 (nm_r hcw.1 (And.intro hcw.2.2 (nm_r hcw.2.1 (br_t (by rw [show n / 16 = 0 by omega]; rfl) (br_t (by rw [show k = lim by omega]) (C va to A)))))))
      | succ d ih =>
        intro f hd hf
        obtain ⟨f, rfl⟩ : ∃ f', f = f' + 1 := ⟨f - 1, by omega⟩
        have hp : sp n + (cd_h g n + (cd_ms g n).length - (d + 1)) < L.length := by have := hg.2.2.2.2.2.2; omega
        refine adv f _ _ _ _ _ _ _ hp ?_ ?_
        · rw [hF.2 _ (by have := hg.2.2.2.2.2.2; omega)]
          exact rf_wl W hn16 (by omega)
        · rw [show sp n + (cd_h g n + (cd_ms g n).length - (d + 1)) + 1 = sp n + (cd_h g n + (cd_ms g n).length - d) by omega]
          exact ih f (by omega) (by omega)
    have h5 := go (cd_h g n + (cd_ms g n).length) f (Nat.le_refl _) (by have := hF.1; have := hg.2.2.2.2.2.2; omega)
    rw [Nat.sub_self, Nat.add_zero] at h5
    exact h5
  | succ r ih =>
    intro f n k s l va to hf hk hR A hte ho
    have hF := F.1 n hR
    have hg := cd_wg W n
    have hn16 := gg_R16 W hR
    have hw := W n
    have hG := G n hn16
    have hr : rn_r g (r + 1) n s k l = if g 0 n = 0 then (rn_v g n s, k + 1, nI n, 1) else rn_r g r (rn_x g n (rn_v g n s)) (rn_v g n s) (k + 1) (nI n) := rfl
    rw [hr] at ho
    have go : ∀ (d f : Nat), d ≤ cd_h g n + (cd_ms g n).length → 400 * r + 310 + d < f → (wX_follow_2 post (nI lim) f (nI (sp n + (cd_h g n + (cd_ms g n).length - d))) f_known f_seen f_many f_ordered f_isStraight f_entered f_todo f_length f_waiting (nI s.2.2.1) l 0 (nI k) s.2.2.2 f_ran a_acts a_actV a_actC a_ends a_endV a_endX a_endY a_numbers a_byNumber a_before a_forward a_backward a_orderOf a_at a_from a_semi a_label a_up a_found a_stack a_place a_chiefs a_tails a_edges a_rulers a_loops a_innermost a_outer a_deep a_alive a_values a_present a_code a_target a_pending a_pendingOf a_begins a_openAt va to) := by
      intro d
      induction d with
      | zero =>
        intro f _ hf
        obtain ⟨f, rfl⟩ : ∃ f', f = f' + 1 := ⟨f - 1, by omega⟩
        rw [Nat.sub_zero]
        have hw2 : L.getD (sp n + (cd_h g n + (cd_ms g n).length)) 0 = n := by
          rw [hF.2 _ (by have := hg.2.2.2.2.2.2; omega)]; exact hg.2.1
        have hp : sp n + (cd_h g n + (cd_ms g n).length) < L.length := by have := hg.2.2.2.2.2.2; omega
        have hcw := cw _ hp
        rw [hw2, show n / 16 = 0 by omega, show n % 16 = n by omega] at hcw
        refine br_t rfl (And.intro hcw.2.2 (nm_r hcw.1 (And.intro hcw.2.2 (nm_r hcw.2.1 (br_t rfl (br_f (fun h => ?_) (rx_v (f_stopped := 0) (a_vars := va) (a_told := to) W G hn16 A (by omega) ?_)))))))
        · have := bs_inj h (by omega) (by omega)
          omega
        · intro va' to' A' hte'
          refine br_f (by decide) (br_f (by decide) (br_f (by decide) (br_f (by decide) (br_t rfl (nm_r (nI_1 _) ?_)))))
          by_cases k0 : g 0 n = 0
          · rw [if_pos k0] at ho ⊢
            subst ho
            obtain ⟨f, rfl⟩ : ∃ f', f = f' + 1 := ⟨f - 1, by omega⟩
            exact br_f (by decide) (C va' to' A')
          · rw [if_neg k0] at ho ⊢
            have hwx := F.2.2.1 n hR k0
            have hEx : gg_E g n (g 2 n) := Or.inl ⟨by omega, rfl⟩
            unfold rn_x at ho
            by_cases hif : cd_if g n
            · have hlen := hg.2.2.2.1 hif
              rw [if_neg (show ¬ g 0 n = 1 by have := hif.1; omega)] at ho
              have hEy : gg_E g n (g 3 n) := Or.inr ⟨hif.1, rfl⟩
              have hpi : sp n + (cd_h g n + (cd_ms g n).length) + 1 < L.length := by omega
              have hwi : L.getD (sp n + (cd_h g n + (cd_ms g n).length) + 1) 0 = 48 + g 1 n := by
                rw [show sp n + (cd_h g n + (cd_ms g n).length) + 1 = sp n + (cd_h g n + (cd_ms g n).length + 1) by omega, hF.2 _ (by omega)]; exact hlen.2
              have hcwi := cw _ hpi
              rw [hwi, show (48 + g 1 n) / 16 = 3 by omega, show (48 + g 1 n) % 16 = g 1 n by omega] at hcwi
              have hv1 := A'.1 (g 1 n) hw.2.1
              have ev : va' (nI (g 1 n)).toNatClampNeg = nI ((rn_v g n s).1 (g 1 n)) := by rw [nI_clamp (by omega)]; exact hv1.1
              obtain ⟨f, rfl⟩ : ∃ f', f = f' + 1 := ⟨f - 1, by omega⟩
              refine br_t rfl (And.intro hcwi.2.2 (nm_r hcwi.1 (And.intro hcwi.2.2 (nm_r hcwi.2.1 (br_f (by decide) (br_t rfl (And.intro (vp_in_nI hw.2.1 (by omega)) ?_)))))))
              by_cases hz : (rn_v g n s).1 (g 1 n) = 0
              · rw [if_pos hz] at ho
                refine br_t (by rw [ev, hz]; rfl) (br_t rfl (nm_r (nI_1 _) ?_))
                rw [show sp n + (cd_h g n + (cd_ms g n).length) + 1 + 1 = sp n + (cd_wo g n).length by omega]
                exact way n (g 2 n) f _ _ _ _ _ va' to' (by omega) hwx (fun f' h1 h2 => ih f' _ (k + 1) _ _ va' to' (by omega) (by omega) (gr_st hR hEx trivial) A' (by omega) ho) (by omega)
              · rw [if_neg hz] at ho
                have hwy := F.2.2.2 n hR hif
                have et : a_target (nI (sp n + (cd_h g n + (cd_ms g n).length) + 1)).toNatClampNeg = nI (t2 (ca_p g sp n)) := by
                  rw [nI_clamp (by omega), ht _ hpi]
                  unfold ca_p
                  rw [show sp n + (cd_h g n + (cd_ms g n).length) + 1 = sp n + (cd_h g n + (cd_ms g n).length + 1) by omega]
                refine br_f (by rw [ev]; exact nI_ne0 (by omega) (by omega)) (br_f (by decide) (And.intro hcwi.2.2 (nm_r et ?_)))
                exact way n (g 3 n) f _ _ _ _ _ va' to' (by omega) hwy (fun f' h1 h2 => ih f' _ (k + 1) _ _ va' to' (by omega) (by omega) (gr_st hR hEy trivial) A' (by omega) ho) (by omega)
            · have hlen := hg.2.2.2.2.2.1 k0 hif
              have hnx : (if g 0 n = 1 then g 2 n else if (rn_v g n s).1 (g 1 n) = 0 then g 2 n else g 3 n) = g 2 n := by
                by_cases k1 : g 0 n = 1
                · rw [if_pos k1]
                · rw [if_neg k1]
                  have hxy : g 2 n = g 3 n := Classical.byContradiction (fun h => hif ⟨by omega, h⟩)
                  split
                  · rfl
                  · exact hxy.symm
              rw [hnx] at ho
              rw [show sp n + (cd_h g n + (cd_ms g n).length) + 1 = sp n + (cd_wo g n).length by omega]
              exact way n (g 2 n) f _ _ _ _ _ va' to' (by omega) hwx (fun f' h1 h2 => ih f' _ (k + 1) _ _ va' to' (by omega) (by omega) (gr_st hR hEx trivial) A' (by omega) ho) (by omega)
      | succ d ihd =>
        intro f hd hf
        obtain ⟨f, rfl⟩ : ∃ f', f = f' + 1 := ⟨f - 1, by omega⟩
        have hp : sp n + (cd_h g n + (cd_ms g n).length - (d + 1)) < L.length := by have := hg.2.2.2.2.2.2; omega
        refine adv f _ _ _ _ _ _ _ hp ?_ ?_
        · rw [hF.2 _ (by have := hg.2.2.2.2.2.2; omega)]
          exact rf_wl W hn16 (by omega)
        · rw [show sp n + (cd_h g n + (cd_ms g n).length - (d + 1)) + 1 = sp n + (cd_h g n + (cd_ms g n).length - d) by omega]
          exact ihd f (by omega) (by omega)
    have hms : cd_h g n + (cd_ms g n).length ≤ 60 := by
      have h5 := cd_ml (g := g) n (df_o g).length
      have h6 := ct_le (fun j => pd_b (dm_I (gg_E g) 0 n ((df_o g).getD j 0) ∧ gg_M g ((df_o g).getD j 0))) (df_o g).length
      have h7 := df_ln W
      have h8 : (cd_ms g n).length = ct_c (fun j => pd_b (dm_I (gg_E g) 0 n ((df_o g).getD j 0) ∧ gg_M g ((df_o g).getD j 0))) (df_o g).length := h5
      have h9 : cd_h g n ≤ 1 := by unfold cd_h; split <;> omega
      omega
    have h5 := go (cd_h g n + (cd_ms g n).length) f (Nat.le_refl _) (by omega)
    rw [Nat.sub_self, Nat.add_zero] at h5
    exact h5
end RC
end
section
section RD
variable {g_fresh g_many g_tells g_last g_runs g_stopped : Int32} {b_actKind b_actV b_actC b_endKind b_endV b_endX b_endY b_number b_before b_behind b_reached b_todo b_words b_coming b_values b_told b_variables : Nat → Int32} {g : Nat → Nat → Nat}
/-! Y: run -/
theorem ry_w (W : gg_W g) (G : (yg_G g b_actKind b_actV b_actC b_endKind b_endV b_endX b_endY)) {lim : Nat} (hlim : lim ≤ 1000) {post : Int32 → SY → Prop} {o : ((Nat → Nat) × (Nat → Nat) × Nat × Int64) × Nat × Int32 × Int32}
    (C : ∀ vb tb : Nat → Int32, rn_A o.1 vb tb → post (nI o.2.1) (g_fresh, g_many, nI o.1.2.2.1, o.2.2.1, g_runs, o.2.2.2, b_actKind, b_actV, b_actC, b_endKind, b_endV, b_endX, b_endY, b_number, b_before, b_behind, b_reached, b_todo, b_words, b_coming, b_values, tb, vb)) :
    ∀ (r f n k : Nat) (s : (Nat → Nat) × (Nat → Nat) × Nat × Int64) (l : Int32) (vb tb : Nat → Int32), r + 1 < f → k + r = lim → n < 16 → rn_A s vb tb → s.2.2.1 ≤ k → rn_r g r n s k l = o → (wY_run_65 post (nI lim) g_fresh g_many g_runs f s.2.2.2 (nI n) (nI k) (nI s.2.2.1) l 0 b_actKind b_actV b_actC b_endKind b_endV b_endX b_endY b_number b_before b_behind b_reached b_todo b_words b_coming b_values tb vb) := by
  intro r
  induction r with
  | zero =>
    intro f n k s l vb tb hf hk hn A hte ho
    obtain ⟨f, rfl⟩ : ∃ f', f = f' + 1 := ⟨f - 1, by omega⟩
    have ho : (s, k, l, (0 : Int32)) = o := ho
    subst ho
    exact br_t (nI_le (by omega) (by omega)) (C vb tb A)
  | succ r ih =>
    intro f n k s l vb tb hf hk hn A hte ho
    obtain ⟨f, rfl⟩ : ∃ f', f = f' + 1 := ⟨f - 1, by omega⟩
    have hw := W n
    have hG := G n hn
    have e0 : b_endKind (nI n).toNatClampNeg = nI (g 0 n) := by rw [nI_clamp (by omega), hG.1]
    have e4 : b_actKind (nI n).toNatClampNeg = nI (g 4 n) := by rw [nI_clamp (by omega), hG.2.2.2.1]
    have e5 : 1 ≤ g 4 n → b_actV (nI n).toNatClampNeg = nI (g 5 n) := fun h => by rw [nI_clamp (by omega), hG.2.2.2.2.1 h]
    have e6 : 1 ≤ g 4 n → g 4 n ≤ 3 → b_actC (nI n).toNatClampNeg = nI (g 6 n) := fun h h2 => by rw [nI_clamp (by omega), hG.2.2.2.2.2 h h2]
    have i5 : vp_in (nI (g 5 n)) 4 := vp_in_nI hw.2.2.2.2.2.1 (by omega)
    have ne : ∀ k, k ≤ 5 → g 4 n ≠ k → ¬ nI (g 4 n) = nI k := fun k hk h1 h2 => h1 (bs_inj h2 (by omega) (by omega))
    have hv5 := A.1 (g 5 n) hw.2.2.2.2.2.1
    have hr : rn_r g (r + 1) n s k l = if g 0 n = 0 then (rn_v g n s, k + 1, nI n, 1) else rn_r g r (rn_x g n (rn_v g n s)) (rn_v g n s) (k + 1) (nI n) := rfl
    rw [hr] at ho
    have fin : ∀ (vb' tb' : Nat → Int32) (te : Int32) (le : Int64), rn_A (rn_v g n s) vb' tb' → (rn_v g n s).2.2.1 ≤ s.2.2.1 + 1 → te = nI (rn_v g n s).2.2.1 → le = (rn_v g n s).2.2.2 →
        (wY_run_255 post (wY_run_65 post (nI lim) g_fresh g_many g_runs f) (nI lim) le (nI n) (nI (k + 1)) g_fresh g_many te (nI n) g_runs 0 b_actKind b_actV b_actC b_endKind b_endV b_endX b_endY b_number b_before b_behind b_reached b_todo b_words b_coming b_values tb' vb') := by
      intro vb' tb' te le A' hte' h1 h2
      rw [h1, h2]
      refine And.intro (xg_i hn) ?_
      by_cases k0 : g 0 n = 0
      · rw [if_pos k0] at ho
        subst ho
        obtain ⟨f, rfl⟩ : ∃ f', f = f' + 1 := ⟨f - 1, by omega⟩
        refine br_t (by rw [e0, k0]; rfl) ?_
        by_cases hle : lim ≤ k + 1
        · exact br_t (nI_le hle (by omega)) (C vb' tb' A')
        · exact br_f (nI_ge (by omega) (by omega)) (br_f (by decide) (C vb' tb' A'))
      · rw [if_neg k0] at ho
        unfold rn_x at ho
        have e2 : b_endX (nI n).toNatClampNeg = nI (g 2 n) := by rw [nI_clamp (by omega), hG.2.1 (by omega)]
        refine br_f (by rw [e0]; exact nI_ne0 (by omega) (by omega)) (And.intro (xg_i hn) ?_)
        by_cases k1 : g 0 n = 1
        · rw [if_pos k1] at ho
          exact br_t (by rw [e0, k1]; rfl) (And.intro (xg_i hn) (nm_r e2 (ih f _ (k + 1) _ _ vb' tb' (by omega) (by omega) (by omega) A' (by omega) ho)))
        · rw [if_neg k1] at ho
          have k2 : g 0 n = 2 := by omega
          have e1 : b_endV (nI n).toNatClampNeg = nI (g 1 n) := by rw [nI_clamp (by omega), (hG.2.2.1 k2).1]
          have e3 : b_endY (nI n).toNatClampNeg = nI (g 3 n) := by rw [nI_clamp (by omega), (hG.2.2.1 k2).2]
          have hv1 := A'.1 (g 1 n) hw.2.1
          have ev : vb' (b_endV (nI n).toNatClampNeg).toNatClampNeg = nI ((rn_v g n s).1 (g 1 n)) := by rw [e1, nI_clamp (by omega)]; exact hv1.1
          refine br_f (by rw [e0]; exact fun e => k1 (bs_inj (b := 1) e (by omega) (by omega))) (And.intro (xg_i hn) (And.intro (by rw [e1]; exact vp_in_nI hw.2.1 (by omega)) ?_))
          by_cases hz : (rn_v g n s).1 (g 1 n) = 0
          · rw [if_pos hz] at ho
            exact br_t (by rw [ev, hz]; rfl) (And.intro (xg_i hn) (nm_r e2 (ih f _ (k + 1) _ _ vb' tb' (by omega) (by omega) (by omega) A' (by omega) ho)))
          · rw [if_neg hz] at ho
            exact br_f (by rw [ev]; exact nI_ne0 (by omega) (by omega)) (And.intro (xg_i hn) (nm_r e3 (ih f _ (k + 1) _ _ vb' tb' (by omega) (by omega) (by omega) A' (by omega) ho)))
    refine br_f (nI_ge (by omega) (by omega)) (br_t rfl (nm_r (nI_1 k) (And.intro (xg_i hn) (nm_e (And.intro (xg_i hn) (nm_r e4 ?_))))))
    by_cases k0 : g 4 n = 0
    · have ev : rn_v g n s = s := by unfold rn_v; rw [if_neg (by omega), if_neg (by omega), if_neg (by omega), if_neg (by omega), if_neg (by omega)]
      exact br_t (by rw [k0]; decide) (fin _ _ _ _ (by rw [ev]; exact A) (by rw [ev]; omega) (by rw [ev]) (by rw [ev]))
    · have e5 := e5 (by omega)
      rw [e5]
      refine br_f (nI_nlt (b := 1) (by omega) (by omega)) (br_f (nI_nlt (a := 5) (by omega) (by omega)) ?_)
      by_cases k1 : g 4 n = 1
      · have ev : rn_v g n s = (or_p s.1 (g 5 n) (g 6 n), s.2.1, s.2.2.1, s.2.2.2) := by unfold rn_v; rw [if_pos k1]
        refine br_t (by rw [k1]; rfl) (And.intro (xg_i hn) (And.intro i5 (nm_r (e' := upd vb (g 5 n) (nI (g 6 n))) (by rw [e6 (by omega) (by omega), xg_u (by omega)]) (fin _ _ _ _ ?_ (by rw [ev]; exact Nat.le_succ _) (by rw [ev]) (by rw [ev])))))
        rw [ev]; exact rn_Av A hw.2.2.2.2.2.1 (by omega) _ _
      · refine br_f (ne 1 (by omega) k1) ?_
        by_cases k2 : g 4 n = 2
        · have ev : rn_v g n s = (or_p s.1 (g 5 n) ((s.1 (g 5 n) + g 6 n) % 16), s.2.1, s.2.2.1, s.2.2.2) := by unfold rn_v; rw [if_neg k1, if_pos k2]
          refine br_t (by rw [k2]; rfl) (And.intro i5 (And.intro (xg_i hn) (And.intro i5 (nm_r (e' := upd vb (g 5 n) (nI ((s.1 (g 5 n) + g 6 n) % 16))) (by rw [e6 (by omega) (by omega), nI_clamp (by omega), hv5.1, nI_add, pk_andN (by omega) 4 (by decide)]) (fin _ _ _ _ ?_ (by rw [ev]; exact Nat.le_succ _) (by rw [ev]) (by rw [ev]))))))
          rw [ev]; exact rn_Av A hw.2.2.2.2.2.1 (by omega) _ _
        · refine br_f (ne 2 (by omega) k2) ?_
          by_cases k3 : g 4 n = 3
          · have h64 := hw.2.2.2.2.2.2.2 k3
            have hv6 := A.1 (g 6 n) h64
            have ev : rn_v g n s = (or_p s.1 (g 5 n) (s.1 (g 6 n)), s.2.1, s.2.2.1, s.2.2.2) := by unfold rn_v; rw [if_neg k1, if_neg k2, if_pos k3]
            have e6' := e6 (by omega) (by omega)
            refine br_t (by rw [k3]; rfl) (And.intro (xg_i hn) (And.intro (by rw [e6']; exact vp_in_nI h64 (by omega)) (And.intro i5 (nm_r (e' := upd vb (g 5 n) (nI (s.1 (g 6 n)))) (by rw [e6', nI_clamp (by omega), nI_clamp (by omega), hv6.1]) (fin _ _ _ _ ?_ (by rw [ev]; exact Nat.le_succ _) (by rw [ev]) (by rw [ev]))))))
            rw [ev]; exact rn_Av A hw.2.2.2.2.2.1 hv6.2 _ _
          · refine br_f (ne 3 (by omega) k3) ?_
            by_cases k4 : g 4 n = 4
            · have ev : rn_v g n s = (s.1, or_p s.2.1 (s.2.2.1 % 8) (s.1 (g 5 n)), s.2.2.1 + 1, s.2.2.2) := by unfold rn_v; rw [if_neg k1, if_neg k2, if_neg k3, if_pos k4]
              have e7 : nI s.2.2.1 - nI s.2.2.1 / 8 * 8 = nI (s.2.2.1 % 8) := pk_rem (d := 8) (by omega) (by omega) (by omega)
              refine br_t (by rw [k4]; rfl) (nm_r (nI_1 _) (And.intro (by decide) (And.intro i5 (And.intro (by rw [e7]; exact vp_in_nI (by omega) (by omega)) (nm_r (e' := upd tb (s.2.2.1 % 8) (nI (s.1 (g 5 n)))) (by rw [e7, nI_clamp (by omega), nI_clamp (by omega), hv5.1]) (fin _ _ _ _ ?_ (by rw [ev]; exact Nat.le_refl _) (by rw [ev]) (by rw [ev])))))))
              rw [ev]; exact rn_At A hv5.2 _ _
            · refine br_f (ne 4 (by omega) k4) ?_
              have k5 : g 4 n = 5 := by omega
              have h15 := rn_15c s.2.2.2
              have ev : rn_v g n s = (or_p s.1 (g 5 n) (s.2.2.2 &&& 15).toInt32.toNatClampNeg, s.2.1, s.2.2.1, (s.2.2.2.toUInt64 >>> ((4 : Int32).toInt64.toUInt64 &&& Int64.toUInt64 63)).toInt64) := by unfold rn_v; rw [if_neg k1, if_neg k2, if_neg k3, if_neg k4, if_pos k5]
              refine br_t (by rw [k5]; rfl) (And.intro i5 (nm_r (e' := upd vb (g 5 n) (nI (s.2.2.2 &&& 15).toInt32.toNatClampNeg)) (by rw [← h15.1, xg_u (by omega)]) (nm_e (fin _ _ _ _ ?_ (by rw [ev]; exact Nat.le_succ _) (by rw [ev]) (by rw [ev])))))
              rw [ev]; exact rn_Av A hw.2.2.2.2.2.1 h15.2 _ _
end RD
end
section
section ZA
/-! the relation -/
def rl_R (f_known f_seen f_many f_isStraight f_entered f_length f_tellings f_last f_stopped f_ran g_fresh g_tells g_last g_runs g_stopped : Int32) (a_numbers a_byNumber a_before a_chiefs a_tails a_edges a_rulers a_loops a_innermost a_deep a_alive a_values a_code a_target a_acts a_actV a_actC a_ends a_endV a_endX a_endY a_vars a_told b_actKind b_actV b_actC b_endKind b_endV b_endX b_endY b_number b_before b_behind b_variables b_told : Nat → Int32) : Prop :=
  ∃ (g : Nat → Nat → Nat) (s : (Nat → Nat) × (Nat → Nat) × Nat × Int64), gg_W g ∧ (xg_G g a_acts a_actV a_actC a_ends a_endV a_endX a_endY) ∧ (yg_G g b_actKind b_actV b_actC b_endKind b_endV b_endX b_endY) ∧ (f_known = 0 ∨ f_known = 1) ∧ (f_known = 1 → (xk_K g f_seen f_many f_isStraight f_entered f_length a_numbers a_byNumber a_before a_chiefs a_tails a_edges a_rulers a_loops a_innermost a_deep a_alive a_values a_code a_target)) ∧ (g_fresh = 0 ∨ g_fresh = 1) ∧ (g_fresh = 1 → yk_K g b_number b_before b_behind) ∧
    ((f_ran = 0 ∧ g_runs = 0) ∨ (f_ran = 1 ∧ g_runs = 1)) ∧ rn_A s a_vars a_told ∧ rn_A s b_variables b_told ∧ f_tellings = nI s.2.2.1 ∧ g_tells = nI s.2.2.1 ∧ s.2.2.1 ≤ 1000 ∧ f_last = g_last ∧ f_stopped = g_stopped ∧ (f_stopped = 0 ∨ f_stopped = 1)
def i_Rel (k : Nat) (u : SX) (v : SY) : Prop := match u, v with
  | (f_known, f_seen, f_many, f_ordered, f_isStraight, f_entered, f_todo, f_length, f_waiting, f_tellings, f_last, f_stopped, f_steps, f_left, f_ran, a_acts, a_actV, a_actC, a_ends, a_endV, a_endX, a_endY, a_numbers, a_byNumber, a_before, a_forward, a_backward, a_orderOf, a_at, a_from, a_semi, a_label, a_up, a_found, a_stack, a_place, a_chiefs, a_tails, a_edges, a_rulers, a_loops, a_innermost, a_outer, a_deep, a_alive, a_values, a_present, a_code, a_target, a_pending, a_pendingOf, a_begins, a_openAt, a_vars, a_told), (g_fresh, g_many, g_tells, g_last, g_runs, g_stopped, b_actKind, b_actV, b_actC, b_endKind, b_endV, b_endX, b_endY, b_number, b_before, b_behind, b_reached, b_todo, b_words, b_coming, b_values, b_told, b_variables) => (rl_R f_known f_seen f_many f_isStraight f_entered f_length f_tellings f_last f_stopped f_ran g_fresh g_tells g_last g_runs g_stopped a_numbers a_byNumber a_before a_chiefs a_tails a_edges a_rulers a_loops a_innermost a_deep a_alive a_values a_code a_target a_acts a_actV a_actC a_ends a_endV a_endX a_endY a_vars a_told b_actKind b_actV b_actC b_endKind b_endV b_endX b_endY b_number b_before b_behind b_variables b_told)
theorem zz_el {P : SX → SY → Prop} {k : Nat} {u : SX} {v : SY} (h : ∀ (f_known f_seen f_many f_ordered f_isStraight f_entered f_todo f_length f_waiting f_tellings f_last f_stopped f_steps f_ran : Int32) (f_left : Int64) (a_acts a_actV a_actC a_ends a_endV a_endX a_endY a_numbers a_byNumber a_before a_forward a_backward a_orderOf a_at a_from a_semi a_label a_up a_found a_stack a_place a_chiefs a_tails a_edges a_rulers a_loops a_innermost a_outer a_deep a_alive a_values a_present a_code a_target a_pending a_pendingOf a_begins a_openAt a_vars a_told : Nat → Int32), ∀ (g_fresh g_many g_tells g_last g_runs g_stopped : Int32) (b_actKind b_actV b_actC b_endKind b_endV b_endX b_endY b_number b_before b_behind b_reached b_todo b_words b_coming b_values b_told b_variables : Nat → Int32), (rl_R f_known f_seen f_many f_isStraight f_entered f_length f_tellings f_last f_stopped f_ran g_fresh g_tells g_last g_runs g_stopped a_numbers a_byNumber a_before a_chiefs a_tails a_edges a_rulers a_loops a_innermost a_deep a_alive a_values a_code a_target a_acts a_actV a_actC a_ends a_endV a_endX a_endY a_vars a_told b_actKind b_actV b_actC b_endKind b_endV b_endX b_endY b_number b_before b_behind b_variables b_told) → P (f_known, f_seen, f_many, f_ordered, f_isStraight, f_entered, f_todo, f_length, f_waiting, f_tellings, f_last, f_stopped, f_steps, f_left, f_ran, a_acts, a_actV, a_actC, a_ends, a_endV, a_endX, a_endY, a_numbers, a_byNumber, a_before, a_forward, a_backward, a_orderOf, a_at, a_from, a_semi, a_label, a_up, a_found, a_stack, a_place, a_chiefs, a_tails, a_edges, a_rulers, a_loops, a_innermost, a_outer, a_deep, a_alive, a_values, a_present, a_code, a_target, a_pending, a_pendingOf, a_begins, a_openAt, a_vars, a_told) (g_fresh, g_many, g_tells, g_last, g_runs, g_stopped, b_actKind, b_actV, b_actC, b_endKind, b_endV, b_endX, b_endY, b_number, b_before, b_behind, b_reached, b_todo, b_words, b_coming, b_values, b_told, b_variables)) (I : i_Rel k u v) : P u v := by
  obtain ⟨f_known, f_seen, f_many, f_ordered, f_isStraight, f_entered, f_todo, f_length, f_waiting, f_tellings, f_last, f_stopped, f_steps, f_left, f_ran, a_acts, a_actV, a_actC, a_ends, a_endV, a_endX, a_endY, a_numbers, a_byNumber, a_before, a_forward, a_backward, a_orderOf, a_at, a_from, a_semi, a_label, a_up, a_found, a_stack, a_place, a_chiefs, a_tails, a_edges, a_rulers, a_loops, a_innermost, a_outer, a_deep, a_alive, a_values, a_present, a_code, a_target, a_pending, a_pendingOf, a_begins, a_openAt, a_vars, a_told⟩ := u
  obtain ⟨g_fresh, g_many, g_tells, g_last, g_runs, g_stopped, b_actKind, b_actV, b_actC, b_endKind, b_endV, b_endX, b_endY, b_number, b_before, b_behind, b_reached, b_todo, b_words, b_coming, b_values, b_told, b_variables⟩ := v
  exact h f_known f_seen f_many f_ordered f_isStraight f_entered f_todo f_length f_waiting f_tellings f_last f_stopped f_steps f_ran f_left a_acts a_actV a_actC a_ends a_endV a_endX a_endY a_numbers a_byNumber a_before a_forward a_backward a_orderOf a_at a_from a_semi a_label a_up a_found a_stack a_place a_chiefs a_tails a_edges a_rulers a_loops a_innermost a_outer a_deep a_alive a_values a_present a_code a_target a_pending a_pendingOf a_begins a_openAt a_vars a_told g_fresh g_many g_tells g_last g_runs g_stopped b_actKind b_actV b_actC b_endKind b_endV b_endX b_endY b_number b_before b_behind b_reached b_todo b_words b_coming b_values b_told b_variables I
theorem i_up {k : Nat} {u : SX} {v : SY} (h : i_Rel k u v) : i_Rel (k + 6) u v := h
theorem i_vc0 : wpX_init (fun u => wpY_init (fun v => i_Rel 0 u v)) := by
  refine ⟨fun _ _ => 0, (fun _ => 0, fun _ => 0, 0, 0), ?_, ?_, ?_, Or.inl rfl, fun h => absurd h (by decide), Or.inl rfl, fun h => absurd h (by decide), Or.inl ⟨rfl, rfl⟩, ⟨?_, ?_⟩, ⟨?_, ?_⟩, rfl, rfl, Nat.zero_le _, rfl, rfl, Or.inl rfl⟩
  · intro i
    exact ⟨by show 0 ≤ 2; omega, by show 0 < 4; omega, by show 0 < 16; omega, by show 0 < 16; omega, by show 0 ≤ 5; omega, by show 0 < 4; omega, by show 0 < 16; omega, fun _ => by show 0 < 4; omega⟩
  · intro i _
    exact ⟨rfl, rfl, rfl, rfl, rfl, rfl, rfl⟩
  · intro i _
    exact ⟨rfl, fun _ => rfl, fun _ => ⟨rfl, rfl⟩, rfl, fun _ => rfl, fun _ _ => rfl⟩
  · intro i _
    exact ⟨rfl, by show 0 < 16; omega⟩
  · intro i _
    exact ⟨rfl, by show 0 < 16; omega⟩
  · intro i _
    exact ⟨rfl, by show 0 < 16; omega⟩
  · intro i _
    exact ⟨rfl, by show 0 < 16; omega⟩
/-! drawing -/
def gg_u (g : Nat → Nat → Nat) (n : Nat) (x : Nat → Nat) : Nat → Nat → Nat := fun f i => if i = n then x f else g f i
theorem gg_us {g : Nat → Nat → Nat} {n f : Nat} {x : Nat → Nat} : gg_u g n x f n = x f := if_pos rfl
theorem gg_un {g : Nat → Nat → Nat} {n f i : Nat} {x : Nat → Nat} (h : i ≠ n) : gg_u g n x f i = g f i := if_neg h
theorem rl_nd (x : Int32) {post : Int32 → Prop} (h1 : ∀ n, n < 16 → x = nI n → post 1) (h0 : (∀ n, n < 16 → x ≠ nI n) → post 0) : wpX_isNode post x := by
  by_cases hx : x < 0
  · refine br_t hx (h0 (fun j hj e => ?_))
    rw [e] at hx
    exact nI_pos (by omega) hx
  · refine br_f hx ?_
    obtain ⟨j, hj, rfl⟩ := nI_of hx
    by_cases hjN : j < 16
    · exact br_f (nI_ge (b := 16) hjN (by omega)) (h1 j hjN rfl)
    · exact br_t (nI_le (a := 16) (by omega) (by omega)) (h0 (fun i hi e => by have := bs_inj e hj (by omega); omega))
theorem rl_vr (x : Int32) {post : Int32 → Prop} (h1 : ∀ n, n < 4 → x = nI n → post 1) (h0 : (∀ n, n < 4 → x ≠ nI n) → post 0) : wpX_isVariable post x := by
  by_cases hx : x < 0
  · refine br_t hx (h0 (fun j hj e => ?_))
    rw [e] at hx
    exact nI_pos (by omega) hx
  · refine br_f hx ?_
    obtain ⟨j, hj, rfl⟩ := nI_of hx
    by_cases hjN : j < 4
    · exact br_f (nI_ge (b := 4) hjN (by omega)) (h1 j hjN rfl)
    · exact br_t (nI_le (a := 4) (by omega) (by omega)) (h0 (fun i hi e => by have := bs_inj e hj (by omega); omega))
theorem rl_ny {x : Int32} (N : Nat) (hN : N < 2 ^ 31) {post : Int32 → Prop} (h : ∀ n, n ≤ N → x ≠ nI n) (h0 : post 0) : wpY_in post x 0 (nI N) :=
  yg_in hN (fun j hj e => absurd e (h j hj)) (fun _ => h0)
theorem rl_py {n : Nat} (N : Nat) (hN : N < 2 ^ 31) {post : Int32 → Prop} (h : n ≤ N) (h1 : post 1) : wpY_in post (nI n) 0 (nI N) :=
  yg_in hN (fun _ _ _ => h1) (fun h2 => absurd rfl (h2 n h))
end ZA
section ZB
variable {f_known f_seen f_many f_ordered f_isStraight f_entered f_todo f_length f_waiting f_tellings f_last f_stopped f_steps f_ran : Int32} {f_left : Int64} {a_acts a_actV a_actC a_ends a_endV a_endX a_endY a_numbers a_byNumber a_before a_forward a_backward a_orderOf a_at a_from a_semi a_label a_up a_found a_stack a_place a_chiefs a_tails a_edges a_rulers a_loops a_innermost a_outer a_deep a_alive a_values a_present a_code a_target a_pending a_pendingOf a_begins a_openAt a_vars a_told : Nat → Int32} {g_fresh g_many g_tells g_last g_runs g_stopped : Int32} {b_actKind b_actV b_actC b_endKind b_endV b_endX b_endY b_number b_before b_behind b_reached b_todo b_words b_coming b_values b_told b_variables : Nat → Int32}
/-- X stores an act as it is, Y too; what isn't asked for is left out by X -/
theorem ac_x {n k : Nat} {v c : Int32} {post : Int32 → SX → Prop} (hn : n < 16) (hk : k ≤ 5) (hv : 1 ≤ k → ∃ j, j < 4 ∧ v = nI j) (hc1 : k = 1 ∨ k = 2 → ∃ j, j < 16 ∧ c = nI j) (hc3 : k = 3 → ∃ j, j < 4 ∧ c = nI j)
    (C : ∀ j j' : Nat, j < 4 → j' < 16 → (k = 3 → j' < 4) → (1 ≤ k → v = nI j) → (1 ≤ k → k ≤ 3 → c = nI j') → post 1 (0, f_seen, f_many, f_ordered, f_isStraight, f_entered, f_todo, f_length, f_waiting, f_tellings, f_last, f_stopped, f_steps, f_left, f_ran, upd a_acts n (nI k), upd a_actV n (nI j), upd a_actC n (nI j'), a_ends, a_endV, a_endX, a_endY, a_numbers, a_byNumber, a_before, a_forward, a_backward, a_orderOf, a_at, a_from, a_semi, a_label, a_up, a_found, a_stack, a_place, a_chiefs, a_tails, a_edges, a_rulers, a_loops, a_innermost, a_outer, a_deep, a_alive, a_values, a_present, a_code, a_target, a_pending, a_pendingOf, a_begins, a_openAt, a_vars, a_told)) : (wX_act_62 post (nI n) (nI k) v c f_known f_seen f_many f_ordered f_isStraight f_entered f_todo f_length f_waiting f_tellings f_last f_stopped f_steps f_left f_ran a_acts a_actV a_actC a_ends a_endV a_endX a_endY a_numbers a_byNumber a_before a_forward a_backward a_orderOf a_at a_from a_semi a_label a_up a_found a_stack a_place a_chiefs a_tails a_edges a_rulers a_loops a_innermost a_outer a_deep a_alive a_values a_present a_code a_target a_pending a_pendingOf a_begins a_openAt a_vars a_told) := by
  refine And.intro (xg_i hn) (nm_r (e' := upd a_acts n (nI k)) (by rw [bs_vbb (by omega), xg_u (by omega)]) ?_)
  by_cases k0 : k = 0
  · subst k0
    refine br_t (by decide) (And.intro (xg_i hn) (nm_r (e' := upd a_actV n (nI 0)) (by rw [xg_u (by omega)]; exact congrArg (upd a_actV n) (bs_vbb (k := 0) (by omega))) ?_))
    refine br_t (by decide) (And.intro (xg_i hn) (nm_r (e' := upd a_actC n (nI 0)) (by rw [xg_u (by omega)]; exact congrArg (upd a_actC n) (bs_vbb (k := 0) (by omega))) ?_))
    exact C 0 0 (by omega) (by omega) (fun h => by omega) (fun h => by omega) (fun h => by omega)
  · obtain ⟨j, hj, rfl⟩ := hv (by omega)
    refine br_f (nI_nle (by omega) (by omega)) (And.intro (xg_i hn) (nm_r (e' := upd a_actV n (nI j)) (by rw [bs_vbb (by omega), xg_u (by omega)]) (br_f (nI_nle (by omega) (by omega)) ?_)))
    by_cases k4 : 4 ≤ k
    · refine br_t (nI_le (a := 4) k4 (by omega)) (And.intro (xg_i hn) (nm_r (e' := upd a_actC n (nI 0)) (by rw [xg_u (by omega)]; exact congrArg (upd a_actC n) (bs_vbb (k := 0) (by omega))) ?_))
      exact C j 0 hj (by omega) (fun h => by omega) (fun _ => rfl) (fun _ h => by omega)
    · have hc : ∃ j', j' < 16 ∧ (k = 3 → j' < 4) ∧ c = nI j' := by
        by_cases k3 : k = 3
        · obtain ⟨j', h1, h2⟩ := hc3 k3
          exact ⟨j', by omega, fun _ => h1, h2⟩
        · obtain ⟨j', h1, h2⟩ := hc1 (by omega)
          exact ⟨j', h1, fun h => absurd h k3, h2⟩
      obtain ⟨j', h1, h2, rfl⟩ := hc
      refine br_f (nI_ge (b := 4) (by omega) (by omega)) (And.intro (xg_i hn) (nm_r (e' := upd a_actC n (nI j')) (by rw [bs_vbb (by omega), xg_u (by omega)]) ?_))
      exact C j j' hj h1 h2 (fun _ => rfl) (fun _ _ => rfl)
theorem rl_act {R : (rl_R f_known f_seen f_many f_isStraight f_entered f_length f_tellings f_last f_stopped f_ran g_fresh g_tells g_last g_runs g_stopped a_numbers a_byNumber a_before a_chiefs a_tails a_edges a_rulers a_loops a_innermost a_deep a_alive a_values a_code a_target a_acts a_actV a_actC a_ends a_endV a_endX a_endY a_vars a_told b_actKind b_actV b_actC b_endKind b_endV b_endX b_endY b_number b_before b_behind b_variables b_told)} {n k j j' : Nat} {v c : Int32} (hn : n < 16) (hk : k ≤ 5) (hj : j < 4) (hj' : j' < 16) (h3 : k = 3 → j' < 4) (hv : 1 ≤ k → v = nI j) (hc : 1 ≤ k → k ≤ 3 → c = nI j') (m : Nat) :
    i_Rel m (0, f_seen, f_many, f_ordered, f_isStraight, f_entered, f_todo, f_length, f_waiting, f_tellings, f_last, f_stopped, f_steps, f_left, f_ran, upd a_acts n (nI k), upd a_actV n (nI j), upd a_actC n (nI j'), a_ends, a_endV, a_endX, a_endY, a_numbers, a_byNumber, a_before, a_forward, a_backward, a_orderOf, a_at, a_from, a_semi, a_label, a_up, a_found, a_stack, a_place, a_chiefs, a_tails, a_edges, a_rulers, a_loops, a_innermost, a_outer, a_deep, a_alive, a_values, a_present, a_code, a_target, a_pending, a_pendingOf, a_begins, a_openAt, a_vars, a_told) (0, g_many, g_tells, g_last, g_runs, g_stopped, upd b_actKind n (nI k), upd b_actV n v, upd b_actC n c, b_endKind, b_endV, b_endX, b_endY, b_number, b_before, b_behind, b_reached, b_todo, b_words, b_coming, b_values, b_told, b_variables) := by
  obtain ⟨g, s, W, GX, GY, h1, h2, h4, h5, h6⟩ := R
  refine ⟨gg_u g n (fun f => if f = 4 then k else if f = 5 then j else if f = 6 then j' else g f n), s, ?_, ?_, ?_, Or.inl rfl, fun h => absurd h (by decide), Or.inl rfl, fun h => absurd h (by decide), h6⟩
  · intro i
    by_cases e : i = n
    · subst e
      simp only [gg_us]
      have := W i
      exact ⟨this.1, this.2.1, this.2.2.1, this.2.2.2.1, hk, hj, hj', h3⟩
    · simp only [gg_un e]
      exact W i
  · intro i hi
    by_cases e : i = n
    · subst e
      simp only [gg_us, pk_us]
      have := GX i hi
      exact ⟨this.1, this.2.1, this.2.2.1, this.2.2.2.1, rfl, rfl, rfl⟩
    · simp only [gg_un e, pk_un e]
      exact GX i hi
  · intro i hi
    by_cases e : i = n
    · subst e
      simp only [gg_us, pk_us]
      have := GY i hi
      exact ⟨this.1, this.2.1, this.2.2.1, rfl, hv, hc⟩
    · simp only [gg_un e, pk_un e]
      exact GY i hi
end ZB
end
section
section ZC
variable {f_known f_seen f_many f_ordered f_isStraight f_entered f_todo f_length f_waiting f_tellings f_last f_stopped f_steps f_ran : Int32} {f_left : Int64} {a_acts a_actV a_actC a_ends a_endV a_endX a_endY a_numbers a_byNumber a_before a_forward a_backward a_orderOf a_at a_from a_semi a_label a_up a_found a_stack a_place a_chiefs a_tails a_edges a_rulers a_loops a_innermost a_outer a_deep a_alive a_values a_present a_code a_target a_pending a_pendingOf a_begins a_openAt a_vars a_told : Nat → Int32} {g_fresh g_many g_tells g_last g_runs g_stopped : Int32} {b_actKind b_actV b_actC b_endKind b_endV b_endX b_endY b_number b_before b_behind b_reached b_todo b_words b_coming b_values b_told b_variables : Nat → Int32}
def va_V (x1 x2 x3 x4 : Int32) : Prop := (∃ n, n < 16 ∧ x1 = nI n) ∧ ∃ k, k ≤ 5 ∧ x2 = nI k ∧ (1 ≤ k → ∃ j, j < 4 ∧ x3 = nI j) ∧ (k = 1 ∨ k = 2 → ∃ j, j < 16 ∧ x4 = nI j) ∧ (k = 3 → ∃ j, j < 4 ∧ x4 = nI j)
theorem va_k {x2 : Int32} {k k' : Nat} (h : x2 = nI k) (h' : x2 = nI k') (hk : k ≤ 5) (hk' : k' ≤ 5) : k' = k := by
  rw [h] at h'
  exact (bs_inj h' (by omega) (by omega)).symm
theorem ac_X {x1 x2 x3 x4 : Int32} {post : Int32 → SX → Prop} (h1 : va_V x1 x2 x3 x4 → (wX_act_62 post x1 x2 x3 x4 f_known f_seen f_many f_ordered f_isStraight f_entered f_todo f_length f_waiting f_tellings f_last f_stopped f_steps f_left f_ran a_acts a_actV a_actC a_ends a_endV a_endX a_endY a_numbers a_byNumber a_before a_forward a_backward a_orderOf a_at a_from a_semi a_label a_up a_found a_stack a_place a_chiefs a_tails a_edges a_rulers a_loops a_innermost a_outer a_deep a_alive a_values a_present a_code a_target a_pending a_pendingOf a_begins a_openAt a_vars a_told)) (h0 : ¬ va_V x1 x2 x3 x4 → post 0 (f_known, f_seen, f_many, f_ordered, f_isStraight, f_entered, f_todo, f_length, f_waiting, f_tellings, f_last, f_stopped, f_steps, f_left, f_ran, a_acts, a_actV, a_actC, a_ends, a_endV, a_endX, a_endY, a_numbers, a_byNumber, a_before, a_forward, a_backward, a_orderOf, a_at, a_from, a_semi, a_label, a_up, a_found, a_stack, a_place, a_chiefs, a_tails, a_edges, a_rulers, a_loops, a_innermost, a_outer, a_deep, a_alive, a_values, a_present, a_code, a_target, a_pending, a_pendingOf, a_begins, a_openAt, a_vars, a_told)) : (wpX_act post (f_known, f_seen, f_many, f_ordered, f_isStraight, f_entered, f_todo, f_length, f_waiting, f_tellings, f_last, f_stopped, f_steps, f_left, f_ran, a_acts, a_actV, a_actC, a_ends, a_endV, a_endX, a_endY, a_numbers, a_byNumber, a_before, a_forward, a_backward, a_orderOf, a_at, a_from, a_semi, a_label, a_up, a_found, a_stack, a_place, a_chiefs, a_tails, a_edges, a_rulers, a_loops, a_innermost, a_outer, a_deep, a_alive, a_values, a_present, a_code, a_target, a_pending, a_pendingOf, a_begins, a_openAt, a_vars, a_told) x1 x2 x3 x4) := by
  unfold wpX_act
  refine rl_nd x1 ?_ (fun h => br_t rfl (h0 (fun V => by obtain ⟨⟨n, hn, e⟩, _⟩ := V; exact h n hn e)))
  intro n hn en
  refine br_f (by decide) ?_
  by_cases hx : x2 < 0
  · refine br_t hx (h0 (fun V => ?_))
    obtain ⟨_, k, hk, e, _⟩ := V
    rw [e] at hx
    exact nI_pos (by omega) hx
  · refine br_f hx ?_
    obtain ⟨k, hk31, ek⟩ := nI_of hx
    by_cases hk5 : k ≤ 5
    · refine br_f (by rw [ek]; exact nI_nlt (a := 5) hk5 (by omega)) ?_
      have c3 : (1 ≤ k → ∃ j, j < 4 ∧ x3 = nI j) → (wX_act_29 post x1 x2 x3 x4 f_known f_seen f_many f_ordered f_isStraight f_entered f_todo f_length f_waiting f_tellings f_last f_stopped f_steps f_left f_ran a_acts a_actV a_actC a_ends a_endV a_endX a_endY a_numbers a_byNumber a_before a_forward a_backward a_orderOf a_at a_from a_semi a_label a_up a_found a_stack a_place a_chiefs a_tails a_edges a_rulers a_loops a_innermost a_outer a_deep a_alive a_values a_present a_code a_target a_pending a_pendingOf a_begins a_openAt a_vars a_told) := by
        intro hv
        have c2 : (k = 3 → ∃ j, j < 4 ∧ x4 = nI j) → (wX_act_42 post x1 x2 x3 x4 f_known f_seen f_many f_ordered f_isStraight f_entered f_todo f_length f_waiting f_tellings f_last f_stopped f_steps f_left f_ran a_acts a_actV a_actC a_ends a_endV a_endX a_endY a_numbers a_byNumber a_before a_forward a_backward a_orderOf a_at a_from a_semi a_label a_up a_found a_stack a_place a_chiefs a_tails a_edges a_rulers a_loops a_innermost a_outer a_deep a_alive a_values a_present a_code a_target a_pending a_pendingOf a_begins a_openAt a_vars a_told) := by
          intro h3
          have c1 : k = 1 ∨ k = 2 → (wX_act_52 post x1 x2 x3 x4 f_known f_seen f_many f_ordered f_isStraight f_entered f_todo f_length f_waiting f_tellings f_last f_stopped f_steps f_left f_ran a_acts a_actV a_actC a_ends a_endV a_endX a_endY a_numbers a_byNumber a_before a_forward a_backward a_orderOf a_at a_from a_semi a_label a_up a_found a_stack a_place a_chiefs a_tails a_edges a_rulers a_loops a_innermost a_outer a_deep a_alive a_values a_present a_code a_target a_pending a_pendingOf a_begins a_openAt a_vars a_told) := by
            intro h12
            unfold wX_act_52
            refine rl_nd x4 ?_ ?_
            · intro j hj e
              exact br_f (by decide) (h1 ⟨⟨n, hn, en⟩, k, hk5, ek, hv, fun _ => ⟨j, hj, e⟩, h3⟩)
            · intro h
              refine br_t rfl (h0 (fun V => ?_))
              obtain ⟨_, k', hk', e', _, h12', _⟩ := V
              have := va_k ek e' hk5 hk'
              subst this
              obtain ⟨j, hj, e⟩ := h12' h12
              exact h j hj e
          by_cases k1 : k = 1
          · exact br_t (by rw [ek, k1]; rfl) (c1 (Or.inl k1))
          · refine br_f (by rw [ek]; exact fun h => k1 (bs_inj (b := 1) h (by omega) (by omega))) ?_
            by_cases k2 : k = 2
            · exact br_t (by rw [ek, k2]; rfl) (c1 (Or.inr k2))
            · exact br_f (by rw [ek]; exact fun h => k2 (bs_inj (b := 2) h (by omega) (by omega))) (h1 ⟨⟨n, hn, en⟩, k, hk5, ek, hv, fun h => by omega, h3⟩)
        by_cases k3 : k = 3
        · refine br_t (by rw [ek, k3]; rfl) (rl_vr x4 ?_ ?_)
          · intro j hj e
            exact br_f (by decide) (c2 (fun _ => ⟨j, hj, e⟩))
          · intro h
            refine br_t rfl (h0 (fun V => ?_))
            obtain ⟨_, k', hk', e', _, _, h3'⟩ := V
            have := va_k ek e' hk5 hk'
            subst this
            obtain ⟨j, hj, e⟩ := h3' k3
            exact h j hj e
        · exact br_f (by rw [ek]; exact fun h => k3 (bs_inj (b := 3) h (by omega) (by omega))) (c2 (fun h => absurd h k3))
      by_cases k0 : k = 0
      · exact br_t (by rw [ek, k0]; decide) (c3 (fun h => by omega))
      · refine br_f (by rw [ek]; exact nI_nle (by omega) (by omega)) (rl_vr x3 ?_ ?_)
        · intro j hj e
          exact br_f (by decide) (c3 (fun _ => ⟨j, hj, e⟩))
        · intro h
          refine br_t rfl (h0 (fun V => ?_))
          obtain ⟨_, k', hk', e', hv', _⟩ := V
          have := va_k ek e' hk5 hk'
          subst this
          obtain ⟨j, hj, e⟩ := hv' (by omega)
          exact h j hj e
    · refine br_t (by rw [ek]; exact nI_lt (a := 5) (by omega) (by omega)) (h0 (fun V => ?_))
      obtain ⟨_, k', hk', e', _⟩ := V
      rw [ek] at e'
      have := bs_inj e' (by omega) (by omega)
      omega
theorem ac_Y {x1 x2 x3 x4 : Int32} {post : Int32 → SY → Prop} (h1 : va_V x1 x2 x3 x4 → (wY_act_70 post x1 x2 x3 x4 g_fresh g_many g_tells g_last g_runs g_stopped b_actKind b_actV b_actC b_endKind b_endV b_endX b_endY b_number b_before b_behind b_reached b_todo b_words b_coming b_values b_told b_variables)) (h0 : ¬ va_V x1 x2 x3 x4 → post 0 (g_fresh, g_many, g_tells, g_last, g_runs, g_stopped, b_actKind, b_actV, b_actC, b_endKind, b_endV, b_endX, b_endY, b_number, b_before, b_behind, b_reached, b_todo, b_words, b_coming, b_values, b_told, b_variables)) : (wpY_act post (g_fresh, g_many, g_tells, g_last, g_runs, g_stopped, b_actKind, b_actV, b_actC, b_endKind, b_endV, b_endX, b_endY, b_number, b_before, b_behind, b_reached, b_todo, b_words, b_coming, b_values, b_told, b_variables) x1 x2 x3 x4) := by
  unfold wpY_act
  refine yg_in (N := 15) (by omega) ?_ (fun h => br_t rfl (h0 (fun V => by obtain ⟨⟨n, hn, e⟩, _⟩ := V; exact h n (by omega) e)))
  intro n hn en
  refine br_f (by decide) (yg_in (N := 5) (by omega) ?_ (fun h => br_t rfl (h0 (fun V => by obtain ⟨_, k, hk, e, _⟩ := V; exact h k hk e))))
  intro k hk5 ek
  refine br_f (by decide) ?_
  have c3 : (1 ≤ k → ∃ j, j < 4 ∧ x3 = nI j) → (wY_act_32 post x1 x2 x3 x4 g_fresh g_many g_tells g_last g_runs g_stopped b_actKind b_actV b_actC b_endKind b_endV b_endX b_endY b_number b_before b_behind b_reached b_todo b_words b_coming b_values b_told b_variables) := by
    intro hv
    have c2 : (k = 1 ∨ k = 2 → ∃ j, j < 16 ∧ x4 = nI j) → (wY_act_53 post x1 x2 x3 x4 g_fresh g_many g_tells g_last g_runs g_stopped b_actKind b_actV b_actC b_endKind b_endV b_endX b_endY b_number b_before b_behind b_reached b_todo b_words b_coming b_values b_told b_variables) := by
      intro h12
      by_cases k3 : k = 3
      · refine br_t (by rw [ek, k3]; rfl) (yg_in (N := 3) (by omega) ?_ ?_)
        · intro j hj e
          exact br_f (by decide) (h1 ⟨⟨n, by omega, en⟩, k, hk5, ek, hv, h12, fun _ => ⟨j, by omega, e⟩⟩)
        · intro h
          refine br_t rfl (h0 (fun V => ?_))
          obtain ⟨_, k', hk', e', _, _, h3'⟩ := V
          have := va_k ek e' hk5 hk'
          subst this
          obtain ⟨j, hj, e⟩ := h3' k3
          exact h j (by omega) e
      · exact br_f (by rw [ek]; exact fun h => k3 (bs_inj (b := 3) h (by omega) (by omega))) (h1 ⟨⟨n, by omega, en⟩, k, hk5, ek, hv, h12, fun h => absurd h k3⟩)
    have c1 : k = 1 ∨ k = 2 → (wY_act_42 post x1 x2 x3 x4 g_fresh g_many g_tells g_last g_runs g_stopped b_actKind b_actV b_actC b_endKind b_endV b_endX b_endY b_number b_before b_behind b_reached b_todo b_words b_coming b_values b_told b_variables) := by
      intro h12
      unfold wY_act_42
      refine yg_in (N := 15) (by omega) ?_ ?_
      · intro j hj e
        exact br_f (by decide) (c2 (fun _ => ⟨j, by omega, e⟩))
      · intro h
        refine br_t rfl (h0 (fun V => ?_))
        obtain ⟨_, k', hk', e', _, h12', _⟩ := V
        have := va_k ek e' hk5 hk'
        subst this
        obtain ⟨j, hj, e⟩ := h12' h12
        exact h j (by omega) e
    by_cases k1 : k = 1
    · exact br_t (by rw [ek, k1]; rfl) (c1 (Or.inl k1))
    · refine br_f (by rw [ek]; exact fun h => k1 (bs_inj (b := 1) h (by omega) (by omega))) ?_
      by_cases k2 : k = 2
      · exact br_t (by rw [ek, k2]; rfl) (c1 (Or.inr k2))
      · exact br_f (by rw [ek]; exact fun h => k2 (bs_inj (b := 2) h (by omega) (by omega))) (c2 (fun h => by omega))
  by_cases k0 : k = 0
  · exact br_t (by rw [ek, k0]; decide) (c3 (fun h => by omega))
  · refine br_f (by rw [ek]; exact nI_nle (by omega) (by omega)) (yg_in (N := 3) (by omega) ?_ ?_)
    · intro j hj e
      exact br_f (by decide) (c3 (fun _ => ⟨j, by omega, e⟩))
    · intro h
      refine br_t rfl (h0 (fun V => ?_))
      obtain ⟨_, k', hk', e', hv', _⟩ := V
      have := va_k ek e' hk5 hk'
      subst this
      obtain ⟨j, hj, e⟩ := hv' (by omega)
      exact h j (by omega) e
end ZC
section ZD
theorem i_vc_act {k : Nat} {u : SX} {v : SY} (I : i_Rel k u v) (hk : k + 6 ≤ 3072) (v1 : Int32) (v2 : Int32) (v3 : Int32) (v4 : Int32) : wpX_act (fun r u' => wpY_act (fun r' v' => r' = r ∧ i_Rel (k + 6) u' v') v v1 v2 v3 v4) u v1 v2 v3 v4 := by
  refine zz_el (P := fun u v => wpX_act (fun r u' => wpY_act (fun r' v' => r' = r ∧ i_Rel (k + 6) u' v') v v1 v2 v3 v4) u v1 v2 v3 v4) ?_ I
  intro f_known f_seen f_many f_ordered f_isStraight f_entered f_todo f_length f_waiting f_tellings f_last f_stopped f_steps f_ran f_left a_acts a_actV a_actC a_ends a_endV a_endX a_endY a_numbers a_byNumber a_before a_forward a_backward a_orderOf a_at a_from a_semi a_label a_up a_found a_stack a_place a_chiefs a_tails a_edges a_rulers a_loops a_innermost a_outer a_deep a_alive a_values a_present a_code a_target a_pending a_pendingOf a_begins a_openAt a_vars a_told g_fresh g_many g_tells g_last g_runs g_stopped b_actKind b_actV b_actC b_endKind b_endV b_endX b_endY b_number b_before b_behind b_reached b_todo b_words b_coming b_values b_told b_variables R
  refine ac_X ?_ ?_
  · intro V
    have V' := V
    obtain ⟨⟨n, hn, e1⟩, kk, hk5, e2, h1, h2, h3⟩ := V'
    subst e1 e2
    refine ac_x hn hk5 h1 h2 h3 ?_
    intro j j' hj hj' hj3 hv hc
    refine ac_Y ?_ (fun h => absurd V h)
    intro _
    exact And.intro (xg_i hn) (nm_r (e' := upd b_actKind n (nI kk)) (by rw [xg_u (by omega)]) (And.intro (xg_i hn) (nm_r (e' := upd b_actV n v3) (by rw [xg_u (by omega)]) (And.intro (xg_i hn) (nm_r (e' := upd b_actC n v4) (by rw [xg_u (by omega)]) ⟨rfl, rl_act (R := R) hn hk5 hj hj' hj3 hv hc _⟩)))))
  · intro V
    exact ac_Y (fun h => absurd h V) (fun _ => ⟨rfl, R⟩)
end ZD
end
section
section ZE
variable {f_known f_seen f_many f_ordered f_isStraight f_entered f_todo f_length f_waiting f_tellings f_last f_stopped f_steps f_ran : Int32} {f_left : Int64} {a_acts a_actV a_actC a_ends a_endV a_endX a_endY a_numbers a_byNumber a_before a_forward a_backward a_orderOf a_at a_from a_semi a_label a_up a_found a_stack a_place a_chiefs a_tails a_edges a_rulers a_loops a_innermost a_outer a_deep a_alive a_values a_present a_code a_target a_pending a_pendingOf a_begins a_openAt a_vars a_told : Nat → Int32} {g_fresh g_many g_tells g_last g_runs g_stopped : Int32} {b_actKind b_actV b_actC b_endKind b_endV b_endX b_endY b_number b_before b_behind b_reached b_todo b_words b_coming b_values b_told b_variables : Nat → Int32}
def ve_V (x1 x2 x3 x4 x5 : Int32) : Prop := (∃ n, n < 16 ∧ x1 = nI n) ∧ ∃ k, k ≤ 2 ∧ x2 = nI k ∧ (1 ≤ k → ∃ j, j < 16 ∧ x4 = nI j) ∧ (k = 2 → (∃ j, j < 4 ∧ x3 = nI j) ∧ ∃ j, j < 16 ∧ x5 = nI j)
theorem en_x {n k : Nat} {v x y : Int32} {post : Int32 → SX → Prop} (hn : n < 16) (hk : k ≤ 2) (hx : 1 ≤ k → ∃ j, j < 16 ∧ x = nI j) (h2 : k = 2 → (∃ j, j < 4 ∧ v = nI j) ∧ ∃ j, j < 16 ∧ y = nI j)
    (C : ∀ jv jx jy : Nat, jv < 4 → jx < 16 → jy < 16 → (1 ≤ k → x = nI jx) → (k = 2 → v = nI jv ∧ y = nI jy) → post 1 (0, f_seen, f_many, f_ordered, f_isStraight, f_entered, f_todo, f_length, f_waiting, f_tellings, f_last, f_stopped, f_steps, f_left, f_ran, a_acts, a_actV, a_actC, upd a_ends n (nI k), upd a_endV n (nI jv), upd a_endX n (nI jx), upd a_endY n (nI jy), a_numbers, a_byNumber, a_before, a_forward, a_backward, a_orderOf, a_at, a_from, a_semi, a_label, a_up, a_found, a_stack, a_place, a_chiefs, a_tails, a_edges, a_rulers, a_loops, a_innermost, a_outer, a_deep, a_alive, a_values, a_present, a_code, a_target, a_pending, a_pendingOf, a_begins, a_openAt, a_vars, a_told)) : (wX_end_50 post (nI n) (nI k) v x y f_known f_seen f_many f_ordered f_isStraight f_entered f_todo f_length f_waiting f_tellings f_last f_stopped f_steps f_left f_ran a_acts a_actV a_actC a_ends a_endV a_endX a_endY a_numbers a_byNumber a_before a_forward a_backward a_orderOf a_at a_from a_semi a_label a_up a_found a_stack a_place a_chiefs a_tails a_edges a_rulers a_loops a_innermost a_outer a_deep a_alive a_values a_present a_code a_target a_pending a_pendingOf a_begins a_openAt a_vars a_told) := by
  refine And.intro (xg_i hn) (nm_r (e' := upd a_ends n (nI k)) (by rw [bs_vbb (by omega), xg_u (by omega)]) ?_)
  have z0 : ∀ a : Nat → Int32, upd a (nI n).toNatClampNeg (vp_nar .byte ((0 : Int32).toInt8.toInt32)) = upd a n (nI 0) := fun a => by
    rw [xg_u (by omega)]; exact congrArg (upd a n) (bs_vbb (k := 0) (by omega))
  by_cases k2 : k = 2
  · obtain ⟨⟨jv, hjv, rfl⟩, jy, hjy, rfl⟩ := h2 k2
    obtain ⟨jx, hjx, rfl⟩ := hx (by omega)
    refine br_t (by rw [k2]; rfl) (And.intro (xg_i hn) (nm_r (e' := upd a_endV n (nI jv)) (by rw [bs_vbb (by omega), xg_u (by omega)]) (br_f (nI_nle (by omega) (by omega)) ?_)))
    refine And.intro (xg_i hn) (nm_r (e' := upd a_endX n (nI jx)) (by rw [bs_vbb (by omega), xg_u (by omega)]) (br_t (by rw [k2]; rfl) (And.intro (xg_i hn) (nm_r (e' := upd a_endY n (nI jy)) (by rw [bs_vbb (by omega), xg_u (by omega)]) ?_))))
    exact C jv jx jy hjv hjx hjy (fun _ => rfl) (fun _ => ⟨rfl, rfl⟩)
  · have nk2 : ¬ nI k = 2 := fun h => k2 (bs_inj (b := 2) h (by omega) (by omega))
    refine br_f nk2 (And.intro (xg_i hn) (nm_r (e' := upd a_endV n (nI 0)) (z0 _) ?_))
    by_cases k0 : k = 0
    · refine br_t (by rw [k0]; decide) (And.intro (xg_i hn) (nm_r (e' := upd a_endX n (nI 0)) (z0 _) (br_f nk2 (And.intro (xg_i hn) (nm_r (e' := upd a_endY n (nI 0)) (z0 _) ?_)))))
      exact C 0 0 0 (by omega) (by omega) (by omega) (fun h => by omega) (fun h => absurd h k2)
    · obtain ⟨jx, hjx, rfl⟩ := hx (by omega)
      refine br_f (nI_nle (by omega) (by omega)) (And.intro (xg_i hn) (nm_r (e' := upd a_endX n (nI jx)) (by rw [bs_vbb (by omega), xg_u (by omega)]) (br_f nk2 (And.intro (xg_i hn) (nm_r (e' := upd a_endY n (nI 0)) (z0 _) ?_)))))
      exact C 0 jx 0 (by omega) hjx (by omega) (fun _ => rfl) (fun h => absurd h k2)
theorem rl_end {R : (rl_R f_known f_seen f_many f_isStraight f_entered f_length f_tellings f_last f_stopped f_ran g_fresh g_tells g_last g_runs g_stopped a_numbers a_byNumber a_before a_chiefs a_tails a_edges a_rulers a_loops a_innermost a_deep a_alive a_values a_code a_target a_acts a_actV a_actC a_ends a_endV a_endX a_endY a_vars a_told b_actKind b_actV b_actC b_endKind b_endV b_endX b_endY b_number b_before b_behind b_variables b_told)} {n k jv jx jy : Nat} {v x y : Int32} (hn : n < 16) (hk : k ≤ 2) (hjv : jv < 4) (hjx : jx < 16) (hjy : jy < 16) (hx : 1 ≤ k → x = nI jx) (h2 : k = 2 → v = nI jv ∧ y = nI jy) (m : Nat) :
    i_Rel m (0, f_seen, f_many, f_ordered, f_isStraight, f_entered, f_todo, f_length, f_waiting, f_tellings, f_last, f_stopped, f_steps, f_left, f_ran, a_acts, a_actV, a_actC, upd a_ends n (nI k), upd a_endV n (nI jv), upd a_endX n (nI jx), upd a_endY n (nI jy), a_numbers, a_byNumber, a_before, a_forward, a_backward, a_orderOf, a_at, a_from, a_semi, a_label, a_up, a_found, a_stack, a_place, a_chiefs, a_tails, a_edges, a_rulers, a_loops, a_innermost, a_outer, a_deep, a_alive, a_values, a_present, a_code, a_target, a_pending, a_pendingOf, a_begins, a_openAt, a_vars, a_told) (0, g_many, g_tells, g_last, g_runs, g_stopped, b_actKind, b_actV, b_actC, upd b_endKind n (nI k), upd b_endV n v, upd b_endX n x, upd b_endY n y, b_number, b_before, b_behind, b_reached, b_todo, b_words, b_coming, b_values, b_told, b_variables) := by
  obtain ⟨g, s, W, GX, GY, h1, h3, h4, h5, h6⟩ := R
  refine ⟨gg_u g n (fun f => if f = 0 then k else if f = 1 then jv else if f = 2 then jx else if f = 3 then jy else g f n), s, ?_, ?_, ?_, Or.inl rfl, fun h => absurd h (by decide), Or.inl rfl, fun h => absurd h (by decide), h6⟩
  · intro i
    by_cases e : i = n
    · subst e
      simp only [gg_us]
      have := W i
      exact ⟨hk, hjv, hjx, hjy, this.2.2.2.2.1, this.2.2.2.2.2.1, this.2.2.2.2.2.2.1, this.2.2.2.2.2.2.2⟩
    · simp only [gg_un e]
      exact W i
  · intro i hi
    by_cases e : i = n
    · subst e
      simp only [gg_us, pk_us]
      have := GX i hi
      exact ⟨rfl, rfl, rfl, rfl, this.2.2.2.2.1, this.2.2.2.2.2.1, this.2.2.2.2.2.2⟩
    · simp only [gg_un e, pk_un e]
      exact GX i hi
  · intro i hi
    by_cases e : i = n
    · subst e
      simp only [gg_us, pk_us]
      have := GY i hi
      exact ⟨rfl, hx, h2, this.2.2.2.1, this.2.2.2.2.1, this.2.2.2.2.2⟩
    · simp only [gg_un e, pk_un e]
      exact GY i hi
theorem ve_k {x2 : Int32} {k k' : Nat} (h : x2 = nI k) (h' : x2 = nI k') (hk : k ≤ 2) (hk' : k' ≤ 2) : k' = k := va_k h h' (by omega) (by omega)
theorem en_X {x1 x2 x3 x4 x5 : Int32} {post : Int32 → SX → Prop} (h1 : ve_V x1 x2 x3 x4 x5 → (wX_end_50 post x1 x2 x3 x4 x5 f_known f_seen f_many f_ordered f_isStraight f_entered f_todo f_length f_waiting f_tellings f_last f_stopped f_steps f_left f_ran a_acts a_actV a_actC a_ends a_endV a_endX a_endY a_numbers a_byNumber a_before a_forward a_backward a_orderOf a_at a_from a_semi a_label a_up a_found a_stack a_place a_chiefs a_tails a_edges a_rulers a_loops a_innermost a_outer a_deep a_alive a_values a_present a_code a_target a_pending a_pendingOf a_begins a_openAt a_vars a_told)) (h0 : ¬ ve_V x1 x2 x3 x4 x5 → post 0 (f_known, f_seen, f_many, f_ordered, f_isStraight, f_entered, f_todo, f_length, f_waiting, f_tellings, f_last, f_stopped, f_steps, f_left, f_ran, a_acts, a_actV, a_actC, a_ends, a_endV, a_endX, a_endY, a_numbers, a_byNumber, a_before, a_forward, a_backward, a_orderOf, a_at, a_from, a_semi, a_label, a_up, a_found, a_stack, a_place, a_chiefs, a_tails, a_edges, a_rulers, a_loops, a_innermost, a_outer, a_deep, a_alive, a_values, a_present, a_code, a_target, a_pending, a_pendingOf, a_begins, a_openAt, a_vars, a_told)) : (wpX_end post (f_known, f_seen, f_many, f_ordered, f_isStraight, f_entered, f_todo, f_length, f_waiting, f_tellings, f_last, f_stopped, f_steps, f_left, f_ran, a_acts, a_actV, a_actC, a_ends, a_endV, a_endX, a_endY, a_numbers, a_byNumber, a_before, a_forward, a_backward, a_orderOf, a_at, a_from, a_semi, a_label, a_up, a_found, a_stack, a_place, a_chiefs, a_tails, a_edges, a_rulers, a_loops, a_innermost, a_outer, a_deep, a_alive, a_values, a_present, a_code, a_target, a_pending, a_pendingOf, a_begins, a_openAt, a_vars, a_told) x1 x2 x3 x4 x5) := by
  unfold wpX_end
  refine rl_nd x1 ?_ (fun h => br_t rfl (h0 (fun V => by obtain ⟨⟨n, hn, e⟩, _⟩ := V; exact h n hn e)))
  intro n hn en
  refine br_f (by decide) ?_
  by_cases hx : x2 < 0
  · refine br_t hx (h0 (fun V => ?_))
    obtain ⟨_, k, hk, e, _⟩ := V
    rw [e] at hx
    exact nI_pos (by omega) hx
  · refine br_f hx ?_
    obtain ⟨k, hk31, ek⟩ := nI_of hx
    by_cases hk2 : k ≤ 2
    · refine br_f (by rw [ek]; exact nI_nlt (a := 2) hk2 (by omega)) ?_
      have c2 : (1 ≤ k → ∃ j, j < 16 ∧ x4 = nI j) → (wX_end_28 post x1 x2 x3 x4 x5 f_known f_seen f_many f_ordered f_isStraight f_entered f_todo f_length f_waiting f_tellings f_last f_stopped f_steps f_left f_ran a_acts a_actV a_actC a_ends a_endV a_endX a_endY a_numbers a_byNumber a_before a_forward a_backward a_orderOf a_at a_from a_semi a_label a_up a_found a_stack a_place a_chiefs a_tails a_edges a_rulers a_loops a_innermost a_outer a_deep a_alive a_values a_present a_code a_target a_pending a_pendingOf a_begins a_openAt a_vars a_told) := by
        intro h4
        by_cases k2 : k = 2
        · refine br_t (by rw [ek, k2]; rfl) (rl_vr x3 ?_ ?_)
          · intro j hj e
            refine br_f (by decide) (rl_nd x5 ?_ ?_)
            · intro j' hj' e'
              exact br_f (by decide) (h1 ⟨⟨n, hn, en⟩, k, hk2, ek, h4, fun _ => ⟨⟨j, hj, e⟩, j', hj', e'⟩⟩)
            · intro h
              refine br_t rfl (h0 (fun V => ?_))
              obtain ⟨_, k', hk', e', _, h2'⟩ := V
              have := ve_k ek e' hk2 hk'
              subst this
              obtain ⟨_, j, hj, e⟩ := h2' k2
              exact h j hj e
          · intro h
            refine br_t rfl (h0 (fun V => ?_))
            obtain ⟨_, k', hk', e', _, h2'⟩ := V
            have := ve_k ek e' hk2 hk'
            subst this
            obtain ⟨⟨j, hj, e⟩, _⟩ := h2' k2
            exact h j hj e
        · exact br_f (by rw [ek]; exact fun h => k2 (bs_inj (b := 2) h (by omega) (by omega))) (h1 ⟨⟨n, hn, en⟩, k, hk2, ek, h4, fun h => absurd h k2⟩)
      by_cases k0 : k = 0
      · exact br_t (by rw [ek, k0]; decide) (c2 (fun h => by omega))
      · refine br_f (by rw [ek]; exact nI_nle (by omega) (by omega)) (rl_nd x4 ?_ ?_)
        · intro j hj e
          exact br_f (by decide) (c2 (fun _ => ⟨j, hj, e⟩))
        · intro h
          refine br_t rfl (h0 (fun V => ?_))
          obtain ⟨_, k', hk', e', hv', _⟩ := V
          have := ve_k ek e' hk2 hk'
          subst this
          obtain ⟨j, hj, e⟩ := hv' (by omega)
          exact h j hj e
    · refine br_t (by rw [ek]; exact nI_lt (a := 2) (by omega) (by omega)) (h0 (fun V => ?_))
      obtain ⟨_, k', hk', e', _⟩ := V
      rw [ek] at e'
      have := bs_inj e' (by omega) (by omega)
      omega
theorem en_Y {x1 x2 x3 x4 x5 : Int32} {post : Int32 → SY → Prop} (h1 : ve_V x1 x2 x3 x4 x5 → (wY_end_61 post x1 x2 x3 x4 x5 g_fresh g_many g_tells g_last g_runs g_stopped b_actKind b_actV b_actC b_endKind b_endV b_endX b_endY b_number b_before b_behind b_reached b_todo b_words b_coming b_values b_told b_variables)) (h0 : ¬ ve_V x1 x2 x3 x4 x5 → post 0 (g_fresh, g_many, g_tells, g_last, g_runs, g_stopped, b_actKind, b_actV, b_actC, b_endKind, b_endV, b_endX, b_endY, b_number, b_before, b_behind, b_reached, b_todo, b_words, b_coming, b_values, b_told, b_variables)) : (wpY_end post (g_fresh, g_many, g_tells, g_last, g_runs, g_stopped, b_actKind, b_actV, b_actC, b_endKind, b_endV, b_endX, b_endY, b_number, b_before, b_behind, b_reached, b_todo, b_words, b_coming, b_values, b_told, b_variables) x1 x2 x3 x4 x5) := by
  unfold wpY_end
  refine yg_in (N := 15) (by omega) ?_ (fun h => br_t rfl (h0 (fun V => by obtain ⟨⟨n, hn, e⟩, _⟩ := V; exact h n (by omega) e)))
  intro n hn en
  refine br_f (by decide) (yg_in (N := 2) (by omega) ?_ (fun h => br_t rfl (h0 (fun V => by obtain ⟨_, k, hk, e, _⟩ := V; exact h k hk e))))
  intro k hk2 ek
  refine br_f (by decide) ?_
  have c2 : (1 ≤ k → ∃ j, j < 16 ∧ x4 = nI j) → (wY_end_34 post x1 x2 x3 x4 x5 g_fresh g_many g_tells g_last g_runs g_stopped b_actKind b_actV b_actC b_endKind b_endV b_endX b_endY b_number b_before b_behind b_reached b_todo b_words b_coming b_values b_told b_variables) := by
    intro h4
    by_cases k2 : k = 2
    · refine br_t (by rw [ek, k2]; rfl) (yg_in (N := 3) (by omega) ?_ ?_)
      · intro j hj e
        refine br_f (by decide) (yg_in (N := 15) (by omega) ?_ ?_)
        · intro j' hj' e'
          exact br_f (by decide) (h1 ⟨⟨n, by omega, en⟩, k, hk2, ek, h4, fun _ => ⟨⟨j, by omega, e⟩, j', by omega, e'⟩⟩)
        · intro h
          refine br_t rfl (h0 (fun V => ?_))
          obtain ⟨_, k', hk', e', _, h2'⟩ := V
          have := ve_k ek e' hk2 hk'
          subst this
          obtain ⟨_, j, hj, e⟩ := h2' k2
          exact h j (by omega) e
      · intro h
        refine br_t rfl (h0 (fun V => ?_))
        obtain ⟨_, k', hk', e', _, h2'⟩ := V
        have := ve_k ek e' hk2 hk'
        subst this
        obtain ⟨⟨j, hj, e⟩, _⟩ := h2' k2
        exact h j (by omega) e
    · exact br_f (by rw [ek]; exact fun h => k2 (bs_inj (b := 2) h (by omega) (by omega))) (h1 ⟨⟨n, by omega, en⟩, k, hk2, ek, h4, fun h => absurd h k2⟩)
  by_cases k0 : k = 0
  · exact br_t (by rw [ek, k0]; decide) (c2 (fun h => by omega))
  · refine br_f (by rw [ek]; exact nI_nle (by omega) (by omega)) (yg_in (N := 15) (by omega) ?_ ?_)
    · intro j hj e
      exact br_f (by decide) (c2 (fun _ => ⟨j, by omega, e⟩))
    · intro h
      refine br_t rfl (h0 (fun V => ?_))
      obtain ⟨_, k', hk', e', hv', _⟩ := V
      have := ve_k ek e' hk2 hk'
      subst this
      obtain ⟨j, hj, e⟩ := hv' (by omega)
      exact h j (by omega) e
end ZE
section ZF
theorem i_vc_end {k : Nat} {u : SX} {v : SY} (I : i_Rel k u v) (hk : k + 6 ≤ 3072) (v1 : Int32) (v2 : Int32) (v3 : Int32) (v4 : Int32) (v5 : Int32) : wpX_end (fun r u' => wpY_end (fun r' v' => r' = r ∧ i_Rel (k + 6) u' v') v v1 v2 v3 v4 v5) u v1 v2 v3 v4 v5 := by
  refine zz_el (P := fun u v => wpX_end (fun r u' => wpY_end (fun r' v' => r' = r ∧ i_Rel (k + 6) u' v') v v1 v2 v3 v4 v5) u v1 v2 v3 v4 v5) ?_ I
  intro f_known f_seen f_many f_ordered f_isStraight f_entered f_todo f_length f_waiting f_tellings f_last f_stopped f_steps f_ran f_left a_acts a_actV a_actC a_ends a_endV a_endX a_endY a_numbers a_byNumber a_before a_forward a_backward a_orderOf a_at a_from a_semi a_label a_up a_found a_stack a_place a_chiefs a_tails a_edges a_rulers a_loops a_innermost a_outer a_deep a_alive a_values a_present a_code a_target a_pending a_pendingOf a_begins a_openAt a_vars a_told g_fresh g_many g_tells g_last g_runs g_stopped b_actKind b_actV b_actC b_endKind b_endV b_endX b_endY b_number b_before b_behind b_reached b_todo b_words b_coming b_values b_told b_variables R
  refine en_X ?_ ?_
  · intro V
    have V' := V
    obtain ⟨⟨n, hn, e1⟩, kk, hk2, e2, h1, h2⟩ := V'
    subst e1 e2
    refine en_x hn hk2 h1 h2 ?_
    intro jv jx jy hjv hjx hjy hx h2'
    refine en_Y ?_ (fun h => absurd V h)
    intro _
    exact And.intro (xg_i hn) (nm_r (e' := upd b_endKind n (nI kk)) (by rw [xg_u (by omega)]) (And.intro (xg_i hn) (nm_r (e' := upd b_endV n v3) (by rw [xg_u (by omega)]) (And.intro (xg_i hn) (nm_r (e' := upd b_endX n v4) (by rw [xg_u (by omega)]) (And.intro (xg_i hn) (nm_r (e' := upd b_endY n v5) (by rw [xg_u (by omega)]) ⟨rfl, rl_end (R := R) hn hk2 hjv hjx hjy hx h2' _⟩)))))))
  · intro V
    exact en_Y (fun h => absurd h V) (fun _ => ⟨rfl, R⟩)
end ZF
end
section
section ZG
theorem rn_vt {g : Nat → Nat → Nat} {n : Nat} {s : (Nat → Nat) × (Nat → Nat) × Nat × Int64} : (rn_v g n s).2.2.1 ≤ s.2.2.1 + 1 := by
  unfold rn_v
  split
  · exact Nat.le_succ _
  · split
    · exact Nat.le_succ _
    · split
      · exact Nat.le_succ _
      · split
        · exact Nat.le_refl _
        · split
          · exact Nat.le_succ _
          · exact Nat.le_succ _
theorem rn_te {g : Nat → Nat → Nat} : ∀ (r n k : Nat) (s : (Nat → Nat) × (Nat → Nat) × Nat × Int64) (l : Int32), s.2.2.1 ≤ k → (rn_r g r n s k l).1.2.2.1 ≤ k + r ∧ ((rn_r g r n s k l).2.2.2 = 0 ∨ (rn_r g r n s k l).2.2.2 = 1)
  | 0, n, k, s, l, h => ⟨h, Or.inl rfl⟩
  | r + 1, n, k, s, l, h => by
    have hv := rn_vt (g := g) (n := n) (s := s)
    show (if g 0 n = 0 then (rn_v g n s, k + 1, nI n, (1 : Int32)) else rn_r g r (rn_x g n (rn_v g n s)) (rn_v g n s) (k + 1) (nI n)).1.2.2.1 ≤ k + (r + 1) ∧ ((if g 0 n = 0 then (rn_v g n s, k + 1, nI n, (1 : Int32)) else rn_r g r (rn_x g n (rn_v g n s)) (rn_v g n s) (k + 1) (nI n)).2.2.2 = 0 ∨ (if g 0 n = 0 then (rn_v g n s, k + 1, nI n, (1 : Int32)) else rn_r g r (rn_x g n (rn_v g n s)) (rn_v g n s) (k + 1) (nI n)).2.2.2 = 1)
    by_cases h0 : g 0 n = 0
    · rw [if_pos h0]
      exact ⟨by show (rn_v g n s).2.2.1 ≤ _; omega, Or.inr rfl⟩
    · rw [if_neg h0]
      have := rn_te (g := g) r (rn_x g n (rn_v g n s)) (k + 1) (rn_v g n s) (nI n) (by omega)
      exact ⟨by omega, this.2⟩
theorem i_vc_ran {k : Nat} {u : SX} {v : SY} (I : i_Rel k u v) (hk : k + 6 ≤ 3072) (v1 : Int32) : wpX_ran (fun r => wpY_ran (fun r' => r' = r ∧ i_Rel (k + 6) u v) v v1) u v1 := by
  refine zz_el (P := fun u v => wpX_ran (fun r => wpY_ran (fun r' => r' = r ∧ i_Rel (k + 6) u v) v v1) u v1) ?_ I
  intro f_known f_seen f_many f_ordered f_isStraight f_entered f_todo f_length f_waiting f_tellings f_last f_stopped f_steps f_ran f_left a_acts a_actV a_actC a_ends a_endV a_endX a_endY a_numbers a_byNumber a_before a_forward a_backward a_orderOf a_at a_from a_semi a_label a_up a_found a_stack a_place a_chiefs a_tails a_edges a_rulers a_loops a_innermost a_outer a_deep a_alive a_values a_present a_code a_target a_pending a_pendingOf a_begins a_openAt a_vars a_told g_fresh g_many g_tells g_last g_runs g_stopped b_actKind b_actV b_actC b_endKind b_endV b_endX b_endY b_number b_before b_behind b_reached b_todo b_words b_coming b_values b_told b_variables R
  have R0 : i_Rel (k + 6) (f_known, f_seen, f_many, f_ordered, f_isStraight, f_entered, f_todo, f_length, f_waiting, f_tellings, f_last, f_stopped, f_steps, f_left, f_ran, a_acts, a_actV, a_actC, a_ends, a_endV, a_endX, a_endY, a_numbers, a_byNumber, a_before, a_forward, a_backward, a_orderOf, a_at, a_from, a_semi, a_label, a_up, a_found, a_stack, a_place, a_chiefs, a_tails, a_edges, a_rulers, a_loops, a_innermost, a_outer, a_deep, a_alive, a_values, a_present, a_code, a_target, a_pending, a_pendingOf, a_begins, a_openAt, a_vars, a_told) (g_fresh, g_many, g_tells, g_last, g_runs, g_stopped, b_actKind, b_actV, b_actC, b_endKind, b_endV, b_endX, b_endY, b_number, b_before, b_behind, b_reached, b_todo, b_words, b_coming, b_values, b_told, b_variables) := R
  generalize hQ : i_Rel (k + 6) (f_known, f_seen, f_many, f_ordered, f_isStraight, f_entered, f_todo, f_length, f_waiting, f_tellings, f_last, f_stopped, f_steps, f_left, f_ran, a_acts, a_actV, a_actC, a_ends, a_endV, a_endX, a_endY, a_numbers, a_byNumber, a_before, a_forward, a_backward, a_orderOf, a_at, a_from, a_semi, a_label, a_up, a_found, a_stack, a_place, a_chiefs, a_tails, a_edges, a_rulers, a_loops, a_innermost, a_outer, a_deep, a_alive, a_values, a_present, a_code, a_target, a_pending, a_pendingOf, a_begins, a_openAt, a_vars, a_told) (g_fresh, g_many, g_tells, g_last, g_runs, g_stopped, b_actKind, b_actV, b_actC, b_endKind, b_endV, b_endX, b_endY, b_number, b_before, b_behind, b_reached, b_todo, b_words, b_coming, b_values, b_told, b_variables) = Q at R0 ⊢
  obtain ⟨g, s, W, GX, GY, h1, h2, h3, h4, h5, A, B, e1, e2, hte, e3, e4, h6⟩ := R
  subst e1 e2 e3 e4
  rcases h5 with ⟨e5, e6⟩ | ⟨e5, e6⟩
  · exact br_t e5 (br_t e6 ⟨rfl, R0⟩)
  · refine br_f (by rw [e5]; decide) ?_
    have y0 : ∀ {post : Int32 → Prop}, (∀ j, j ≤ 11 → v1 ≠ nI j) → post (-1) → (wpY_ran post (g_fresh, g_many, nI s.2.2.1, f_last, g_runs, f_stopped, b_actKind, b_actV, b_actC, b_endKind, b_endV, b_endX, b_endY, b_number, b_before, b_behind, b_reached, b_todo, b_words, b_coming, b_values, b_told, b_variables) v1) := by
      intro post h hp
      exact br_f (by rw [e6]; decide) (rl_ny 11 (by omega) h (br_t rfl hp))
    by_cases hx : v1 < 0
    · exact br_t hx (y0 (fun j hj e => by rw [e] at hx; exact nI_pos (by omega) hx) ⟨rfl, R0⟩)
    · refine br_f hx ?_
      obtain ⟨p, hp31, rfl⟩ := nI_of hx
      by_cases hp : p ≤ 11
      · refine br_t (nI_le (b := 11) hp (by omega)) ?_
        have ne : ∀ j, j ≤ 11 → p ≠ j → ¬ nI p = nI j := fun j hj h1 h2 => h1 (bs_inj h2 (by omega) (by omega))
        by_cases p0 : p = 0
        · refine br_t (by rw [p0]; rfl) (br_f (by rw [e6]; decide) (rl_py 11 (by omega) hp (br_f (by decide) (br_t (by rw [p0]; rfl) ⟨?_, R0⟩))))
          rw [(A.1 0 (by omega)).1, (A.1 1 (by omega)).1, (A.1 2 (by omega)).1, (A.1 3 (by omega)).1, (B.1 0 (by omega)).1, (B.1 1 (by omega)).1, (B.1 2 (by omega)).1, (B.1 3 (by omega)).1]
        · refine br_f (ne 0 (by omega) p0) ?_
          by_cases p1 : p = 1
          · exact br_t (by rw [p1]; rfl) (br_f (by rw [e6]; decide) (rl_py 11 (by omega) hp (br_f (by decide) (br_f (ne 0 (by omega) p0) (br_t (by rw [p1]; rfl) ⟨rfl, R0⟩)))))
          · refine br_f (ne 1 (by omega) p1) ?_
            by_cases p10 : p = 10
            · exact br_t (by rw [p10]; rfl) (br_f (by rw [e6]; decide) (rl_py 11 (by omega) hp (br_f (by decide) (br_f (ne 0 (by omega) p0) (br_f (ne 1 (by omega) p1) (br_t (by rw [p10]; rfl) ⟨rfl, R0⟩))))))
            · refine br_f (ne 10 (by omega) p10) ?_
              by_cases p11 : p = 11
              · refine br_t (by rw [p11]; rfl) (br_f (by rw [e6]; decide) (rl_py 11 (by omega) hp (br_f (by decide) (br_f (ne 0 (by omega) p0) (br_f (ne 1 (by omega) p1) (br_f (ne 10 (by omega) p10) (br_t (by rw [p11]; rfl) ?_)))))))
                rcases h6 with e | e
                · exact br_t e ⟨e.symm, R0⟩
                · exact br_f (by rw [e]; decide) ⟨e.symm, R0⟩
              · refine br_f (ne 11 (by omega) p11) ?_
                have e2 : (nI p - 2 : Int32) = nI (p - 2) := by rw [show (2 : Int32) = nI 2 from rfl, pk_sub (by omega)]
                by_cases hle : s.2.2.1 ≤ p - 2
                · exact br_t (by rw [e2]; exact nI_le hle (by omega)) (br_f (by rw [e6]; decide) (rl_py 11 (by omega) hp (br_f (by decide) (br_f (ne 0 (by omega) p0) (br_f (ne 1 (by omega) p1) (br_f (ne 10 (by omega) p10) (br_f (ne 11 (by omega) p11) (br_f (by rw [e2]; exact nI_nlt hle (by omega)) ⟨rfl, R0⟩))))))))
                · have ex : ((nI s.2.2.1 + 1) - nI p) &&& 7 = nI ((s.2.2.1 + 1 - p) % 8) := by
                    rw [nI_1, pk_sub (by omega)]
                    exact pk_andN (by omega) 3 (by decide)
                  have ey : ((nI s.2.2.1 - 1) - (nI p - 2)) - ((nI s.2.2.1 - 1) - (nI p - 2)) / 8 * 8 = nI ((s.2.2.1 + 1 - p) % 8) := by
                    rw [e2, bs_sub1 (by omega), pk_sub (by omega), show s.2.2.1 - 1 - (p - 2) = s.2.2.1 + 1 - p by omega]
                    exact pk_rem (d := 8) (by omega) (by omega) (by omega)
                  have hA := A.2 ((s.2.2.1 + 1 - p) % 8) (by omega)
                  have hB := B.2 ((s.2.2.1 + 1 - p) % 8) (by omega)
                  refine br_f (by rw [e2]; exact nI_ge (by omega) (by omega)) (And.intro (by rw [ex]; exact vp_in_nI (by omega) (by omega)) ?_)
                  refine br_f (by rw [e6]; decide) (rl_py 11 (by omega) hp (br_f (by decide) ?_))
                  refine br_f (ne 0 (by omega) p0) (br_f (ne 1 (by omega) p1) (br_f (ne 10 (by omega) p10) (br_f (ne 11 (by omega) p11) ?_)))
                  refine br_t (by rw [e2]; exact nI_lt (by omega) (by omega)) (And.intro (by decide) (And.intro (by rw [ey]; exact vp_in_nI (by omega) (by omega)) ⟨?_, R0⟩))
                  rw [ex, ey, nI_clamp (by omega), hA.1, hB.1]
      · exact br_f (nI_ge (a := 11) (by omega) (by omega)) (y0 (fun j hj e => by have := bs_inj e hp31 (by omega); omega) ⟨rfl, R0⟩)
theorem i_vc_run {k : Nat} {u : SX} {v : SY} (I : i_Rel k u v) (hk : k + 6 ≤ 3072) (a0 : Int64) (v3 : Int32) : wpX_run (fun r u' => wpY_run (fun r' v' => r' = r ∧ i_Rel (k + 6) u' v') v a0 v3) u a0 v3 := by
  refine zz_el (P := fun u v => wpX_run (fun r u' => wpY_run (fun r' v' => r' = r ∧ i_Rel (k + 6) u' v') v a0 v3) u a0 v3) ?_ I
  intro f_known f_seen f_many f_ordered f_isStraight f_entered f_todo f_length f_waiting f_tellings f_last f_stopped f_steps f_ran f_left a_acts a_actV a_actC a_ends a_endV a_endX a_endY a_numbers a_byNumber a_before a_forward a_backward a_orderOf a_at a_from a_semi a_label a_up a_found a_stack a_place a_chiefs a_tails a_edges a_rulers a_loops a_innermost a_outer a_deep a_alive a_values a_present a_code a_target a_pending a_pendingOf a_begins a_openAt a_vars a_told g_fresh g_many g_tells g_last g_runs g_stopped b_actKind b_actV b_actC b_endKind b_endV b_endX b_endY b_number b_before b_behind b_reached b_todo b_words b_coming b_values b_told b_variables R
  have y0 : ∀ {post : Int32 → SY → Prop}, (∀ j, j ≤ 1000 → v3 ≠ nI j) → post (-1) (g_fresh, g_many, g_tells, g_last, g_runs, g_stopped, b_actKind, b_actV, b_actC, b_endKind, b_endV, b_endX, b_endY, b_number, b_before, b_behind, b_reached, b_todo, b_words, b_coming, b_values, b_told, b_variables) → (wpY_run post (g_fresh, g_many, g_tells, g_last, g_runs, g_stopped, b_actKind, b_actV, b_actC, b_endKind, b_endV, b_endX, b_endY, b_number, b_before, b_behind, b_reached, b_todo, b_words, b_coming, b_values, b_told, b_variables) a0 v3) := by
    intro post h hp
    unfold wpY_run
    refine rl_ny 1000 (by omega) h ?_
    exact br_t rfl hp
  by_cases hx : v3 < 0
  · exact br_t hx (y0 (fun j hj e => by rw [e] at hx; exact nI_pos (by omega) hx) ⟨rfl, R⟩)
  · refine br_f hx ?_
    obtain ⟨lim, hl31, rfl⟩ := nI_of hx
    by_cases hlim : lim ≤ 1000
    · refine br_t (nI_le (b := 1000) hlim (by omega)) ?_
      obtain ⟨g, s, W, GX, GY, h1, h2, h3, h4, h5, A, B, e1, e2, hte, e3, e4, h6⟩ := R
      have hot := rn_te (g := g) lim 0 0 (fun _ => 0, s.2.1, 0, a0) (-1) (Nat.le_refl _)
      refine xk_l W GX h1 h2 ?_
      intro f_seen f_many f_ordered f_isStraight f_entered f_todo f_length f_waiting a_numbers a_byNumber a_before a_forward a_backward a_orderOf a_at a_from a_semi a_label a_up a_found a_stack a_place a_chiefs a_tails a_edges a_rulers a_loops a_innermost a_outer a_deep a_alive a_values a_present a_code a_target a_pending a_pendingOf a_begins a_openAt K
      refine loop_0 (σ := Nat → Int32) (fun f i t => (wX_run_20 (fun r u' => wpY_run (fun r' v' => r' = r ∧ i_Rel (k + 6) u' v') (g_fresh, g_many, g_tells, g_last, g_runs, g_stopped, b_actKind, b_actV, b_actC, b_endKind, b_endV, b_endX, b_endY, b_number, b_before, b_behind, b_reached, b_todo, b_words, b_coming, b_values, b_told, b_variables) a0 (nI lim)) a0 (nI lim) 1 f_seen f_many f_ordered f_isStraight f_entered f_todo f_length f_waiting f_tellings f_last f_stopped f_steps f_left f_ran f (nI i) a_acts a_actV a_actC a_ends a_endV a_endX a_endY a_numbers a_byNumber a_before a_forward a_backward a_orderOf a_at a_from a_semi a_label a_up a_found a_stack a_place a_chiefs a_tails a_edges a_rulers a_loops a_innermost a_outer a_deep a_alive a_values a_present a_code a_target a_pending a_pendingOf a_begins a_openAt t a_told)) (fun i t => ∀ j, j < i → t j = 0) 4 a_vars (fun j hj => by omega) ?_ ?_
      · intro f va hva
        have A0 : rn_A (fun _ => 0, s.2.1, 0, a0) va a_told := ⟨fun i hi => ⟨hva i hi, by show 0 < 16; omega⟩, A.2⟩
        -- Y's side, at the outcome
        have fin : ∀ va' to' : Nat → Int32, rn_A (rn_r g lim 0 (fun _ => 0, s.2.1, 0, a0) 0 (-1)).1 va' to' → (wpY_run (fun r' v' => r' = nI (rn_r g lim 0 (fun _ => 0, s.2.1, 0, a0) 0 (-1)).2.1 ∧ i_Rel (k + 6) (1, f_seen, f_many, f_ordered, f_isStraight, f_entered, f_todo, f_length, f_waiting, nI (rn_r g lim 0 (fun _ => 0, s.2.1, 0, a0) 0 (-1)).1.2.2.1, (rn_r g lim 0 (fun _ => 0, s.2.1, 0, a0) 0 (-1)).2.2.1, (rn_r g lim 0 (fun _ => 0, s.2.1, 0, a0) 0 (-1)).2.2.2, nI (rn_r g lim 0 (fun _ => 0, s.2.1, 0, a0) 0 (-1)).2.1, (rn_r g lim 0 (fun _ => 0, s.2.1, 0, a0) 0 (-1)).1.2.2.2, 1, a_acts, a_actV, a_actC, a_ends, a_endV, a_endX, a_endY, a_numbers, a_byNumber, a_before, a_forward, a_backward, a_orderOf, a_at, a_from, a_semi, a_label, a_up, a_found, a_stack, a_place, a_chiefs, a_tails, a_edges, a_rulers, a_loops, a_innermost, a_outer, a_deep, a_alive, a_values, a_present, a_code, a_target, a_pending, a_pendingOf, a_begins, a_openAt, va', to') v') (g_fresh, g_many, g_tells, g_last, g_runs, g_stopped, b_actKind, b_actV, b_actC, b_endKind, b_endV, b_endX, b_endY, b_number, b_before, b_behind, b_reached, b_todo, b_words, b_coming, b_values, b_told, b_variables) a0 (nI lim)) := by
          intro va' to' A'
          unfold wpY_run
          refine rl_py 1000 (by omega) hlim ?_
          refine br_f (by decide) ?_
          refine loop_0 (σ := Nat → Int32) (fun f i t => (wY_run_25 (fun r' v' => r' = nI (rn_r g lim 0 (fun _ => 0, s.2.1, 0, a0) 0 (-1)).2.1 ∧ i_Rel (k + 6) (1, f_seen, f_many, f_ordered, f_isStraight, f_entered, f_todo, f_length, f_waiting, nI (rn_r g lim 0 (fun _ => 0, s.2.1, 0, a0) 0 (-1)).1.2.2.1, (rn_r g lim 0 (fun _ => 0, s.2.1, 0, a0) 0 (-1)).2.2.1, (rn_r g lim 0 (fun _ => 0, s.2.1, 0, a0) 0 (-1)).2.2.2, nI (rn_r g lim 0 (fun _ => 0, s.2.1, 0, a0) 0 (-1)).2.1, (rn_r g lim 0 (fun _ => 0, s.2.1, 0, a0) 0 (-1)).1.2.2.2, 1, a_acts, a_actV, a_actC, a_ends, a_endV, a_endX, a_endY, a_numbers, a_byNumber, a_before, a_forward, a_backward, a_orderOf, a_at, a_from, a_semi, a_label, a_up, a_found, a_stack, a_place, a_chiefs, a_tails, a_edges, a_rulers, a_loops, a_innermost, a_outer, a_deep, a_alive, a_values, a_present, a_code, a_target, a_pending, a_pendingOf, a_begins, a_openAt, va', to') v') (nI lim) a0 0 0 g_fresh g_many g_tells g_last g_runs g_stopped f (nI i) b_actKind b_actV b_actC b_endKind b_endV b_endX b_endY b_number b_before b_behind b_reached b_todo b_words b_coming b_values b_told t)) (fun i t => ∀ j, j < i → t j = 0) 4 b_variables (fun j hj => by omega) ?_ ?_
          · intro f2 vb hvb
            have B0 : rn_A (fun _ => 0, s.2.1, 0, a0) vb b_told := ⟨fun i hi => ⟨hvb i hi, by show 0 < 16; omega⟩, B.2⟩
            refine br_t (by decide) ⟨lim + 2, ?_⟩
            refine ry_w (g_runs := 1) W GY hlim ?_ lim (lim + 2) 0 0 (fun _ => 0, s.2.1, 0, a0) (-1) vb b_told (by omega) (by omega) (by omega) B0 (Nat.le_refl _) rfl
            intro vb' tb' B'
            exact ⟨rfl, g, (rn_r g lim 0 (fun _ => 0, s.2.1, 0, a0) 0 (-1)).1, W, GX, GY, Or.inr rfl, fun _ => K, h3, h4, Or.inr ⟨rfl, rfl⟩, A', B', rfl, rfl, by omega, rfl, rfl, hot.2⟩
          · intro f2 i t hi ht ih
            refine br_f (nI_ge (b := 4) hi (by omega)) (And.intro (vp_in_nI hi (by omega)) (nm_r (e' := upd t i 0) (by rw [xg_u (by omega)]) (nm_r (nI_1 i) (ih _ ?_))))
            intro j hj
            by_cases e : j = i
            · subst e; exact pk_us
            · exact (pk_un e).trans (ht j (by omega))
        refine br_t (by decide) ?_
        rcases K.2.2.2.2.2.2.1 with ⟨es, hSt⟩ | ⟨es, hSt⟩
        · obtain ⟨c1, c2, c3, c4, sp, t2, c5, c6⟩ := K.2.2.2.2.2.2.2.2.2.2.2.2 hSt
          refine br_f (by rw [es]; decide) ⟨400 * lim + 301, ?_⟩
          have := rf_f (f_known := 1) (f_isStraight := f_isStraight) (f_ran := 1) W GX c5 c2 c3 c4 c6 hlim (post := fun u => match u with | (f_known, f_seen, f_many, f_ordered, f_isStraight, f_entered, f_todo, f_length, f_waiting, f_tellings, f_last, f_stopped, f_steps, f_left, f_ran, a_acts, a_actV, a_actC, a_ends, a_endV, a_endX, a_endY, a_numbers, a_byNumber, a_before, a_forward, a_backward, a_orderOf, a_at, a_from, a_semi, a_label, a_up, a_found, a_stack, a_place, a_chiefs, a_tails, a_edges, a_rulers, a_loops, a_innermost, a_outer, a_deep, a_alive, a_values, a_present, a_code, a_target, a_pending, a_pendingOf, a_begins, a_openAt, a_vars, a_told) => wpY_run (fun r' v' => r' = f_steps ∧ i_Rel (k + 6) (f_known, f_seen, f_many, f_ordered, f_isStraight, f_entered, f_todo, f_length, f_waiting, f_tellings, f_last, f_stopped, f_steps, f_left, f_ran, a_acts, a_actV, a_actC, a_ends, a_endV, a_endX, a_endY, a_numbers, a_byNumber, a_before, a_forward, a_backward, a_orderOf, a_at, a_from, a_semi, a_label, a_up, a_found, a_stack, a_place, a_chiefs, a_tails, a_edges, a_rulers, a_loops, a_innermost, a_outer, a_deep, a_alive, a_values, a_present, a_code, a_target, a_pending, a_pendingOf, a_begins, a_openAt, a_vars, a_told) v') (g_fresh, g_many, g_tells, g_last, g_runs, g_stopped, b_actKind, b_actV, b_actC, b_endKind, b_endV, b_endX, b_endY, b_number, b_before, b_behind, b_reached, b_todo, b_words, b_coming, b_values, b_told, b_variables) a0 (nI lim)) (o := rn_r g lim 0 (fun _ => 0, s.2.1, 0, a0) 0 (-1)) fin lim (400 * lim + 301) 0 0 (fun _ => 0, s.2.1, 0, a0) (-1) va a_told (by omega) (by omega) gr_rf A0 (Nat.le_refl _) rfl
          rw [c5.2.1] at this
          exact this
        · refine br_t es ⟨lim + 2, ?_⟩
          exact rx_w (f_known := 1) (f_ran := 1) W GX hlim (post := fun u => match u with | (f_known, f_seen, f_many, f_ordered, f_isStraight, f_entered, f_todo, f_length, f_waiting, f_tellings, f_last, f_stopped, f_steps, f_left, f_ran, a_acts, a_actV, a_actC, a_ends, a_endV, a_endX, a_endY, a_numbers, a_byNumber, a_before, a_forward, a_backward, a_orderOf, a_at, a_from, a_semi, a_label, a_up, a_found, a_stack, a_place, a_chiefs, a_tails, a_edges, a_rulers, a_loops, a_innermost, a_outer, a_deep, a_alive, a_values, a_present, a_code, a_target, a_pending, a_pendingOf, a_begins, a_openAt, a_vars, a_told) => wpY_run (fun r' v' => r' = f_steps ∧ i_Rel (k + 6) (f_known, f_seen, f_many, f_ordered, f_isStraight, f_entered, f_todo, f_length, f_waiting, f_tellings, f_last, f_stopped, f_steps, f_left, f_ran, a_acts, a_actV, a_actC, a_ends, a_endV, a_endX, a_endY, a_numbers, a_byNumber, a_before, a_forward, a_backward, a_orderOf, a_at, a_from, a_semi, a_label, a_up, a_found, a_stack, a_place, a_chiefs, a_tails, a_edges, a_rulers, a_loops, a_innermost, a_outer, a_deep, a_alive, a_values, a_present, a_code, a_target, a_pending, a_pendingOf, a_begins, a_openAt, a_vars, a_told) v') (g_fresh, g_many, g_tells, g_last, g_runs, g_stopped, b_actKind, b_actV, b_actC, b_endKind, b_endV, b_endX, b_endY, b_number, b_before, b_behind, b_reached, b_todo, b_words, b_coming, b_values, b_told, b_variables) a0 (nI lim)) (o := rn_r g lim 0 (fun _ => 0, s.2.1, 0, a0) 0 (-1)) fin lim (lim + 2) 0 0 (fun _ => 0, s.2.1, 0, a0) (-1) va a_told (by omega) (by omega) (by omega) A0 (Nat.le_refl _) rfl
      · intro f i t hi ht ih
        refine br_f (nI_ge (b := 4) hi (by omega)) (And.intro (vp_in_nI hi (by omega)) (nm_r (e' := upd t i 0) (by rw [bs_v0, xg_u (by omega)]) (nm_r (nI_1 i) (ih _ ?_))))
        intro j hj
        by_cases e : j = i
        · subst e; exact pk_us
        · exact (pk_un e).trans (ht j (by omega))
    · exact br_f (nI_ge (a := 1000) (by omega) (by omega)) (y0 (fun j hj e => by have := bs_inj e hl31 (by omega); omega) ⟨rfl, R⟩)
end ZG
end
section
section ZH
variable {f_known f_seen f_many f_ordered f_isStraight f_entered f_todo f_length f_waiting f_tellings f_last f_stopped f_steps f_ran : Int32} {f_left : Int64} {a_acts a_actV a_actC a_ends a_endV a_endX a_endY a_numbers a_byNumber a_before a_forward a_backward a_orderOf a_at a_from a_semi a_label a_up a_found a_stack a_place a_chiefs a_tails a_edges a_rulers a_loops a_innermost a_outer a_deep a_alive a_values a_present a_code a_target a_pending a_pendingOf a_begins a_openAt a_vars a_told : Nat → Int32} {g : Nat → Nat → Nat}
theorem xz_s (W : gg_W g) (hn : xn_N g f_seen f_many a_byNumber a_numbers) (x : Int32) {post : Int32 → Prop} (h1 : ∀ n, n < 16 → x = nI n → gg_R g n → post 1) (h0 : (∀ n, n < 16 → x = nI n → ¬ gg_R g n) → post 0) : (wpX_isSeen post (f_known, f_seen, f_many, f_ordered, f_isStraight, f_entered, f_todo, f_length, f_waiting, f_tellings, f_last, f_stopped, f_steps, f_left, f_ran, a_acts, a_actV, a_actC, a_ends, a_endV, a_endX, a_endY, a_numbers, a_byNumber, a_before, a_forward, a_backward, a_orderOf, a_at, a_from, a_semi, a_label, a_up, a_found, a_stack, a_place, a_chiefs, a_tails, a_edges, a_rulers, a_loops, a_innermost, a_outer, a_deep, a_alive, a_values, a_present, a_code, a_target, a_pending, a_pendingOf, a_begins, a_openAt, a_vars, a_told) x) := by
  unfold wpX_isSeen
  refine rl_nd x ?_ (fun h => br_t rfl (h0 (fun n hn e => absurd e (h n hn))))
  intro n hn16 e
  subst e
  refine br_f (by decide) ?_
  by_cases hR : gg_R g n
  · refine br_f (fun h => ?_) (h1 n hn16 rfl hR)
    rw [bs_g0 _ (by omega), (hn.1 n).mpr hR] at h
    cases h
  · refine br_t ((bs_g0 _ (by omega)).mpr (ts_nt (fun h => hR ((hn.1 n).mp h)))) (h0 (fun m hm e => ?_))
    have := bs_inj e (by omega) (by omega)
    subst this
    exact hR
theorem xz_b {r r' : Int32} {Q : Nat → Prop} (h : ∀ i, bt r i = true ↔ Q i) (h' : ∀ i, bt r' i = true ↔ Q i) : r' = r := b_ext (fun i _ => by rw [Bool.eq_iff_iff, h i, h' i])
end ZH
section ZI
theorem i_vc_number {k : Nat} {u : SX} {v : SY} (I : i_Rel k u v) (hk : k + 6 ≤ 3072) (v1 : Int32) : wpX_number (fun r u' => wpY_number (fun r' v' => r' = r ∧ i_Rel (k + 6) u' v') v v1) u v1 := by
  refine zz_el (P := fun u v => wpX_number (fun r u' => wpY_number (fun r' v' => r' = r ∧ i_Rel (k + 6) u' v') v v1) u v1) ?_ I
  intro f_known f_seen f_many f_ordered f_isStraight f_entered f_todo f_length f_waiting f_tellings f_last f_stopped f_steps f_ran f_left a_acts a_actV a_actC a_ends a_endV a_endX a_endY a_numbers a_byNumber a_before a_forward a_backward a_orderOf a_at a_from a_semi a_label a_up a_found a_stack a_place a_chiefs a_tails a_edges a_rulers a_loops a_innermost a_outer a_deep a_alive a_values a_present a_code a_target a_pending a_pendingOf a_begins a_openAt a_vars a_told g_fresh g_many g_tells g_last g_runs g_stopped b_actKind b_actV b_actC b_endKind b_endV b_endX b_endY b_number b_before b_behind b_reached b_todo b_words b_coming b_values b_told b_variables R
  obtain ⟨g, s, W, GX, GY, h1, h2, h3, h4, hrun⟩ := R
  unfold wpX_number
  refine xk_l W GX h1 h2 ?_
  intro f_seen f_many f_ordered f_isStraight f_entered f_todo f_length f_waiting a_numbers a_byNumber a_before a_forward a_backward a_orderOf a_at a_from a_semi a_label a_up a_found a_stack a_place a_chiefs a_tails a_edges a_rulers a_loops a_innermost a_outer a_deep a_alive a_values a_present a_code a_target a_pending a_pendingOf a_begins a_openAt K
  refine xz_s W K.1 v1 ?_ ?_
  · intro n hn e hR
    subst e
    refine br_f (by decide) ?_
    refine And.intro (xg_i hn) ?_
    unfold wpY_number
    refine yk_k W GY h3 h4 ?_
    intro nu bf bh re td wo KY
    refine yk_s W KY.1 hn (fun _ => ?_) (fun h => absurd hR h)
    refine br_f (by decide) ?_
    refine And.intro (xg_i hn) ⟨?_, ⟨g, s, W, GX, GY, Or.inr rfl, fun _ => K, Or.inr rfl, fun _ => KY, hrun⟩⟩
    rw [nI_clamp (by omega), K.1.2.2.2 n hR]
    rcases KY.1 n hn with h | h
    · exact h.2
    · exact absurd hR h.1
  · intro hno
    refine br_t rfl ?_
    unfold wpY_number
    refine yk_k W GY h3 h4 ?_
    intro nu bf bh re td wo KY
    exact yk_sv W KY.1 v1 (fun n hn e hR => absurd hR (hno n hn e)) (fun _ => br_t rfl ⟨rfl, ⟨g, s, W, GX, GY, Or.inr rfl, fun _ => K, Or.inr rfl, fun _ => KY, hrun⟩⟩)
theorem i_vc_chief {k : Nat} {u : SX} {v : SY} (I : i_Rel k u v) (hk : k + 6 ≤ 3072) (v1 : Int32) : wpX_chief (fun r u' => wpY_chief (fun r' v' => r' = r ∧ i_Rel (k + 6) u' v') v v1) u v1 := by
  refine zz_el (P := fun u v => wpX_chief (fun r u' => wpY_chief (fun r' v' => r' = r ∧ i_Rel (k + 6) u' v') v v1) u v1) ?_ I
  intro f_known f_seen f_many f_ordered f_isStraight f_entered f_todo f_length f_waiting f_tellings f_last f_stopped f_steps f_ran f_left a_acts a_actV a_actC a_ends a_endV a_endX a_endY a_numbers a_byNumber a_before a_forward a_backward a_orderOf a_at a_from a_semi a_label a_up a_found a_stack a_place a_chiefs a_tails a_edges a_rulers a_loops a_innermost a_outer a_deep a_alive a_values a_present a_code a_target a_pending a_pendingOf a_begins a_openAt a_vars a_told g_fresh g_many g_tells g_last g_runs g_stopped b_actKind b_actV b_actC b_endKind b_endV b_endX b_endY b_number b_before b_behind b_reached b_todo b_words b_coming b_values b_told b_variables R
  obtain ⟨g, s, W, GX, GY, h1, h2, h3, h4, hrun⟩ := R
  unfold wpX_chief
  refine xk_l W GX h1 h2 ?_
  intro f_seen f_many f_ordered f_isStraight f_entered f_todo f_length f_waiting a_numbers a_byNumber a_before a_forward a_backward a_orderOf a_at a_from a_semi a_label a_up a_found a_stack a_place a_chiefs a_tails a_edges a_rulers a_loops a_innermost a_outer a_deep a_alive a_values a_present a_code a_target a_pending a_pendingOf a_begins a_openAt K
  refine xz_s W K.1 v1 ?_ ?_
  · intro n hn e hR
    subst e
    refine br_f (by decide) ?_
    refine And.intro (xg_i hn) ?_
    unfold wpY_chief
    refine yk_k W GY h3 h4 ?_
    intro nu bf bh re td wo KY
    refine yk_s W KY.1 hn (fun _ => ?_) (fun h => absurd hR h)
    refine br_f (by decide) ?_
    rw [nI_clamp (by omega)]
    rcases K.2.2.1 n hn with ⟨c1, c2⟩ | ⟨d, c1, c2, c3, c4, c5⟩
    · have n0 : n = 0 := by
        rcases c2 with c2 | c2
        · exact absurd hR c2
        · exact c2
      exact br_t (by rw [n0]; decide) ⟨c1.symm, ⟨g, s, W, GX, GY, Or.inr rfl, fun _ => K, Or.inr rfl, fun _ => KY, hrun⟩⟩
    · refine br_f (nI_nle (by omega) (by omega)) (yk_Bn KY.2.1 hn ?_ ?_)
      · intro d' hd' hN
        refine ⟨?_, ⟨g, s, W, GX, GY, Or.inr rfl, fun _ => K, Or.inr rfl, fun _ => KY, hrun⟩⟩
        rw [c2, dm_un hR c5 ((yx_N W hR).mp hN)]
      · intro hno
        exact absurd ((yx_N W hR).mpr c5) (hno d c1)
  · intro hno
    refine br_t rfl ?_
    unfold wpY_chief
    refine yk_k W GY h3 h4 ?_
    intro nu bf bh re td wo KY
    exact yk_sv W KY.1 v1 (fun n hn e hR => absurd hR (hno n hn e)) (fun _ => br_t rfl ⟨rfl, ⟨g, s, W, GX, GY, Or.inr rfl, fun _ => K, Or.inr rfl, fun _ => KY, hrun⟩⟩)
theorem i_vc_tail {k : Nat} {u : SX} {v : SY} (I : i_Rel k u v) (hk : k + 6 ≤ 3072) (v1 : Int32) : wpX_tail (fun r u' => wpY_tail (fun r' v' => r' = r ∧ i_Rel (k + 6) u' v') v v1) u v1 := by
  refine zz_el (P := fun u v => wpX_tail (fun r u' => wpY_tail (fun r' v' => r' = r ∧ i_Rel (k + 6) u' v') v v1) u v1) ?_ I
  intro f_known f_seen f_many f_ordered f_isStraight f_entered f_todo f_length f_waiting f_tellings f_last f_stopped f_steps f_ran f_left a_acts a_actV a_actC a_ends a_endV a_endX a_endY a_numbers a_byNumber a_before a_forward a_backward a_orderOf a_at a_from a_semi a_label a_up a_found a_stack a_place a_chiefs a_tails a_edges a_rulers a_loops a_innermost a_outer a_deep a_alive a_values a_present a_code a_target a_pending a_pendingOf a_begins a_openAt a_vars a_told g_fresh g_many g_tells g_last g_runs g_stopped b_actKind b_actV b_actC b_endKind b_endV b_endX b_endY b_number b_before b_behind b_reached b_todo b_words b_coming b_values b_told b_variables R
  obtain ⟨g, s, W, GX, GY, h1, h2, h3, h4, hrun⟩ := R
  unfold wpX_tail
  refine xk_l W GX h1 h2 ?_
  intro f_seen f_many f_ordered f_isStraight f_entered f_todo f_length f_waiting a_numbers a_byNumber a_before a_forward a_backward a_orderOf a_at a_from a_semi a_label a_up a_found a_stack a_place a_chiefs a_tails a_edges a_rulers a_loops a_innermost a_outer a_deep a_alive a_values a_present a_code a_target a_pending a_pendingOf a_begins a_openAt K
  refine xz_s W K.1 v1 ?_ ?_
  · intro n hn e hR
    subst e
    refine br_f (by decide) ?_
    refine And.intro (xg_i7 (by omega)) ?_
    rw [nI_clamp (by omega)]
    rcases K.2.2.2.1 n hn with ⟨c1, c2⟩ | ⟨d, c1, c2, c3, c4⟩
    · refine br_f (by rw [c1]; decide) (And.intro (xg_i7 (by omega)) ?_)
      unfold wpY_tail
      refine yk_k W GY h3 h4 ?_
      intro nu bf bh re td wo KY
      refine yk_s W KY.1 hn (fun _ => ?_) (fun h => absurd hR h)
      refine br_f (by decide) ?_
      refine yk_Hn KY.2.2 hn ?_ ?_
      · intro d hd hN
        exact absurd hN.2.1.1 c2
      · intro _
        exact ⟨c1.symm, ⟨g, s, W, GX, GY, Or.inr rfl, fun _ => K, Or.inr rfl, fun _ => KY, hrun⟩⟩
    · have key : ∀ d', d' < 16 → (yk_HN g n d' ↔ d' = d) := by
        intro d' hd'
        constructor
        · intro hN
          have hI : dm_I (gg_B g) 16 d' n ∨ d = 16 := by
            by_cases e16 : d = 16
            · exact Or.inr e16
            · refine Or.inl ⟨hN.1, hN.2.1.2.2.2, fun e he hD => ?_⟩
              have hTe : dm_R (gg_B g) 16 e := dm_re c3 hD
              by_cases e2 : e = d'
              · rw [e2]; exact dm_rf
              · by_cases e3 : e = 16
                · rw [e3]; exact dm_r0
                · have he16 : e < 16 := by have := gg_T17 W hTe; omega
                  exact (hN.2.2 e he16 he e2 ⟨c3, hR, gg_TR W he16 hTe, hD⟩).2.2.2
          rcases hI with hI | hI
          · exact dm_un c3 hI c4
          · exfalso
            have := c4.2.2 d' hN.1 hN.2.1.2.2.2
            rw [hI] at this
            have := dm_rt this
            omega
        · intro e
          subst e
          have hTd : dm_R (gg_B g) 16 d' := dm_re c3 c4.2.1
          exact ⟨c4.1, ⟨c3, hR, gg_TR W hd' hTd, c4.2.1⟩, fun e _ he _ hq => ⟨hTd, gg_TR W hd' hTd, hq.2.2.1, c4.2.2 e he hq.2.2.2⟩⟩
      by_cases e16 : d = 16
      · refine br_t (by rw [c2, e16]; rfl) ?_
        unfold wpY_tail
        refine yk_k W GY h3 h4 ?_
        intro nu bf bh re td wo KY
        refine yk_s W KY.1 hn (fun _ => ?_) (fun h => absurd hR h)
        refine br_f (by decide) ?_
        refine yk_Hn KY.2.2 hn ?_ ?_
        · intro d' hd' hN
          have := (key d' hd').mp hN
          omega
        · intro _
          exact ⟨rfl, ⟨g, s, W, GX, GY, Or.inr rfl, fun _ => K, Or.inr rfl, fun _ => KY, hrun⟩⟩
      · refine br_f (by rw [c2]; exact fun h => e16 (bs_inj (b := 16) h (by omega) (by omega))) (And.intro (xg_i7 (by omega)) ?_)
        unfold wpY_tail
        refine yk_k W GY h3 h4 ?_
        intro nu bf bh re td wo KY
        refine yk_s W KY.1 hn (fun _ => ?_) (fun h => absurd hR h)
        refine br_f (by decide) ?_
        refine yk_Hn KY.2.2 hn ?_ ?_
        · intro d' hd' hN
          refine ⟨?_, ⟨g, s, W, GX, GY, Or.inr rfl, fun _ => K, Or.inr rfl, fun _ => KY, hrun⟩⟩
          rw [c2, (key d' hd').mp hN]
        · intro hno
          exact absurd ((key d (by omega)).mpr rfl) (hno d (by omega))
  · intro hno
    refine br_t rfl ?_
    unfold wpY_tail
    refine yk_k W GY h3 h4 ?_
    intro nu bf bh re td wo KY
    exact yk_sv W KY.1 v1 (fun n hn e hR => absurd hR (hno n hn e)) (fun _ => br_t rfl ⟨rfl, ⟨g, s, W, GX, GY, Or.inr rfl, fun _ => K, Or.inr rfl, fun _ => KY, hrun⟩⟩)
theorem i_vc_set {k : Nat} {u : SX} {v : SY} (I : i_Rel k u v) (hk : k + 6 ≤ 3072) (v1 : Int32) (v2 : Int32) : wpX_set (fun r u' => wpY_set (fun r' v' => r' = r ∧ i_Rel (k + 6) u' v') v v1 v2) u v1 v2 := by
  refine zz_el (P := fun u v => wpX_set (fun r u' => wpY_set (fun r' v' => r' = r ∧ i_Rel (k + 6) u' v') v v1 v2) u v1 v2) ?_ I
  intro f_known f_seen f_many f_ordered f_isStraight f_entered f_todo f_length f_waiting f_tellings f_last f_stopped f_steps f_ran f_left a_acts a_actV a_actC a_ends a_endV a_endX a_endY a_numbers a_byNumber a_before a_forward a_backward a_orderOf a_at a_from a_semi a_label a_up a_found a_stack a_place a_chiefs a_tails a_edges a_rulers a_loops a_innermost a_outer a_deep a_alive a_values a_present a_code a_target a_pending a_pendingOf a_begins a_openAt a_vars a_told g_fresh g_many g_tells g_last g_runs g_stopped b_actKind b_actV b_actC b_endKind b_endV b_endX b_endY b_number b_before b_behind b_reached b_todo b_words b_coming b_values b_told b_variables R
  obtain ⟨g, s, W, GX, GY, h1, h2, h3, h4, hrun⟩ := R
  unfold wpX_set
  refine xk_l W GX h1 h2 ?_
  intro f_seen f_many f_ordered f_isStraight f_entered f_todo f_length f_waiting a_numbers a_byNumber a_before a_forward a_backward a_orderOf a_at a_from a_semi a_label a_up a_found a_stack a_place a_chiefs a_tails a_edges a_rulers a_loops a_innermost a_outer a_deep a_alive a_values a_present a_code a_target a_pending a_pendingOf a_begins a_openAt K
  refine xz_s W K.1 v1 ?_ ?_
  · intro n hn e hR
    subst e
    refine br_f (by decide) ?_
    by_cases hx : v2 < 0
    · refine br_t hx ?_
      unfold wpY_set
      refine yk_k W GY h3 h4 ?_
      intro nu bf bh re td wo KY
      refine yk_s W KY.1 hn (fun _ => ?_) (fun h => absurd hR h)
      refine br_f (by decide) ?_
      exact rl_ny 2 (by omega) (fun j hj e => by rw [e] at hx; exact nI_pos (by omega) hx) (br_t rfl ⟨rfl, ⟨g, s, W, GX, GY, Or.inr rfl, fun _ => K, Or.inr rfl, fun _ => KY, hrun⟩⟩)
    · refine br_f hx ?_
      obtain ⟨p, hp31, rfl⟩ := nI_of hx
      by_cases hp : p ≤ 2
      · refine br_t (nI_le (b := 2) hp (by omega)) ?_
        by_cases p0 : p = 0
        · refine br_t (by rw [p0]; rfl) (And.intro (xg_i hn) ?_)
          unfold wpY_set
          refine yk_k W GY h3 h4 ?_
          intro nu bf bh re td wo KY
          refine yk_s W KY.1 hn (fun _ => ?_) (fun h => absurd hR h)
          refine br_f (by decide) ?_
          refine rl_py 2 (by omega) hp ?_
          refine br_f (by decide) (br_t (by rw [p0]; rfl) (ye_e W GY KY hR ?_))
          intro r hr
          refine ⟨?_, ⟨g, s, W, GX, GY, Or.inr rfl, fun _ => K, Or.inr rfl, fun _ => KY, hrun⟩⟩
          rw [nI_clamp (by omega)]
          exact xz_b (fun i => K.2.2.2.2.1 n hn i) hr
        · refine br_f (fun h => p0 (bs_inj (b := 0) h (by omega) (by omega))) ?_
          by_cases p1 : p = 1
          · refine br_t (by rw [p1]; rfl) (And.intro (xg_i7 (by omega)) ?_)
            unfold wpY_set
            refine yk_k W GY h3 h4 ?_
            intro nu bf bh re td wo KY
            refine yk_s W KY.1 hn (fun _ => ?_) (fun h => absurd hR h)
            refine br_f (by decide) ?_
            refine rl_py 2 (by omega) hp ?_
            refine br_f (by decide) (br_f (fun h => p0 (bs_inj (b := 0) h (by omega) (by omega))) (br_t (by rw [p1]; rfl) (yu_u W GY KY hR ?_)))
            intro r hr
            refine ⟨?_, ⟨g, s, W, GX, GY, Or.inr rfl, fun _ => K, Or.inr rfl, fun _ => KY, hrun⟩⟩
            rw [nI_clamp (by omega)]
            exact xz_b (fun i => K.2.2.2.2.2.1 n hn i) hr
          · refine br_f (fun h => p1 (bs_inj (b := 1) h (by omega) (by omega))) (And.intro (xg_i hn) ?_)
            unfold wpY_set
            refine yk_k W GY h3 h4 ?_
            intro nu bf bh re td wo KY
            refine yk_s W KY.1 hn (fun _ => ?_) (fun h => absurd hR h)
            refine br_f (by decide) ?_
            refine rl_py 2 (by omega) hp ?_
            refine br_f (by decide) (br_f (fun h => p0 (bs_inj (b := 0) h (by omega) (by omega))) (br_f (fun h => p1 (bs_inj (b := 1) h (by omega) (by omega))) (yl_l W GY KY hR ?_)))
            intro r re' td' hr
            refine ⟨?_, ⟨g, s, W, GX, GY, Or.inr rfl, fun _ => K, Or.inr rfl, fun _ => KY, hrun⟩⟩
            rw [nI_clamp (by omega)]
            refine xz_b (Q := fun i => gg_L g n i) (fun i => ?_) hr
            rw [K.2.2.2.2.2.2.2.1 n hn i]
            exact ⟨fun h => h.1, fun h => ⟨h, Nat.zero_le _⟩⟩
      · refine br_f (nI_ge (a := 2) (by omega) (by omega)) ?_
        unfold wpY_set
        refine yk_k W GY h3 h4 ?_
        intro nu bf bh re td wo KY
        refine yk_s W KY.1 hn (fun _ => ?_) (fun h => absurd hR h)
        refine br_f (by decide) ?_
        exact rl_ny 2 (by omega) (fun j hj e => by have := bs_inj e hp31 (by omega); omega) (br_t rfl ⟨rfl, ⟨g, s, W, GX, GY, Or.inr rfl, fun _ => K, Or.inr rfl, fun _ => KY, hrun⟩⟩)
  · intro hno
    refine br_t rfl ?_
    unfold wpY_set
    refine yk_k W GY h3 h4 ?_
    intro nu bf bh re td wo KY
    exact yk_sv W KY.1 v1 (fun n hn e hR => absurd hR (hno n hn e)) (fun _ => br_t rfl ⟨rfl, ⟨g, s, W, GX, GY, Or.inr rfl, fun _ => K, Or.inr rfl, fun _ => KY, hrun⟩⟩)
end ZI
end
section
section ZJ
theorem i_vc_depth {k : Nat} {u : SX} {v : SY} (I : i_Rel k u v) (hk : k + 6 ≤ 3072) (v1 : Int32) : wpX_depth (fun r u' => wpY_depth (fun r' v' => r' = r ∧ i_Rel (k + 6) u' v') v v1) u v1 := by
  refine zz_el (P := fun u v => wpX_depth (fun r u' => wpY_depth (fun r' v' => r' = r ∧ i_Rel (k + 6) u' v') v v1) u v1) ?_ I
  intro f_known f_seen f_many f_ordered f_isStraight f_entered f_todo f_length f_waiting f_tellings f_last f_stopped f_steps f_ran f_left a_acts a_actV a_actC a_ends a_endV a_endX a_endY a_numbers a_byNumber a_before a_forward a_backward a_orderOf a_at a_from a_semi a_label a_up a_found a_stack a_place a_chiefs a_tails a_edges a_rulers a_loops a_innermost a_outer a_deep a_alive a_values a_present a_code a_target a_pending a_pendingOf a_begins a_openAt a_vars a_told g_fresh g_many g_tells g_last g_runs g_stopped b_actKind b_actV b_actC b_endKind b_endV b_endX b_endY b_number b_before b_behind b_reached b_todo b_words b_coming b_values b_told b_variables R
  obtain ⟨g, s, W, GX, GY, h1, h2, h3, h4, hrun⟩ := R
  unfold wpX_depth
  refine xk_l W GX h1 h2 ?_
  intro f_seen f_many f_ordered f_isStraight f_entered f_todo f_length f_waiting a_numbers a_byNumber a_before a_forward a_backward a_orderOf a_at a_from a_semi a_label a_up a_found a_stack a_place a_chiefs a_tails a_edges a_rulers a_loops a_innermost a_outer a_deep a_alive a_values a_present a_code a_target a_pending a_pendingOf a_begins a_openAt K
  refine xz_s W K.1 v1 ?_ ?_
  · intro n hn e hR
    subst e
    refine br_f (by decide) ?_
    refine And.intro (xg_i hn) ?_
    unfold wpY_depth
    refine yk_k W GY h3 h4 ?_
    intro nu bf bh re td wo KY
    refine yk_s W KY.1 hn (fun _ => ?_) (fun h => absurd hR h)
    refine br_f (by decide) ?_
    refine yd_d W GY KY hn ?_
    intro re' td'
    refine ⟨?_, ⟨g, s, W, GX, GY, Or.inr rfl, fun _ => K, Or.inr rfl, fun _ => KY, hrun⟩⟩
    rw [nI_clamp (by omega), K.2.2.2.2.2.2.2.2.2.1 n hR]
  · intro hno
    refine br_t rfl ?_
    unfold wpY_depth
    refine yk_k W GY h3 h4 ?_
    intro nu bf bh re td wo KY
    exact yk_sv W KY.1 v1 (fun n hn e hR => absurd hR (hno n hn e)) (fun _ => br_t rfl ⟨rfl, ⟨g, s, W, GX, GY, Or.inr rfl, fun _ => K, Or.inr rfl, fun _ => KY, hrun⟩⟩)
theorem i_vc_head {k : Nat} {u : SX} {v : SY} (I : i_Rel k u v) (hk : k + 6 ≤ 3072) (v1 : Int32) : wpX_head (fun r u' => wpY_head (fun r' v' => r' = r ∧ i_Rel (k + 6) u' v') v v1) u v1 := by
  refine zz_el (P := fun u v => wpX_head (fun r u' => wpY_head (fun r' v' => r' = r ∧ i_Rel (k + 6) u' v') v v1) u v1) ?_ I
  intro f_known f_seen f_many f_ordered f_isStraight f_entered f_todo f_length f_waiting f_tellings f_last f_stopped f_steps f_ran f_left a_acts a_actV a_actC a_ends a_endV a_endX a_endY a_numbers a_byNumber a_before a_forward a_backward a_orderOf a_at a_from a_semi a_label a_up a_found a_stack a_place a_chiefs a_tails a_edges a_rulers a_loops a_innermost a_outer a_deep a_alive a_values a_present a_code a_target a_pending a_pendingOf a_begins a_openAt a_vars a_told g_fresh g_many g_tells g_last g_runs g_stopped b_actKind b_actV b_actC b_endKind b_endV b_endX b_endY b_number b_before b_behind b_reached b_todo b_words b_coming b_values b_told b_variables R
  obtain ⟨g, s, W, GX, GY, h1, h2, h3, h4, hrun⟩ := R
  unfold wpX_head
  refine xk_l W GX h1 h2 ?_
  intro f_seen f_many f_ordered f_isStraight f_entered f_todo f_length f_waiting a_numbers a_byNumber a_before a_forward a_backward a_orderOf a_at a_from a_semi a_label a_up a_found a_stack a_place a_chiefs a_tails a_edges a_rulers a_loops a_innermost a_outer a_deep a_alive a_values a_present a_code a_target a_pending a_pendingOf a_begins a_openAt K
  refine xz_s W K.1 v1 ?_ ?_
  · intro n hn e hR
    subst e
    refine br_f (by decide) ?_
    refine And.intro (xg_i hn) ?_
    unfold wpY_head
    refine yk_k W GY h3 h4 ?_
    intro nu bf bh re td wo KY
    refine yk_s W KY.1 hn (fun _ => ?_) (fun h => absurd hR h)
    refine br_f (by decide) ?_
    refine yh_h W GY KY hn ?_
    intro b l re' td' hI
    refine ⟨?_, ⟨g, s, W, GX, GY, Or.inr rfl, fun _ => K, Or.inr rfl, fun _ => KY, hrun⟩⟩
    rw [nI_clamp (by omega)]
    exact yh_u W hn hI K.2.2.2.2.2.2.2.2.1
  · intro hno
    refine br_t rfl ?_
    unfold wpY_head
    refine yk_k W GY h3 h4 ?_
    intro nu bf bh re td wo KY
    exact yk_sv W KY.1 v1 (fun n hn e hR => absurd hR (hno n hn e)) (fun _ => br_t rfl ⟨rfl, ⟨g, s, W, GX, GY, Or.inr rfl, fun _ => K, Or.inr rfl, fun _ => KY, hrun⟩⟩)
theorem i_vc_live {k : Nat} {u : SX} {v : SY} (I : i_Rel k u v) (hk : k + 6 ≤ 3072) (v1 : Int32) : wpX_live (fun r u' => wpY_live (fun r' v' => r' = r ∧ i_Rel (k + 6) u' v') v v1) u v1 := by
  refine zz_el (P := fun u v => wpX_live (fun r u' => wpY_live (fun r' v' => r' = r ∧ i_Rel (k + 6) u' v') v v1) u v1) ?_ I
  intro f_known f_seen f_many f_ordered f_isStraight f_entered f_todo f_length f_waiting f_tellings f_last f_stopped f_steps f_ran f_left a_acts a_actV a_actC a_ends a_endV a_endX a_endY a_numbers a_byNumber a_before a_forward a_backward a_orderOf a_at a_from a_semi a_label a_up a_found a_stack a_place a_chiefs a_tails a_edges a_rulers a_loops a_innermost a_outer a_deep a_alive a_values a_present a_code a_target a_pending a_pendingOf a_begins a_openAt a_vars a_told g_fresh g_many g_tells g_last g_runs g_stopped b_actKind b_actV b_actC b_endKind b_endV b_endX b_endY b_number b_before b_behind b_reached b_todo b_words b_coming b_values b_told b_variables R
  obtain ⟨g, s, W, GX, GY, h1, h2, h3, h4, hrun⟩ := R
  unfold wpX_live
  refine xk_l W GX h1 h2 ?_
  intro f_seen f_many f_ordered f_isStraight f_entered f_todo f_length f_waiting a_numbers a_byNumber a_before a_forward a_backward a_orderOf a_at a_from a_semi a_label a_up a_found a_stack a_place a_chiefs a_tails a_edges a_rulers a_loops a_innermost a_outer a_deep a_alive a_values a_present a_code a_target a_pending a_pendingOf a_begins a_openAt K
  refine xz_s W K.1 v1 ?_ ?_
  · intro n hn e hR
    subst e
    refine br_f (by decide) ?_
    refine And.intro (xg_i hn) ?_
    unfold wpY_live
    refine yk_k W GY h3 h4 ?_
    intro nu bf bh re td wo KY
    refine yk_s W KY.1 hn (fun _ => ?_) (fun h => absurd hR h)
    refine br_f (by decide) ?_
    refine yv_l W GY hn ?_
    intro r re' td' hr
    refine ⟨?_, ⟨g, s, W, GX, GY, Or.inr rfl, fun _ => K, Or.inr rfl, fun _ => KY, hrun⟩⟩
    rw [nI_clamp (by omega)]
    exact xz_b (fun v => K.2.2.2.2.2.2.2.2.2.2.1 n hR v) hr
  · intro hno
    refine br_t rfl ?_
    unfold wpY_live
    refine yk_k W GY h3 h4 ?_
    intro nu bf bh re td wo KY
    exact yk_sv W KY.1 v1 (fun n hn e hR => absurd hR (hno n hn e)) (fun _ => br_t rfl ⟨rfl, ⟨g, s, W, GX, GY, Or.inr rfl, fun _ => K, Or.inr rfl, fun _ => KY, hrun⟩⟩)
theorem i_vc_straight {k : Nat} {u : SX} {v : SY} (I : i_Rel k u v) (hk : k + 6 ≤ 3072) : wpX_straight (fun r u' => wpY_straight (fun r' v' => r' = r ∧ i_Rel (k + 6) u' v') v) u := by
  refine zz_el (P := fun u v => wpX_straight (fun r u' => wpY_straight (fun r' v' => r' = r ∧ i_Rel (k + 6) u' v') v) u) ?_ I
  intro f_known f_seen f_many f_ordered f_isStraight f_entered f_todo f_length f_waiting f_tellings f_last f_stopped f_steps f_ran f_left a_acts a_actV a_actC a_ends a_endV a_endX a_endY a_numbers a_byNumber a_before a_forward a_backward a_orderOf a_at a_from a_semi a_label a_up a_found a_stack a_place a_chiefs a_tails a_edges a_rulers a_loops a_innermost a_outer a_deep a_alive a_values a_present a_code a_target a_pending a_pendingOf a_begins a_openAt a_vars a_told g_fresh g_many g_tells g_last g_runs g_stopped b_actKind b_actV b_actC b_endKind b_endV b_endX b_endY b_number b_before b_behind b_reached b_todo b_words b_coming b_values b_told b_variables R
  obtain ⟨g, s, W, GX, GY, h1, h2, h3, h4, hrun⟩ := R
  unfold wpX_straight
  refine xk_l W GX h1 h2 ?_
  intro f_seen f_many f_ordered f_isStraight f_entered f_todo f_length f_waiting a_numbers a_byNumber a_before a_forward a_backward a_orderOf a_at a_from a_semi a_label a_up a_found a_stack a_place a_chiefs a_tails a_edges a_rulers a_loops a_innermost a_outer a_deep a_alive a_values a_present a_code a_target a_pending a_pendingOf a_begins a_openAt K
  rcases K.2.2.2.2.2.2.1 with ⟨es, hS⟩ | ⟨es, hS⟩
  · refine And.intro (by rw [es]; exact yk_n1) ?_
    unfold wpY_straight
    refine yk_k W GY h3 h4 ?_
    intro nu bf bh re td wo KY
    exact yt_t W GY KY (fun _ => ⟨es.symm, ⟨g, s, W, GX, GY, Or.inr rfl, fun _ => K, Or.inr rfl, fun _ => KY, hrun⟩⟩) (fun h => absurd hS h)
  · refine And.intro (by rw [es]; exact yk_n0) ?_
    unfold wpY_straight
    refine yk_k W GY h3 h4 ?_
    intro nu bf bh re td wo KY
    exact yt_t W GY KY (fun h => absurd h hS) (fun _ => ⟨es.symm, ⟨g, s, W, GX, GY, Or.inr rfl, fun _ => K, Or.inr rfl, fun _ => KY, hrun⟩⟩)
theorem i_vc_merges {k : Nat} {u : SX} {v : SY} (I : i_Rel k u v) (hk : k + 6 ≤ 3072) (v1 : Int32) : wpX_merges (fun r u' => wpY_merges (fun r' v' => r' = r ∧ i_Rel (k + 6) u' v') v v1) u v1 := by
  refine zz_el (P := fun u v => wpX_merges (fun r u' => wpY_merges (fun r' v' => r' = r ∧ i_Rel (k + 6) u' v') v v1) u v1) ?_ I
  intro f_known f_seen f_many f_ordered f_isStraight f_entered f_todo f_length f_waiting f_tellings f_last f_stopped f_steps f_ran f_left a_acts a_actV a_actC a_ends a_endV a_endX a_endY a_numbers a_byNumber a_before a_forward a_backward a_orderOf a_at a_from a_semi a_label a_up a_found a_stack a_place a_chiefs a_tails a_edges a_rulers a_loops a_innermost a_outer a_deep a_alive a_values a_present a_code a_target a_pending a_pendingOf a_begins a_openAt a_vars a_told g_fresh g_many g_tells g_last g_runs g_stopped b_actKind b_actV b_actC b_endKind b_endV b_endX b_endY b_number b_before b_behind b_reached b_todo b_words b_coming b_values b_told b_variables R
  obtain ⟨g, s, W, GX, GY, h1, h2, h3, h4, hrun⟩ := R
  unfold wpX_merges
  refine rl_vr v1 ?_ ?_
  · intro n hn e
    subst e
    refine br_f (by decide) (xk_l W GX h1 h2 ?_)
    intro f_seen f_many f_ordered f_isStraight f_entered f_todo f_length f_waiting a_numbers a_byNumber a_before a_forward a_backward a_orderOf a_at a_from a_semi a_label a_up a_found a_stack a_place a_chiefs a_tails a_edges a_rulers a_loops a_innermost a_outer a_deep a_alive a_values a_present a_code a_target a_pending a_pendingOf a_begins a_openAt K
    refine xm_m W GX K.1 K.2.2.2.2.1 hn ?_
    intro S hS
    unfold wpY_merges
    refine rl_py 3 (by omega) (by omega) ?_
    refine br_f (by decide) (yk_k W GY h3 h4 ?_)
    intro nu bf bh re td wo KY
    refine ye_e (m := 0) W GY KY gr_rf ?_
    intro r0 hr0
    refine ym_m W GY KY hn ?_ hr0
    intro S' hS'
    exact ⟨xz_b hS hS', ⟨g, s, W, GX, GY, Or.inr rfl, fun _ => K, Or.inr rfl, fun _ => KY, hrun⟩⟩
  · intro h
    refine br_t rfl ?_
    unfold wpY_merges
    refine rl_ny 3 (by omega) (fun j hj e => h j (by omega) e) ?_
    exact br_t rfl ⟨rfl, ⟨g, s, W, GX, GY, h1, h2, h3, h4, hrun⟩⟩
theorem i_vc_known {k : Nat} {u : SX} {v : SY} (I : i_Rel k u v) (hk : k + 6 ≤ 3072) (v1 : Int32) (v2 : Int32) : wpX_known (fun r u' => wpY_known (fun r' v' => r' = r ∧ i_Rel (k + 6) u' v') v v1 v2) u v1 v2 := by
  refine zz_el (P := fun u v => wpX_known (fun r u' => wpY_known (fun r' v' => r' = r ∧ i_Rel (k + 6) u' v') v v1 v2) u v1 v2) ?_ I
  intro f_known f_seen f_many f_ordered f_isStraight f_entered f_todo f_length f_waiting f_tellings f_last f_stopped f_steps f_ran f_left a_acts a_actV a_actC a_ends a_endV a_endX a_endY a_numbers a_byNumber a_before a_forward a_backward a_orderOf a_at a_from a_semi a_label a_up a_found a_stack a_place a_chiefs a_tails a_edges a_rulers a_loops a_innermost a_outer a_deep a_alive a_values a_present a_code a_target a_pending a_pendingOf a_begins a_openAt a_vars a_told g_fresh g_many g_tells g_last g_runs g_stopped b_actKind b_actV b_actC b_endKind b_endV b_endX b_endY b_number b_before b_behind b_reached b_todo b_words b_coming b_values b_told b_variables R
  obtain ⟨g, s, W, GX, GY, h1, h2, h3, h4, hrun⟩ := R
  unfold wpX_known
  refine xk_l W GX h1 h2 ?_
  intro f_seen f_many f_ordered f_isStraight f_entered f_todo f_length f_waiting a_numbers a_byNumber a_before a_forward a_backward a_orderOf a_at a_from a_semi a_label a_up a_found a_stack a_place a_chiefs a_tails a_edges a_rulers a_loops a_innermost a_outer a_deep a_alive a_values a_present a_code a_target a_pending a_pendingOf a_begins a_openAt K
  obtain ⟨s0, hF, hE, hA⟩ := K.2.2.2.2.2.2.2.2.2.2.2.1
  refine rl_vr v2 ?_ ?_
  · intro w hw e
    subst e
    refine br_f (by decide) (rl_nd v1 ?_ ?_)
    · intro n hn e
      subst e
      refine br_f (by decide) ?_
      have y : ∀ z : Int32, z = vl_i (s0 n w) → (wpY_known (fun r' v' => r' = z ∧ i_Rel (k + 6) (1, f_seen, f_many, f_ordered, f_isStraight, f_entered, f_todo, f_length, f_waiting, f_tellings, f_last, f_stopped, f_steps, f_left, f_ran, a_acts, a_actV, a_actC, a_ends, a_endV, a_endX, a_endY, a_numbers, a_byNumber, a_before, a_forward, a_backward, a_orderOf, a_at, a_from, a_semi, a_label, a_up, a_found, a_stack, a_place, a_chiefs, a_tails, a_edges, a_rulers, a_loops, a_innermost, a_outer, a_deep, a_alive, a_values, a_present, a_code, a_target, a_pending, a_pendingOf, a_begins, a_openAt, a_vars, a_told) v') (g_fresh, g_many, g_tells, g_last, g_runs, g_stopped, b_actKind, b_actV, b_actC, b_endKind, b_endV, b_endX, b_endY, b_number, b_before, b_behind, b_reached, b_todo, b_words, b_coming, b_values, b_told, b_variables) (nI n) (nI w)) := by
        intro z hz
        unfold wpY_known
        refine rl_py 15 (by omega) (by omega) ?_
        refine br_f (by decide) (rl_py 3 (by omega) (by omega) ?_)
        refine br_f (by decide) (yw_k W GY hn hw ?_)
        intro s1 va hF1
        refine ⟨?_, ⟨g, s, W, GX, GY, Or.inr rfl, fun _ => K, h3, h4, hrun⟩⟩
        rw [hz, vl_un hF hF1 hn hw]
      by_cases hb : bt f_entered n = true
      · refine br_f (fun h => ?_) (And.intro (by rw [vl_ix]; exact vp_in_nI (by omega) (by omega)) (y _ ?_))
        · rw [bs_g0 _ (by omega), hb] at h
          cases h
        · rw [vl_ix, nI_clamp (by omega)]; exact hA n w hn hw
      · refine br_t ((bs_g0 _ (by omega)).mpr (ts_nt hb)) (y _ ?_)
        have h17 : s0 n 0 = 17 := Classical.byContradiction (fun h => hb ((hE n).mpr ⟨hn, h⟩))
        have : s0 n w = 17 := by
          rcases hF.1.1 n hn with h | h
          · exact h w hw
          · have := h 0 (by omega); omega
        rw [this]; rfl
    · intro h
      refine br_t rfl ?_
      unfold wpY_known
      refine rl_ny 15 (by omega) (fun j hj e => h j (by omega) e) ?_
      exact br_t rfl ⟨rfl, ⟨g, s, W, GX, GY, Or.inr rfl, fun _ => K, h3, h4, hrun⟩⟩
  · intro h
    refine br_t rfl ?_
    unfold wpY_known
    refine yg_in (N := 15) (by omega) ?_ ?_
    · intro n hn e
      refine br_f (by decide) (rl_ny 3 (by omega) (fun j hj e => h j (by omega) e) ?_)
      exact br_t rfl ⟨rfl, ⟨g, s, W, GX, GY, Or.inr rfl, fun _ => K, h3, h4, hrun⟩⟩
    · intro _
      exact br_t rfl ⟨rfl, ⟨g, s, W, GX, GY, Or.inr rfl, fun _ => K, h3, h4, hrun⟩⟩
end ZJ
section ZK
variable {g_fresh g_many g_tells g_last g_runs g_stopped : Int32} {b_actKind b_actV b_actC b_endKind b_endV b_endX b_endY b_number b_before b_behind b_reached b_todo b_words b_coming b_values b_told b_variables : Nat → Int32} {g : Nat → Nat → Nat}
theorem yz_w (W : gg_W g) (G : (yg_G g b_actKind b_actV b_actC b_endKind b_endV b_endX b_endY)) (h01 : g_fresh = 0 ∨ g_fresh = 1) (hK : g_fresh = 1 → yk_K g b_number b_before b_behind) {post : Int32 → SY → Prop}
    (C0 : ¬ gg_St g → ∀ nu bf bh re td wo : Nat → Int32, yk_K g nu bf bh → post (-1) (1, g_many, g_tells, g_last, g_runs, g_stopped, b_actKind, b_actV, b_actC, b_endKind, b_endV, b_endX, b_endY, nu, bf, bh, re, td, wo, b_coming, b_values, b_told, b_variables))
    (C1 : gg_St g → ∀ nu bf bh re td wo co : Nat → Int32, yk_K g nu bf bh → xc_C (cd_L g) wo → post (nI (cd_L g).length) (1, nI (cd_L g).length, g_tells, g_last, g_runs, g_stopped, b_actKind, b_actV, b_actC, b_endKind, b_endV, b_endX, b_endY, nu, bf, bh, re, td, wo, co, b_values, b_told, b_variables)) : (wpY_words post (g_fresh, g_many, g_tells, g_last, g_runs, g_stopped, b_actKind, b_actV, b_actC, b_endKind, b_endV, b_endX, b_endY, b_number, b_before, b_behind, b_reached, b_todo, b_words, b_coming, b_values, b_told, b_variables)) := by
  unfold wpY_words wpY_straight
  refine yk_k W G h01 hK ?_
  intro nu bf bh re td wo KY
  refine yt_t W G KY ?_ ?_
  · intro hS
    refine br_f (by decide) (yx_wr W hS G KY ?_)
    intro wo' co' re' td' hL
    exact C1 hS nu bf bh re' td' wo' co' KY hL
  · intro hS
    exact br_t rfl (C0 hS nu bf bh re td wo KY)
end ZK
section ZL
theorem i_vc_words {k : Nat} {u : SX} {v : SY} (I : i_Rel k u v) (hk : k + 6 ≤ 3072) : wpX_words (fun r u' => wpY_words (fun r' v' => r' = r ∧ i_Rel (k + 6) u' v') v) u := by
  refine zz_el (P := fun u v => wpX_words (fun r u' => wpY_words (fun r' v' => r' = r ∧ i_Rel (k + 6) u' v') v) u) ?_ I
  intro f_known f_seen f_many f_ordered f_isStraight f_entered f_todo f_length f_waiting f_tellings f_last f_stopped f_steps f_ran f_left a_acts a_actV a_actC a_ends a_endV a_endX a_endY a_numbers a_byNumber a_before a_forward a_backward a_orderOf a_at a_from a_semi a_label a_up a_found a_stack a_place a_chiefs a_tails a_edges a_rulers a_loops a_innermost a_outer a_deep a_alive a_values a_present a_code a_target a_pending a_pendingOf a_begins a_openAt a_vars a_told g_fresh g_many g_tells g_last g_runs g_stopped b_actKind b_actV b_actC b_endKind b_endV b_endX b_endY b_number b_before b_behind b_reached b_todo b_words b_coming b_values b_told b_variables R
  obtain ⟨g, s, W, GX, GY, h1, h2, h3, h4, hrun⟩ := R
  unfold wpX_words
  refine xk_l W GX h1 h2 ?_
  intro f_seen f_many f_ordered f_isStraight f_entered f_todo f_length f_waiting a_numbers a_byNumber a_before a_forward a_backward a_orderOf a_at a_from a_semi a_label a_up a_found a_stack a_place a_chiefs a_tails a_edges a_rulers a_loops a_innermost a_outer a_deep a_alive a_values a_present a_code a_target a_pending a_pendingOf a_begins a_openAt K
  rcases K.2.2.2.2.2.2.1 with ⟨es, hS⟩ | ⟨es, hS⟩
  · have hc := K.2.2.2.2.2.2.2.2.2.2.2.2 hS
    refine br_f (by rw [es]; decide) (yz_w W GY h3 h4 (fun h => absurd hS h) ?_)
    intro _ nu bf bh re td wo co KY _
    exact ⟨hc.1.symm, ⟨g, s, W, GX, GY, Or.inr rfl, fun _ => K, Or.inr rfl, fun _ => KY, hrun⟩⟩
  · refine br_t es (yz_w W GY h3 h4 ?_ (fun h => absurd h hS))
    intro _ nu bf bh re td wo KY
    exact ⟨rfl, ⟨g, s, W, GX, GY, Or.inr rfl, fun _ => K, Or.inr rfl, fun _ => KY, hrun⟩⟩
theorem i_vc_word {k : Nat} {u : SX} {v : SY} (I : i_Rel k u v) (hk : k + 6 ≤ 3072) (v1 : Int32) : wpX_word (fun r u' => wpY_word (fun r' v' => r' = r ∧ i_Rel (k + 6) u' v') v v1) u v1 := by
  refine zz_el (P := fun u v => wpX_word (fun r u' => wpY_word (fun r' v' => r' = r ∧ i_Rel (k + 6) u' v') v v1) u v1) ?_ I
  intro f_known f_seen f_many f_ordered f_isStraight f_entered f_todo f_length f_waiting f_tellings f_last f_stopped f_steps f_ran f_left a_acts a_actV a_actC a_ends a_endV a_endX a_endY a_numbers a_byNumber a_before a_forward a_backward a_orderOf a_at a_from a_semi a_label a_up a_found a_stack a_place a_chiefs a_tails a_edges a_rulers a_loops a_innermost a_outer a_deep a_alive a_values a_present a_code a_target a_pending a_pendingOf a_begins a_openAt a_vars a_told g_fresh g_many g_tells g_last g_runs g_stopped b_actKind b_actV b_actC b_endKind b_endV b_endX b_endY b_number b_before b_behind b_reached b_todo b_words b_coming b_values b_told b_variables R
  obtain ⟨g, s, W, GX, GY, h1, h2, h3, h4, hrun⟩ := R
  unfold wpX_word
  refine xk_l W GX h1 h2 ?_
  intro f_seen f_many f_ordered f_isStraight f_entered f_todo f_length f_waiting a_numbers a_byNumber a_before a_forward a_backward a_orderOf a_at a_from a_semi a_label a_up a_found a_stack a_place a_chiefs a_tails a_edges a_rulers a_loops a_innermost a_outer a_deep a_alive a_values a_present a_code a_target a_pending a_pendingOf a_begins a_openAt K
  have no : ∀ {post : Int32 → SY → Prop}, (v1 < 0 ∨ ¬ gg_St g ∨ nI (cd_L g).length ≤ v1) → (∀ (gm : Int32) (nu bf bh re td wo co : Nat → Int32), yk_K g nu bf bh → post (-1) (1, gm, g_tells, g_last, g_runs, g_stopped, b_actKind, b_actV, b_actC, b_endKind, b_endV, b_endX, b_endY, nu, bf, bh, re, td, wo, co, b_values, b_told, b_variables)) → (wpY_word post (g_fresh, g_many, g_tells, g_last, g_runs, g_stopped, b_actKind, b_actV, b_actC, b_endKind, b_endV, b_endX, b_endY, b_number, b_before, b_behind, b_reached, b_todo, b_words, b_coming, b_values, b_told, b_variables) v1) := by
    intro post hc C
    unfold wpY_word
    refine yz_w W GY h3 h4 ?_ ?_
    · intro _ nu bf bh re td wo KY
      by_cases hx : v1 < 0
      · exact br_t hx (C _ nu bf bh re td wo _ KY)
      · refine br_f hx (br_f (fun h => ?_) (C _ nu bf bh re td wo _ KY))
        exact hx (Int32.lt_trans h bs_n1)
    · intro hS nu bf bh re td wo co KY _
      by_cases hx : v1 < 0
      · exact br_t hx (C _ nu bf bh re td wo co KY)
      · refine br_f hx (br_f (fun h => ?_) (C _ nu bf bh re td wo co KY))
        rcases hc with hc | hc | hc
        · exact hx hc
        · exact hc hS
        · exact absurd h (Int32.not_lt.mpr hc)
  rcases K.2.2.2.2.2.2.1 with ⟨es, hS⟩ | ⟨es, hS⟩
  · obtain ⟨c1, c2, c3, c4⟩ := K.2.2.2.2.2.2.2.2.2.2.2.2 hS
    refine br_f (by rw [es]; decide) ?_
    by_cases hx : v1 < 0
    · refine br_t hx (no (Or.inl hx) ?_)
      intro gm nu bf bh re td wo co KY
      exact ⟨rfl, ⟨g, s, W, GX, GY, Or.inr rfl, fun _ => K, Or.inr rfl, fun _ => KY, hrun⟩⟩
    · refine br_f hx ?_
      obtain ⟨p, hp31, rfl⟩ := nI_of hx
      by_cases hp : (cd_L g).length ≤ p
      · refine br_t (by rw [c1]; exact nI_le hp hp31) (no (Or.inr (Or.inr (nI_le hp hp31))) ?_)
        intro gm nu bf bh re td wo co KY
        exact ⟨rfl, ⟨g, s, W, GX, GY, Or.inr rfl, fun _ => K, Or.inr rfl, fun _ => KY, hrun⟩⟩
      · refine br_f (by rw [c1]; exact nI_ge (by omega) (by omega)) (And.intro (vp_in_nI (by omega) (by omega)) ?_)
        unfold wpY_word
        refine yz_w W GY h3 h4 (fun h => absurd hS h) ?_
        intro _ nu bf bh re td wo co KY hL
        refine br_f hx (br_t (nI_lt (by omega) (by omega)) (And.intro (vp_in_nI (by omega) (by omega)) ⟨?_, ⟨g, s, W, GX, GY, Or.inr rfl, fun _ => K, Or.inr rfl, fun _ => KY, hrun⟩⟩))
        rw [nI_clamp (by omega), hL p (by omega), c3 p (by omega)]
  · refine br_t es (no (Or.inr (Or.inl hS)) ?_)
    intro gm nu bf bh re td wo co KY
    exact ⟨rfl, ⟨g, s, W, GX, GY, Or.inr rfl, fun _ => K, Or.inr rfl, fun _ => KY, hrun⟩⟩
end ZL
end
