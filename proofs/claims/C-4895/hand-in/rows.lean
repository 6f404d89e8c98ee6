section
/-! pure rows to paste: stores, nI and lN arithmetic, masks, shifts, narrowing, branches by naturals (pk_le, pk_lt, pk_eq), loops (lp1 .. lp16: the measure of the state; rp1 ..: recursion), negatives. Take what you need -/
theorem pk_us {f : Nat → Int32} {k : Nat} {x : Int32} : upd f k x k = x := if_pos rfl
theorem pk_un {f : Nat → Int32} {k j : Nat} {x : Int32} (h : j ≠ k) : upd f k x j = f j := if_neg h
theorem pk_uLs {f : Nat → Int64} {k : Nat} {x : Int64} : vp_updL f k x k = x := if_pos rfl
theorem pk_uLn {f : Nat → Int64} {k j : Nat} {x : Int64} (h : j ≠ k) : vp_updL f k x j = f j := if_neg h
theorem pk_sub {a b : Nat} (h : b ≤ a) : nI a - nI b = nI (a - b) := by
  obtain ⟨c, rfl⟩ : ∃ c, a = c + b := ⟨a - b, by omega⟩
  rw [← nI_add, Int32.add_sub_cancel, Nat.add_sub_cancel]
theorem pk_m1 (n : Nat) : nI (n + 1) + (-1) = nI n := by
  rw [← nI_1, Int32.add_assoc, show (1 : Int32) + (-1) = 0 from rfl, Int32.add_zero]
theorem pk_mul (a b : Nat) : nI a * nI b = nI (a * b) := (Int32.ofNat_mul a b).symm
theorem pk_div {a d : Nat} (ha : a < 2 ^ 31) (h0 : 0 < d) (hd : d < 2 ^ 31) : nI a / nI d = nI (a / d) := by
  apply Int32.toInt_inj.mp
  rw [lg_idiv_nonneg (by rw [nI_toInt ha]; omega) (by rw [nI_toInt hd]; omega), nI_toInt ha, nI_toInt hd, nI_toInt (Nat.lt_of_le_of_lt (Nat.div_le_self a d) ha)]
  first | rfl | exact (Int.natCast_ediv _ _).symm
theorem pk_rem {a d : Nat} (ha : a < 2 ^ 31) (h0 : 0 < d) (hd : d < 2 ^ 31) : nI a - nI a / nI d * nI d = nI (a % d) := by
  rw [pk_div ha h0 hd, pk_mul, pk_sub (Nat.div_mul_le_self a d)]
  exact congrArg nI (by have := Nat.div_add_mod' a d; omega)
theorem pk_sub_toInt {a b : Nat} (ha : a < 2 ^ 30) (hb : b < 2 ^ 30) : (nI a - nI b).toInt = (a : Int) - b := by
  rw [Int32.toInt_sub, nI_toInt (by omega), nI_toInt (by omega)]
  exact Int.bmod_eq_of_le (by omega) (by omega)
theorem pk_sneg {a b : Nat} (hb : b < 2 ^ 30) (h : a < b) : nI a - nI b < 0 := by
  rw [Int32.lt_iff_toInt_lt, pk_sub_toInt (by omega) hb, show (0 : Int32).toInt = 0 from by decide]
  omega
theorem pk_ix (x : Int32) {n : Nat} (hn : n < 2 ^ 31) : x < 0 ∨ nI n ≤ x ∨ ∃ j : Nat, j < n ∧ x = nI j := by
  by_cases h : x < 0
  · exact Or.inl h
  · obtain ⟨j, hj, rfl⟩ := nI_of h
    by_cases h2 : j < n
    · exact Or.inr (Or.inr ⟨j, h2, rfl⟩)
    · exact Or.inr (Or.inl (nI_le (by omega) hj))
theorem pk_le {x y : Int32} {A B : Prop} (a b : Nat) (f : a ≤ b → A) (g : b < a → B) (hx : x = nI a := by rfl) (hy : y = nI b := by rfl) (ha : a < 2 ^ 31 := by omega) (hb : b < 2 ^ 31 := by omega) : (x ≤ y → A) ∧ (¬ x ≤ y → B) := by
  subst hx hy
  rw [nI_leI ha hb]
  exact ⟨f, fun z => g (by omega)⟩
theorem pk_lt {x y : Int32} {A B : Prop} (a b : Nat) (f : a < b → A) (g : b ≤ a → B) (hx : x = nI a := by rfl) (hy : y = nI b := by rfl) (ha : a < 2 ^ 31 := by omega) (hb : b < 2 ^ 31 := by omega) : (x < y → A) ∧ (¬ x < y → B) := by
  subst hx hy
  rw [nI_ltI ha hb]
  exact ⟨f, fun z => g (by omega)⟩
theorem pk_eq {x y : Int32} {A B : Prop} (a b : Nat) (f : a = b → A) (g : a ≠ b → B) (hx : x = nI a := by rfl) (hy : y = nI b := by rfl) (ha : a < 2 ^ 31 := by omega) (hb : b < 2 ^ 31 := by omega) : (x = y → A) ∧ (¬ x = y → B) := by
  subst hx hy
  rw [nI_eq ha hb]
  exact ⟨f, g⟩
theorem pk_in {x : Int32} (n N : Nat) (h : n < N) (hx : x = nI n := by rfl) (hN : N < 2 ^ 31 := by omega) : vp_in x N := by
  subst hx
  exact vp_in_nI h hN
theorem pk_cl {x : Int32} (n : Nat) (hx : x = nI n := by rfl) (h : n < 2 ^ 31 := by omega) : x.toNatClampNeg = n := by
  subst hx
  exact nI_clamp h
theorem pk_tn {n : Nat} (h : n < 2 ^ 32) : (nI n).toBitVec.toNat = n := Nat.mod_eq_of_lt h
theorem pk_and (x : Int32) {m : Int32} (k : Nat) (hm : m.toBitVec.toNat = 2 ^ k - 1) : x &&& m = nI (x.toBitVec.toNat % 2 ^ k) := by
  apply Int32.toBitVec_inj.mp
  apply BitVec.eq_of_toNat_eq
  rw [Int32.toBitVec_and, BitVec.toNat_and, hm, Nat.and_two_pow_sub_one_eq_mod]
  show _ = (BitVec.ofNat 32 _).toNat
  rw [BitVec.toNat_ofNat]
  exact (Nat.mod_eq_of_lt (Nat.lt_of_le_of_lt (Nat.mod_le _ _) x.toBitVec.isLt)).symm
theorem pk_andN {n : Nat} (h : n < 2 ^ 32) {m : Int32} (k : Nat) (hm : m.toBitVec.toNat = 2 ^ k - 1) : nI n &&& m = nI (n % 2 ^ k) := by
  rw [pk_and _ k hm, pk_tn h]
theorem pk_andE (x : Int32) {m : Int32} (k : Nat) (hm : m.toBitVec.toNat = 2 ^ k - 1) : ∃ j : Nat, j < 2 ^ k ∧ x &&& m = nI j := ⟨_, Nat.mod_lt _ (Nat.two_pow_pos k), pk_and x k hm⟩
theorem pk_andIn (x : Int32) {m : Int32} (k : Nat) (hm : m.toBitVec.toNat = 2 ^ k - 1) (hk : k ≤ 30) : vp_in (x &&& m) (2 ^ k) := by
  obtain ⟨j, hj, e⟩ := pk_andE x k hm
  rw [e]
  exact vp_in_nI hj (Nat.lt_of_le_of_lt (Nat.pow_le_pow_right (by decide) hk) (by decide))
theorem pk_shl (a s : Int32) (k : Nat) (hs : (s.toBitVec.smod 32).toNat = k) : (a <<< s).toBitVec.toNat = a.toBitVec.toNat * 2 ^ k % 2 ^ 32 := by
  show (a.toBitVec <<< (s.toBitVec.smod 32).toNat).toNat = _
  rw [hs, BitVec.toNat_shiftLeft, Nat.shiftLeft_eq]
theorem pk_shlN {n : Nat} (s : Int32) (k : Nat) (hs : (s.toBitVec.smod 32).toNat = k) (h : n * 2 ^ k < 2 ^ 32) : nI n <<< s = nI (n * 2 ^ k) := by
  apply Int32.toBitVec_inj.mp
  apply BitVec.eq_of_toNat_eq
  have hn : n < 2 ^ 32 := Nat.lt_of_le_of_lt (Nat.le_mul_of_pos_right n (Nat.two_pow_pos k)) h
  rw [pk_shl _ _ k hs, pk_tn hn, pk_tn h, Nat.mod_eq_of_lt h]
theorem pk_shr (a s : Int32) (k : Nat) (hs : (s.toBitVec.smod 32).toNat = k) : (a >>> s).toInt = a.toInt >>> k := by
  show (a.toBitVec.sshiftRight (s.toBitVec.smod 32).toNat).toInt = _
  rw [hs, BitVec.toInt_sshiftRight]
  rfl
theorem pk_shrN {n : Nat} (h : n < 2 ^ 31) (s : Int32) (k : Nat) (hs : (s.toBitVec.smod 32).toNat = k) : nI n >>> s = nI (n / 2 ^ k) := by
  apply Int32.toInt_inj.mp
  have h2 : n / 2 ^ k ≤ n := Nat.div_le_self _ _
  rw [pk_shr _ _ k hs, nI_toInt h, nI_toInt (by omega), Int.shiftRight_eq_div_pow]
  rfl
theorem pk_ushr (x s : Int32) (k : Nat) (hs : ((s.toUInt32 &&& Int32.toUInt32 31).toBitVec % 32).toNat = k) : (x.toUInt32 >>> (s.toUInt32 &&& Int32.toUInt32 31)).toInt32.toBitVec.toNat = x.toBitVec.toNat / 2 ^ k := by
  have e : (x.toUInt32 >>> (s.toUInt32 &&& Int32.toUInt32 31)).toInt32.toBitVec = x.toBitVec >>> k := by
    rw [← hs]
    exact UInt32.toBitVec_shiftRight _ _
  rw [e, BitVec.toNat_ushiftRight, Nat.shiftRight_eq_div_pow]
theorem pk_ushrN {n : Nat} (hn : n < 2 ^ 32) (s : Int32) (k : Nat) (hs : ((s.toUInt32 &&& Int32.toUInt32 31).toBitVec % 32).toNat = k) : ((nI n).toUInt32 >>> (s.toUInt32 &&& Int32.toUInt32 31)).toInt32 = nI (n / 2 ^ k) := by
  apply Int32.toBitVec_inj.mp
  apply BitVec.eq_of_toNat_eq
  rw [pk_ushr _ s k hs, pk_tn hn, pk_tn (Nat.lt_of_le_of_lt (Nat.div_le_self _ _) hn)]
theorem pk_nb (z : Int32) : narrow .byte (.int z.toInt8.toInt32) = .int z.toInt8.toInt32 := congrArg Value.int (by simp)
theorem pk_ns (z : Int32) : narrow .short (.int z.toInt16.toInt32) = .int z.toInt16.toInt32 := congrArg Value.int (by simp)
theorem pk_fb (r : Int32) : fits .byte (.int r.toInt8.toInt32) = true := by
  have ⟨a, b⟩ := lg_i2b_range r
  have h1 : (-128 : Int32).toInt = -128 := by decide
  have h2 : (127 : Int32).toInt = 127 := by decide
  simp only [fits, Bool.and_eq_true, decide_eq_true_eq, Int32.le_iff_toInt_le, h1, h2]
  omega
theorem pk_fs (r : Int32) : fits .short (.int r.toInt16.toInt32) = true := by
  have ⟨a, b⟩ := lg_i2s_range r
  have h1 : (-32768 : Int32).toInt = -32768 := by decide
  have h2 : (32767 : Int32).toInt = 32767 := by decide
  simp only [fits, Bool.and_eq_true, decide_eq_true_eq, Int32.le_iff_toInt_le, h1, h2]
  omega
theorem pk_charN {q : Nat} (hq : q < 65536) : narrow .char (.int (nI q)) = .int (nI q) ∧ fits .char (.int (nI q)) = true := by
  constructor
  · have e : (nI q).toUInt32.toUInt16.toUInt32.toInt32 = nI q := by
      apply Int32.toBitVec_inj.mp
      apply BitVec.eq_of_toNat_eq
      show (nI q).toUInt32.toUInt16.toUInt32.toNat = q % 2 ^ 32
      rw [UInt16.toNat_toUInt32, UInt32.toNat_toUInt16, show (nI q).toUInt32.toNat = q % 2 ^ 32 from rfl]
      omega
    exact congrArg Value.int e
  · have a : (0 : Int32) ≤ nI q := nI_pos' (by omega)
    have b : nI q ≤ 65535 := nI_le (b := 65535) (by omega) (by decide)
    show (decide ((0 : Int32) ≤ nI q) && decide (nI q ≤ 65535)) = true
    rw [decide_eq_true a, decide_eq_true b]
    rfl
theorem pk_char (x : Int32) : (x.toUInt32 % 65536).toInt32 = nI (x.toBitVec.toNat % 65536) := by
  apply Int32.toBitVec_inj.mp
  apply BitVec.eq_of_toNat_eq
  rw [pk_tn (by omega)]
  show (x.toUInt32 % 65536).toNat = _
  rw [UInt32.toNat_mod]
  rfl
theorem pk_nc (x : Int32) : narrow .char (.int (x.toUInt32 % 65536).toInt32) = .int (x.toUInt32 % 65536).toInt32 := by
  rw [pk_char]
  exact (pk_charN (Nat.mod_lt _ (by decide))).1
theorem pk_fc (x : Int32) : fits .char (.int (x.toUInt32 % 65536).toInt32) = true := by
  rw [pk_char]
  exact (pk_charN (Nat.mod_lt _ (by decide))).2
theorem pk_vb (z : Int32) : vp_nar .byte z.toInt8.toInt32 = z.toInt8.toInt32 := by rw [vp_nar_byte]; simp
theorem pk_vs (z : Int32) : vp_nar .short z.toInt16.toInt32 = z.toInt16.toInt32 := by rw [vp_nar_short]; simp
theorem pk_vc (z : Int32) : vp_nar .char (z.toUInt32 % 65536).toInt32 = (z.toUInt32 % 65536).toInt32 := Value.int.inj (pk_nc z)
theorem pk_lT {n : Nat} (h : n < 2 ^ 63) : (lN n).toInt = (n : Int) := lg_ofNat_toInt h
theorem pk_lLT {a b : Nat} (ha : a < 2 ^ 63) (hb : b < 2 ^ 63) : lN a < lN b ↔ a < b := by
  rw [Int64.lt_iff_toInt_lt, pk_lT ha, pk_lT hb]; omega
theorem pk_lLE {a b : Nat} (ha : a < 2 ^ 63) (hb : b < 2 ^ 63) : lN a ≤ lN b ↔ a ≤ b := by
  rw [Int64.le_iff_toInt_le, pk_lT ha, pk_lT hb]; omega
theorem pk_lEQ {a b : Nat} (ha : a < 2 ^ 63) (hb : b < 2 ^ 63) : lN a = lN b ↔ a = b := by
  rw [← Int64.toInt_inj, pk_lT ha, pk_lT hb]; omega
theorem pk_lOf {x : Int64} (h : ¬ x < 0) : ∃ k : Nat, k < 2 ^ 63 ∧ x = lN k := by
  rw [Int64.lt_iff_toInt_lt] at h
  have h0 : (0 : Int64).toInt = 0 := by decide
  have hx := Int64.toInt_lt x
  refine ⟨x.toInt.toNat, by omega, Int64.toInt_inj.mp ?_⟩
  rw [pk_lT (by omega)]
  omega
theorem pk_lDiv {a b : Nat} (ha : a < 2 ^ 63) (h0 : 0 < b) (hb : b < 2 ^ 63) : lN a / lN b = lN (a / b) := by
  apply Int64.toInt_inj.mp
  rw [lg_ldiv_nonneg (by rw [pk_lT ha]; omega) (by rw [pk_lT hb]; omega), pk_lT ha, pk_lT hb, pk_lT (Nat.lt_of_le_of_lt (Nat.div_le_self a b) ha)]
  rfl
theorem pk_lRem {a b : Nat} (ha : a < 2 ^ 63) (h0 : 0 < b) (hb : b < 2 ^ 63) : lN a - lN a / lN b * lN b = lN (a % b) := by
  rw [pk_lDiv ha h0 hb, lN_mul, lN_sub (Nat.div_mul_le_self a b)]
  exact congrArg lN (by have := Nat.div_add_mod' a b; omega)
theorem pk_loop {σ : Type} (W : Nat → Nat → σ → Prop) (I : Nat → σ → Prop) (e i0 : Nat) (s : σ) (hi : i0 ≤ e) (h0 : I i0 s) (hx : ∀ n s, I e s → W (n + 1) e s)
    (hs : ∀ n i s, i < e → I i s → (∀ s', I (i + 1) s' → W n (i + 1) s') → W (n + 1) i s) : ∃ n, W n i0 s :=
  ⟨e + 1, loop_i W I e hx hs (e + 1) i0 s hi (by omega) h0⟩
theorem pk_loopD {σ : Type} (W : Nat → Nat → σ → Prop) (I : Nat → σ → Prop) (hx : ∀ n s, I 0 s → W (n + 1) 0 s)
    (hs : ∀ n i s, I (i + 1) s → (∀ s', I i s' → W n i s') → W (n + 1) (i + 1) s) : ∀ (e : Nat) (s : σ), I e s → W (e + 1) e s := by
  intro e
  induction e with
  | zero => exact fun s h => hx 0 s h
  | succ e ih => exact fun s h => hs (e + 1) e s h (fun s' h' => ih s' h')
theorem lp1 {A1 : Type} (W : Nat → A1 → Prop) (I : A1 → Prop) (μ : A1 → Nat) (hs : ∀ (n : Nat) (a1 : A1), I a1 → (∀ (b1 : A1), I b1 → μ b1 < μ a1 → W n b1) → W (n + 1) a1) (a1 : A1) (h : I a1) : ∃ n, W n a1 :=
  loop_m (σ := A1) (fun n s => W n s) (fun s => I s) (fun s => μ s) (fun n s hI hk => hs n s hI (fun b1 h9 hm => hk b1 h9 hm)) a1 h
theorem lp2 {A1 A2 : Type} (W : Nat → A1 → A2 → Prop) (I : A1 → A2 → Prop) (μ : A1 → A2 → Nat) (hs : ∀ (n : Nat) (a1 : A1) (a2 : A2), I a1 a2 → (∀ (b1 : A1) (b2 : A2), I b1 b2 → μ b1 b2 < μ a1 a2 → W n b1 b2) → W (n + 1) a1 a2) (a1 : A1) (a2 : A2) (h : I a1 a2) : ∃ n, W n a1 a2 :=
  loop_m (σ := A1 × A2) (fun n s => W n s.1 s.2) (fun s => I s.1 s.2) (fun s => μ s.1 s.2) (fun n s hI hk => hs n s.1 s.2 hI (fun b1 b2 h9 hm => hk (b1, b2) h9 hm)) (a1, a2) h
theorem lp3 {A1 A2 A3 : Type} (W : Nat → A1 → A2 → A3 → Prop) (I : A1 → A2 → A3 → Prop) (μ : A1 → A2 → A3 → Nat) (hs : ∀ (n : Nat) (a1 : A1) (a2 : A2) (a3 : A3), I a1 a2 a3 → (∀ (b1 : A1) (b2 : A2) (b3 : A3), I b1 b2 b3 → μ b1 b2 b3 < μ a1 a2 a3 → W n b1 b2 b3) → W (n + 1) a1 a2 a3) (a1 : A1) (a2 : A2) (a3 : A3) (h : I a1 a2 a3) : ∃ n, W n a1 a2 a3 :=
  loop_m (σ := A1 × A2 × A3) (fun n s => W n s.1 s.2.1 s.2.2) (fun s => I s.1 s.2.1 s.2.2) (fun s => μ s.1 s.2.1 s.2.2) (fun n s hI hk => hs n s.1 s.2.1 s.2.2 hI (fun b1 b2 b3 h9 hm => hk (b1, b2, b3) h9 hm)) (a1, a2, a3) h
theorem lp4 {A1 A2 A3 A4 : Type} (W : Nat → A1 → A2 → A3 → A4 → Prop) (I : A1 → A2 → A3 → A4 → Prop) (μ : A1 → A2 → A3 → A4 → Nat) (hs : ∀ (n : Nat) (a1 : A1) (a2 : A2) (a3 : A3) (a4 : A4), I a1 a2 a3 a4 → (∀ (b1 : A1) (b2 : A2) (b3 : A3) (b4 : A4), I b1 b2 b3 b4 → μ b1 b2 b3 b4 < μ a1 a2 a3 a4 → W n b1 b2 b3 b4) → W (n + 1) a1 a2 a3 a4) (a1 : A1) (a2 : A2) (a3 : A3) (a4 : A4) (h : I a1 a2 a3 a4) : ∃ n, W n a1 a2 a3 a4 :=
  loop_m (σ := A1 × A2 × A3 × A4) (fun n s => W n s.1 s.2.1 s.2.2.1 s.2.2.2) (fun s => I s.1 s.2.1 s.2.2.1 s.2.2.2) (fun s => μ s.1 s.2.1 s.2.2.1 s.2.2.2) (fun n s hI hk => hs n s.1 s.2.1 s.2.2.1 s.2.2.2 hI (fun b1 b2 b3 b4 h9 hm => hk (b1, b2, b3, b4) h9 hm)) (a1, a2, a3, a4) h
theorem lp5 {A1 A2 A3 A4 A5 : Type} (W : Nat → A1 → A2 → A3 → A4 → A5 → Prop) (I : A1 → A2 → A3 → A4 → A5 → Prop) (μ : A1 → A2 → A3 → A4 → A5 → Nat) (hs : ∀ (n : Nat) (a1 : A1) (a2 : A2) (a3 : A3) (a4 : A4) (a5 : A5), I a1 a2 a3 a4 a5 → (∀ (b1 : A1) (b2 : A2) (b3 : A3) (b4 : A4) (b5 : A5), I b1 b2 b3 b4 b5 → μ b1 b2 b3 b4 b5 < μ a1 a2 a3 a4 a5 → W n b1 b2 b3 b4 b5) → W (n + 1) a1 a2 a3 a4 a5) (a1 : A1) (a2 : A2) (a3 : A3) (a4 : A4) (a5 : A5) (h : I a1 a2 a3 a4 a5) : ∃ n, W n a1 a2 a3 a4 a5 :=
  loop_m (σ := A1 × A2 × A3 × A4 × A5) (fun n s => W n s.1 s.2.1 s.2.2.1 s.2.2.2.1 s.2.2.2.2) (fun s => I s.1 s.2.1 s.2.2.1 s.2.2.2.1 s.2.2.2.2) (fun s => μ s.1 s.2.1 s.2.2.1 s.2.2.2.1 s.2.2.2.2) (fun n s hI hk => hs n s.1 s.2.1 s.2.2.1 s.2.2.2.1 s.2.2.2.2 hI (fun b1 b2 b3 b4 b5 h9 hm => hk (b1, b2, b3, b4, b5) h9 hm)) (a1, a2, a3, a4, a5) h
theorem lp6 {A1 A2 A3 A4 A5 A6 : Type} (W : Nat → A1 → A2 → A3 → A4 → A5 → A6 → Prop) (I : A1 → A2 → A3 → A4 → A5 → A6 → Prop) (μ : A1 → A2 → A3 → A4 → A5 → A6 → Nat) (hs : ∀ (n : Nat) (a1 : A1) (a2 : A2) (a3 : A3) (a4 : A4) (a5 : A5) (a6 : A6), I a1 a2 a3 a4 a5 a6 → (∀ (b1 : A1) (b2 : A2) (b3 : A3) (b4 : A4) (b5 : A5) (b6 : A6), I b1 b2 b3 b4 b5 b6 → μ b1 b2 b3 b4 b5 b6 < μ a1 a2 a3 a4 a5 a6 → W n b1 b2 b3 b4 b5 b6) → W (n + 1) a1 a2 a3 a4 a5 a6) (a1 : A1) (a2 : A2) (a3 : A3) (a4 : A4) (a5 : A5) (a6 : A6) (h : I a1 a2 a3 a4 a5 a6) : ∃ n, W n a1 a2 a3 a4 a5 a6 :=
  loop_m (σ := A1 × A2 × A3 × A4 × A5 × A6) (fun n s => W n s.1 s.2.1 s.2.2.1 s.2.2.2.1 s.2.2.2.2.1 s.2.2.2.2.2) (fun s => I s.1 s.2.1 s.2.2.1 s.2.2.2.1 s.2.2.2.2.1 s.2.2.2.2.2) (fun s => μ s.1 s.2.1 s.2.2.1 s.2.2.2.1 s.2.2.2.2.1 s.2.2.2.2.2) (fun n s hI hk => hs n s.1 s.2.1 s.2.2.1 s.2.2.2.1 s.2.2.2.2.1 s.2.2.2.2.2 hI (fun b1 b2 b3 b4 b5 b6 h9 hm => hk (b1, b2, b3, b4, b5, b6) h9 hm)) (a1, a2, a3, a4, a5, a6) h
theorem lp7 {A1 A2 A3 A4 A5 A6 A7 : Type} (W : Nat → A1 → A2 → A3 → A4 → A5 → A6 → A7 → Prop) (I : A1 → A2 → A3 → A4 → A5 → A6 → A7 → Prop) (μ : A1 → A2 → A3 → A4 → A5 → A6 → A7 → Nat) (hs : ∀ (n : Nat) (a1 : A1) (a2 : A2) (a3 : A3) (a4 : A4) (a5 : A5) (a6 : A6) (a7 : A7), I a1 a2 a3 a4 a5 a6 a7 → (∀ (b1 : A1) (b2 : A2) (b3 : A3) (b4 : A4) (b5 : A5) (b6 : A6) (b7 : A7), I b1 b2 b3 b4 b5 b6 b7 → μ b1 b2 b3 b4 b5 b6 b7 < μ a1 a2 a3 a4 a5 a6 a7 → W n b1 b2 b3 b4 b5 b6 b7) → W (n + 1) a1 a2 a3 a4 a5 a6 a7) (a1 : A1) (a2 : A2) (a3 : A3) (a4 : A4) (a5 : A5) (a6 : A6) (a7 : A7) (h : I a1 a2 a3 a4 a5 a6 a7) : ∃ n, W n a1 a2 a3 a4 a5 a6 a7 :=
  loop_m (σ := A1 × A2 × A3 × A4 × A5 × A6 × A7) (fun n s => W n s.1 s.2.1 s.2.2.1 s.2.2.2.1 s.2.2.2.2.1 s.2.2.2.2.2.1 s.2.2.2.2.2.2) (fun s => I s.1 s.2.1 s.2.2.1 s.2.2.2.1 s.2.2.2.2.1 s.2.2.2.2.2.1 s.2.2.2.2.2.2) (fun s => μ s.1 s.2.1 s.2.2.1 s.2.2.2.1 s.2.2.2.2.1 s.2.2.2.2.2.1 s.2.2.2.2.2.2) (fun n s hI hk => hs n s.1 s.2.1 s.2.2.1 s.2.2.2.1 s.2.2.2.2.1 s.2.2.2.2.2.1 s.2.2.2.2.2.2 hI (fun b1 b2 b3 b4 b5 b6 b7 h9 hm => hk (b1, b2, b3, b4, b5, b6, b7) h9 hm)) (a1, a2, a3, a4, a5, a6, a7) h
theorem lp8 {A1 A2 A3 A4 A5 A6 A7 A8 : Type} (W : Nat → A1 → A2 → A3 → A4 → A5 → A6 → A7 → A8 → Prop) (I : A1 → A2 → A3 → A4 → A5 → A6 → A7 → A8 → Prop) (μ : A1 → A2 → A3 → A4 → A5 → A6 → A7 → A8 → Nat) (hs : ∀ (n : Nat) (a1 : A1) (a2 : A2) (a3 : A3) (a4 : A4) (a5 : A5) (a6 : A6) (a7 : A7) (a8 : A8), I a1 a2 a3 a4 a5 a6 a7 a8 → (∀ (b1 : A1) (b2 : A2) (b3 : A3) (b4 : A4) (b5 : A5) (b6 : A6) (b7 : A7) (b8 : A8), I b1 b2 b3 b4 b5 b6 b7 b8 → μ b1 b2 b3 b4 b5 b6 b7 b8 < μ a1 a2 a3 a4 a5 a6 a7 a8 → W n b1 b2 b3 b4 b5 b6 b7 b8) → W (n + 1) a1 a2 a3 a4 a5 a6 a7 a8) (a1 : A1) (a2 : A2) (a3 : A3) (a4 : A4) (a5 : A5) (a6 : A6) (a7 : A7) (a8 : A8) (h : I a1 a2 a3 a4 a5 a6 a7 a8) : ∃ n, W n a1 a2 a3 a4 a5 a6 a7 a8 :=
  loop_m (σ := A1 × A2 × A3 × A4 × A5 × A6 × A7 × A8) (fun n s => W n s.1 s.2.1 s.2.2.1 s.2.2.2.1 s.2.2.2.2.1 s.2.2.2.2.2.1 s.2.2.2.2.2.2.1 s.2.2.2.2.2.2.2) (fun s => I s.1 s.2.1 s.2.2.1 s.2.2.2.1 s.2.2.2.2.1 s.2.2.2.2.2.1 s.2.2.2.2.2.2.1 s.2.2.2.2.2.2.2) (fun s => μ s.1 s.2.1 s.2.2.1 s.2.2.2.1 s.2.2.2.2.1 s.2.2.2.2.2.1 s.2.2.2.2.2.2.1 s.2.2.2.2.2.2.2) (fun n s hI hk => hs n s.1 s.2.1 s.2.2.1 s.2.2.2.1 s.2.2.2.2.1 s.2.2.2.2.2.1 s.2.2.2.2.2.2.1 s.2.2.2.2.2.2.2 hI (fun b1 b2 b3 b4 b5 b6 b7 b8 h9 hm => hk (b1, b2, b3, b4, b5, b6, b7, b8) h9 hm)) (a1, a2, a3, a4, a5, a6, a7, a8) h
theorem lp9 {A1 A2 A3 A4 A5 A6 A7 A8 A9 : Type} (W : Nat → A1 → A2 → A3 → A4 → A5 → A6 → A7 → A8 → A9 → Prop) (I : A1 → A2 → A3 → A4 → A5 → A6 → A7 → A8 → A9 → Prop) (μ : A1 → A2 → A3 → A4 → A5 → A6 → A7 → A8 → A9 → Nat) (hs : ∀ (n : Nat) (a1 : A1) (a2 : A2) (a3 : A3) (a4 : A4) (a5 : A5) (a6 : A6) (a7 : A7) (a8 : A8) (a9 : A9), I a1 a2 a3 a4 a5 a6 a7 a8 a9 → (∀ (b1 : A1) (b2 : A2) (b3 : A3) (b4 : A4) (b5 : A5) (b6 : A6) (b7 : A7) (b8 : A8) (b9 : A9), I b1 b2 b3 b4 b5 b6 b7 b8 b9 → μ b1 b2 b3 b4 b5 b6 b7 b8 b9 < μ a1 a2 a3 a4 a5 a6 a7 a8 a9 → W n b1 b2 b3 b4 b5 b6 b7 b8 b9) → W (n + 1) a1 a2 a3 a4 a5 a6 a7 a8 a9) (a1 : A1) (a2 : A2) (a3 : A3) (a4 : A4) (a5 : A5) (a6 : A6) (a7 : A7) (a8 : A8) (a9 : A9) (h : I a1 a2 a3 a4 a5 a6 a7 a8 a9) : ∃ n, W n a1 a2 a3 a4 a5 a6 a7 a8 a9 :=
  loop_m (σ := A1 × A2 × A3 × A4 × A5 × A6 × A7 × A8 × A9) (fun n s => W n s.1 s.2.1 s.2.2.1 s.2.2.2.1 s.2.2.2.2.1 s.2.2.2.2.2.1 s.2.2.2.2.2.2.1 s.2.2.2.2.2.2.2.1 s.2.2.2.2.2.2.2.2) (fun s => I s.1 s.2.1 s.2.2.1 s.2.2.2.1 s.2.2.2.2.1 s.2.2.2.2.2.1 s.2.2.2.2.2.2.1 s.2.2.2.2.2.2.2.1 s.2.2.2.2.2.2.2.2) (fun s => μ s.1 s.2.1 s.2.2.1 s.2.2.2.1 s.2.2.2.2.1 s.2.2.2.2.2.1 s.2.2.2.2.2.2.1 s.2.2.2.2.2.2.2.1 s.2.2.2.2.2.2.2.2) (fun n s hI hk => hs n s.1 s.2.1 s.2.2.1 s.2.2.2.1 s.2.2.2.2.1 s.2.2.2.2.2.1 s.2.2.2.2.2.2.1 s.2.2.2.2.2.2.2.1 s.2.2.2.2.2.2.2.2 hI (fun b1 b2 b3 b4 b5 b6 b7 b8 b9 h9 hm => hk (b1, b2, b3, b4, b5, b6, b7, b8, b9) h9 hm)) (a1, a2, a3, a4, a5, a6, a7, a8, a9) h
theorem lp10 {A1 A2 A3 A4 A5 A6 A7 A8 A9 A10 : Type} (W : Nat → A1 → A2 → A3 → A4 → A5 → A6 → A7 → A8 → A9 → A10 → Prop) (I : A1 → A2 → A3 → A4 → A5 → A6 → A7 → A8 → A9 → A10 → Prop) (μ : A1 → A2 → A3 → A4 → A5 → A6 → A7 → A8 → A9 → A10 → Nat) (hs : ∀ (n : Nat) (a1 : A1) (a2 : A2) (a3 : A3) (a4 : A4) (a5 : A5) (a6 : A6) (a7 : A7) (a8 : A8) (a9 : A9) (a10 : A10), I a1 a2 a3 a4 a5 a6 a7 a8 a9 a10 → (∀ (b1 : A1) (b2 : A2) (b3 : A3) (b4 : A4) (b5 : A5) (b6 : A6) (b7 : A7) (b8 : A8) (b9 : A9) (b10 : A10), I b1 b2 b3 b4 b5 b6 b7 b8 b9 b10 → μ b1 b2 b3 b4 b5 b6 b7 b8 b9 b10 < μ a1 a2 a3 a4 a5 a6 a7 a8 a9 a10 → W n b1 b2 b3 b4 b5 b6 b7 b8 b9 b10) → W (n + 1) a1 a2 a3 a4 a5 a6 a7 a8 a9 a10) (a1 : A1) (a2 : A2) (a3 : A3) (a4 : A4) (a5 : A5) (a6 : A6) (a7 : A7) (a8 : A8) (a9 : A9) (a10 : A10) (h : I a1 a2 a3 a4 a5 a6 a7 a8 a9 a10) : ∃ n, W n a1 a2 a3 a4 a5 a6 a7 a8 a9 a10 :=
  loop_m (σ := A1 × A2 × A3 × A4 × A5 × A6 × A7 × A8 × A9 × A10) (fun n s => W n s.1 s.2.1 s.2.2.1 s.2.2.2.1 s.2.2.2.2.1 s.2.2.2.2.2.1 s.2.2.2.2.2.2.1 s.2.2.2.2.2.2.2.1 s.2.2.2.2.2.2.2.2.1 s.2.2.2.2.2.2.2.2.2) (fun s => I s.1 s.2.1 s.2.2.1 s.2.2.2.1 s.2.2.2.2.1 s.2.2.2.2.2.1 s.2.2.2.2.2.2.1 s.2.2.2.2.2.2.2.1 s.2.2.2.2.2.2.2.2.1 s.2.2.2.2.2.2.2.2.2) (fun s => μ s.1 s.2.1 s.2.2.1 s.2.2.2.1 s.2.2.2.2.1 s.2.2.2.2.2.1 s.2.2.2.2.2.2.1 s.2.2.2.2.2.2.2.1 s.2.2.2.2.2.2.2.2.1 s.2.2.2.2.2.2.2.2.2) (fun n s hI hk => hs n s.1 s.2.1 s.2.2.1 s.2.2.2.1 s.2.2.2.2.1 s.2.2.2.2.2.1 s.2.2.2.2.2.2.1 s.2.2.2.2.2.2.2.1 s.2.2.2.2.2.2.2.2.1 s.2.2.2.2.2.2.2.2.2 hI (fun b1 b2 b3 b4 b5 b6 b7 b8 b9 b10 h9 hm => hk (b1, b2, b3, b4, b5, b6, b7, b8, b9, b10) h9 hm)) (a1, a2, a3, a4, a5, a6, a7, a8, a9, a10) h
theorem lp11 {A1 A2 A3 A4 A5 A6 A7 A8 A9 A10 A11 : Type} (W : Nat → A1 → A2 → A3 → A4 → A5 → A6 → A7 → A8 → A9 → A10 → A11 → Prop) (I : A1 → A2 → A3 → A4 → A5 → A6 → A7 → A8 → A9 → A10 → A11 → Prop) (μ : A1 → A2 → A3 → A4 → A5 → A6 → A7 → A8 → A9 → A10 → A11 → Nat) (hs : ∀ (n : Nat) (a1 : A1) (a2 : A2) (a3 : A3) (a4 : A4) (a5 : A5) (a6 : A6) (a7 : A7) (a8 : A8) (a9 : A9) (a10 : A10) (a11 : A11), I a1 a2 a3 a4 a5 a6 a7 a8 a9 a10 a11 → (∀ (b1 : A1) (b2 : A2) (b3 : A3) (b4 : A4) (b5 : A5) (b6 : A6) (b7 : A7) (b8 : A8) (b9 : A9) (b10 : A10) (b11 : A11), I b1 b2 b3 b4 b5 b6 b7 b8 b9 b10 b11 → μ b1 b2 b3 b4 b5 b6 b7 b8 b9 b10 b11 < μ a1 a2 a3 a4 a5 a6 a7 a8 a9 a10 a11 → W n b1 b2 b3 b4 b5 b6 b7 b8 b9 b10 b11) → W (n + 1) a1 a2 a3 a4 a5 a6 a7 a8 a9 a10 a11) (a1 : A1) (a2 : A2) (a3 : A3) (a4 : A4) (a5 : A5) (a6 : A6) (a7 : A7) (a8 : A8) (a9 : A9) (a10 : A10) (a11 : A11) (h : I a1 a2 a3 a4 a5 a6 a7 a8 a9 a10 a11) : ∃ n, W n a1 a2 a3 a4 a5 a6 a7 a8 a9 a10 a11 :=
  loop_m (σ := A1 × A2 × A3 × A4 × A5 × A6 × A7 × A8 × A9 × A10 × A11) (fun n s => W n s.1 s.2.1 s.2.2.1 s.2.2.2.1 s.2.2.2.2.1 s.2.2.2.2.2.1 s.2.2.2.2.2.2.1 s.2.2.2.2.2.2.2.1 s.2.2.2.2.2.2.2.2.1 s.2.2.2.2.2.2.2.2.2.1 s.2.2.2.2.2.2.2.2.2.2) (fun s => I s.1 s.2.1 s.2.2.1 s.2.2.2.1 s.2.2.2.2.1 s.2.2.2.2.2.1 s.2.2.2.2.2.2.1 s.2.2.2.2.2.2.2.1 s.2.2.2.2.2.2.2.2.1 s.2.2.2.2.2.2.2.2.2.1 s.2.2.2.2.2.2.2.2.2.2) (fun s => μ s.1 s.2.1 s.2.2.1 s.2.2.2.1 s.2.2.2.2.1 s.2.2.2.2.2.1 s.2.2.2.2.2.2.1 s.2.2.2.2.2.2.2.1 s.2.2.2.2.2.2.2.2.1 s.2.2.2.2.2.2.2.2.2.1 s.2.2.2.2.2.2.2.2.2.2) (fun n s hI hk => hs n s.1 s.2.1 s.2.2.1 s.2.2.2.1 s.2.2.2.2.1 s.2.2.2.2.2.1 s.2.2.2.2.2.2.1 s.2.2.2.2.2.2.2.1 s.2.2.2.2.2.2.2.2.1 s.2.2.2.2.2.2.2.2.2.1 s.2.2.2.2.2.2.2.2.2.2 hI (fun b1 b2 b3 b4 b5 b6 b7 b8 b9 b10 b11 h9 hm => hk (b1, b2, b3, b4, b5, b6, b7, b8, b9, b10, b11) h9 hm)) (a1, a2, a3, a4, a5, a6, a7, a8, a9, a10, a11) h
theorem lp12 {A1 A2 A3 A4 A5 A6 A7 A8 A9 A10 A11 A12 : Type} (W : Nat → A1 → A2 → A3 → A4 → A5 → A6 → A7 → A8 → A9 → A10 → A11 → A12 → Prop) (I : A1 → A2 → A3 → A4 → A5 → A6 → A7 → A8 → A9 → A10 → A11 → A12 → Prop) (μ : A1 → A2 → A3 → A4 → A5 → A6 → A7 → A8 → A9 → A10 → A11 → A12 → Nat) (hs : ∀ (n : Nat) (a1 : A1) (a2 : A2) (a3 : A3) (a4 : A4) (a5 : A5) (a6 : A6) (a7 : A7) (a8 : A8) (a9 : A9) (a10 : A10) (a11 : A11) (a12 : A12), I a1 a2 a3 a4 a5 a6 a7 a8 a9 a10 a11 a12 → (∀ (b1 : A1) (b2 : A2) (b3 : A3) (b4 : A4) (b5 : A5) (b6 : A6) (b7 : A7) (b8 : A8) (b9 : A9) (b10 : A10) (b11 : A11) (b12 : A12), I b1 b2 b3 b4 b5 b6 b7 b8 b9 b10 b11 b12 → μ b1 b2 b3 b4 b5 b6 b7 b8 b9 b10 b11 b12 < μ a1 a2 a3 a4 a5 a6 a7 a8 a9 a10 a11 a12 → W n b1 b2 b3 b4 b5 b6 b7 b8 b9 b10 b11 b12) → W (n + 1) a1 a2 a3 a4 a5 a6 a7 a8 a9 a10 a11 a12) (a1 : A1) (a2 : A2) (a3 : A3) (a4 : A4) (a5 : A5) (a6 : A6) (a7 : A7) (a8 : A8) (a9 : A9) (a10 : A10) (a11 : A11) (a12 : A12) (h : I a1 a2 a3 a4 a5 a6 a7 a8 a9 a10 a11 a12) : ∃ n, W n a1 a2 a3 a4 a5 a6 a7 a8 a9 a10 a11 a12 :=
  loop_m (σ := A1 × A2 × A3 × A4 × A5 × A6 × A7 × A8 × A9 × A10 × A11 × A12) (fun n s => W n s.1 s.2.1 s.2.2.1 s.2.2.2.1 s.2.2.2.2.1 s.2.2.2.2.2.1 s.2.2.2.2.2.2.1 s.2.2.2.2.2.2.2.1 s.2.2.2.2.2.2.2.2.1 s.2.2.2.2.2.2.2.2.2.1 s.2.2.2.2.2.2.2.2.2.2.1 s.2.2.2.2.2.2.2.2.2.2.2) (fun s => I s.1 s.2.1 s.2.2.1 s.2.2.2.1 s.2.2.2.2.1 s.2.2.2.2.2.1 s.2.2.2.2.2.2.1 s.2.2.2.2.2.2.2.1 s.2.2.2.2.2.2.2.2.1 s.2.2.2.2.2.2.2.2.2.1 s.2.2.2.2.2.2.2.2.2.2.1 s.2.2.2.2.2.2.2.2.2.2.2) (fun s => μ s.1 s.2.1 s.2.2.1 s.2.2.2.1 s.2.2.2.2.1 s.2.2.2.2.2.1 s.2.2.2.2.2.2.1 s.2.2.2.2.2.2.2.1 s.2.2.2.2.2.2.2.2.1 s.2.2.2.2.2.2.2.2.2.1 s.2.2.2.2.2.2.2.2.2.2.1 s.2.2.2.2.2.2.2.2.2.2.2) (fun n s hI hk => hs n s.1 s.2.1 s.2.2.1 s.2.2.2.1 s.2.2.2.2.1 s.2.2.2.2.2.1 s.2.2.2.2.2.2.1 s.2.2.2.2.2.2.2.1 s.2.2.2.2.2.2.2.2.1 s.2.2.2.2.2.2.2.2.2.1 s.2.2.2.2.2.2.2.2.2.2.1 s.2.2.2.2.2.2.2.2.2.2.2 hI (fun b1 b2 b3 b4 b5 b6 b7 b8 b9 b10 b11 b12 h9 hm => hk (b1, b2, b3, b4, b5, b6, b7, b8, b9, b10, b11, b12) h9 hm)) (a1, a2, a3, a4, a5, a6, a7, a8, a9, a10, a11, a12) h
theorem lp13 {A1 A2 A3 A4 A5 A6 A7 A8 A9 A10 A11 A12 A13 : Type} (W : Nat → A1 → A2 → A3 → A4 → A5 → A6 → A7 → A8 → A9 → A10 → A11 → A12 → A13 → Prop) (I : A1 → A2 → A3 → A4 → A5 → A6 → A7 → A8 → A9 → A10 → A11 → A12 → A13 → Prop) (μ : A1 → A2 → A3 → A4 → A5 → A6 → A7 → A8 → A9 → A10 → A11 → A12 → A13 → Nat) (hs : ∀ (n : Nat) (a1 : A1) (a2 : A2) (a3 : A3) (a4 : A4) (a5 : A5) (a6 : A6) (a7 : A7) (a8 : A8) (a9 : A9) (a10 : A10) (a11 : A11) (a12 : A12) (a13 : A13), I a1 a2 a3 a4 a5 a6 a7 a8 a9 a10 a11 a12 a13 → (∀ (b1 : A1) (b2 : A2) (b3 : A3) (b4 : A4) (b5 : A5) (b6 : A6) (b7 : A7) (b8 : A8) (b9 : A9) (b10 : A10) (b11 : A11) (b12 : A12) (b13 : A13), I b1 b2 b3 b4 b5 b6 b7 b8 b9 b10 b11 b12 b13 → μ b1 b2 b3 b4 b5 b6 b7 b8 b9 b10 b11 b12 b13 < μ a1 a2 a3 a4 a5 a6 a7 a8 a9 a10 a11 a12 a13 → W n b1 b2 b3 b4 b5 b6 b7 b8 b9 b10 b11 b12 b13) → W (n + 1) a1 a2 a3 a4 a5 a6 a7 a8 a9 a10 a11 a12 a13) (a1 : A1) (a2 : A2) (a3 : A3) (a4 : A4) (a5 : A5) (a6 : A6) (a7 : A7) (a8 : A8) (a9 : A9) (a10 : A10) (a11 : A11) (a12 : A12) (a13 : A13) (h : I a1 a2 a3 a4 a5 a6 a7 a8 a9 a10 a11 a12 a13) : ∃ n, W n a1 a2 a3 a4 a5 a6 a7 a8 a9 a10 a11 a12 a13 :=
  loop_m (σ := A1 × A2 × A3 × A4 × A5 × A6 × A7 × A8 × A9 × A10 × A11 × A12 × A13) (fun n s => W n s.1 s.2.1 s.2.2.1 s.2.2.2.1 s.2.2.2.2.1 s.2.2.2.2.2.1 s.2.2.2.2.2.2.1 s.2.2.2.2.2.2.2.1 s.2.2.2.2.2.2.2.2.1 s.2.2.2.2.2.2.2.2.2.1 s.2.2.2.2.2.2.2.2.2.2.1 s.2.2.2.2.2.2.2.2.2.2.2.1 s.2.2.2.2.2.2.2.2.2.2.2.2) (fun s => I s.1 s.2.1 s.2.2.1 s.2.2.2.1 s.2.2.2.2.1 s.2.2.2.2.2.1 s.2.2.2.2.2.2.1 s.2.2.2.2.2.2.2.1 s.2.2.2.2.2.2.2.2.1 s.2.2.2.2.2.2.2.2.2.1 s.2.2.2.2.2.2.2.2.2.2.1 s.2.2.2.2.2.2.2.2.2.2.2.1 s.2.2.2.2.2.2.2.2.2.2.2.2) (fun s => μ s.1 s.2.1 s.2.2.1 s.2.2.2.1 s.2.2.2.2.1 s.2.2.2.2.2.1 s.2.2.2.2.2.2.1 s.2.2.2.2.2.2.2.1 s.2.2.2.2.2.2.2.2.1 s.2.2.2.2.2.2.2.2.2.1 s.2.2.2.2.2.2.2.2.2.2.1 s.2.2.2.2.2.2.2.2.2.2.2.1 s.2.2.2.2.2.2.2.2.2.2.2.2) (fun n s hI hk => hs n s.1 s.2.1 s.2.2.1 s.2.2.2.1 s.2.2.2.2.1 s.2.2.2.2.2.1 s.2.2.2.2.2.2.1 s.2.2.2.2.2.2.2.1 s.2.2.2.2.2.2.2.2.1 s.2.2.2.2.2.2.2.2.2.1 s.2.2.2.2.2.2.2.2.2.2.1 s.2.2.2.2.2.2.2.2.2.2.2.1 s.2.2.2.2.2.2.2.2.2.2.2.2 hI (fun b1 b2 b3 b4 b5 b6 b7 b8 b9 b10 b11 b12 b13 h9 hm => hk (b1, b2, b3, b4, b5, b6, b7, b8, b9, b10, b11, b12, b13) h9 hm)) (a1, a2, a3, a4, a5, a6, a7, a8, a9, a10, a11, a12, a13) h
theorem lp14 {A1 A2 A3 A4 A5 A6 A7 A8 A9 A10 A11 A12 A13 A14 : Type} (W : Nat → A1 → A2 → A3 → A4 → A5 → A6 → A7 → A8 → A9 → A10 → A11 → A12 → A13 → A14 → Prop) (I : A1 → A2 → A3 → A4 → A5 → A6 → A7 → A8 → A9 → A10 → A11 → A12 → A13 → A14 → Prop) (μ : A1 → A2 → A3 → A4 → A5 → A6 → A7 → A8 → A9 → A10 → A11 → A12 → A13 → A14 → Nat) (hs : ∀ (n : Nat) (a1 : A1) (a2 : A2) (a3 : A3) (a4 : A4) (a5 : A5) (a6 : A6) (a7 : A7) (a8 : A8) (a9 : A9) (a10 : A10) (a11 : A11) (a12 : A12) (a13 : A13) (a14 : A14), I a1 a2 a3 a4 a5 a6 a7 a8 a9 a10 a11 a12 a13 a14 → (∀ (b1 : A1) (b2 : A2) (b3 : A3) (b4 : A4) (b5 : A5) (b6 : A6) (b7 : A7) (b8 : A8) (b9 : A9) (b10 : A10) (b11 : A11) (b12 : A12) (b13 : A13) (b14 : A14), I b1 b2 b3 b4 b5 b6 b7 b8 b9 b10 b11 b12 b13 b14 → μ b1 b2 b3 b4 b5 b6 b7 b8 b9 b10 b11 b12 b13 b14 < μ a1 a2 a3 a4 a5 a6 a7 a8 a9 a10 a11 a12 a13 a14 → W n b1 b2 b3 b4 b5 b6 b7 b8 b9 b10 b11 b12 b13 b14) → W (n + 1) a1 a2 a3 a4 a5 a6 a7 a8 a9 a10 a11 a12 a13 a14) (a1 : A1) (a2 : A2) (a3 : A3) (a4 : A4) (a5 : A5) (a6 : A6) (a7 : A7) (a8 : A8) (a9 : A9) (a10 : A10) (a11 : A11) (a12 : A12) (a13 : A13) (a14 : A14) (h : I a1 a2 a3 a4 a5 a6 a7 a8 a9 a10 a11 a12 a13 a14) : ∃ n, W n a1 a2 a3 a4 a5 a6 a7 a8 a9 a10 a11 a12 a13 a14 :=
  loop_m (σ := A1 × A2 × A3 × A4 × A5 × A6 × A7 × A8 × A9 × A10 × A11 × A12 × A13 × A14) (fun n s => W n s.1 s.2.1 s.2.2.1 s.2.2.2.1 s.2.2.2.2.1 s.2.2.2.2.2.1 s.2.2.2.2.2.2.1 s.2.2.2.2.2.2.2.1 s.2.2.2.2.2.2.2.2.1 s.2.2.2.2.2.2.2.2.2.1 s.2.2.2.2.2.2.2.2.2.2.1 s.2.2.2.2.2.2.2.2.2.2.2.1 s.2.2.2.2.2.2.2.2.2.2.2.2.1 s.2.2.2.2.2.2.2.2.2.2.2.2.2) (fun s => I s.1 s.2.1 s.2.2.1 s.2.2.2.1 s.2.2.2.2.1 s.2.2.2.2.2.1 s.2.2.2.2.2.2.1 s.2.2.2.2.2.2.2.1 s.2.2.2.2.2.2.2.2.1 s.2.2.2.2.2.2.2.2.2.1 s.2.2.2.2.2.2.2.2.2.2.1 s.2.2.2.2.2.2.2.2.2.2.2.1 s.2.2.2.2.2.2.2.2.2.2.2.2.1 s.2.2.2.2.2.2.2.2.2.2.2.2.2) (fun s => μ s.1 s.2.1 s.2.2.1 s.2.2.2.1 s.2.2.2.2.1 s.2.2.2.2.2.1 s.2.2.2.2.2.2.1 s.2.2.2.2.2.2.2.1 s.2.2.2.2.2.2.2.2.1 s.2.2.2.2.2.2.2.2.2.1 s.2.2.2.2.2.2.2.2.2.2.1 s.2.2.2.2.2.2.2.2.2.2.2.1 s.2.2.2.2.2.2.2.2.2.2.2.2.1 s.2.2.2.2.2.2.2.2.2.2.2.2.2) (fun n s hI hk => hs n s.1 s.2.1 s.2.2.1 s.2.2.2.1 s.2.2.2.2.1 s.2.2.2.2.2.1 s.2.2.2.2.2.2.1 s.2.2.2.2.2.2.2.1 s.2.2.2.2.2.2.2.2.1 s.2.2.2.2.2.2.2.2.2.1 s.2.2.2.2.2.2.2.2.2.2.1 s.2.2.2.2.2.2.2.2.2.2.2.1 s.2.2.2.2.2.2.2.2.2.2.2.2.1 s.2.2.2.2.2.2.2.2.2.2.2.2.2 hI (fun b1 b2 b3 b4 b5 b6 b7 b8 b9 b10 b11 b12 b13 b14 h9 hm => hk (b1, b2, b3, b4, b5, b6, b7, b8, b9, b10, b11, b12, b13, b14) h9 hm)) (a1, a2, a3, a4, a5, a6, a7, a8, a9, a10, a11, a12, a13, a14) h
theorem lp15 {A1 A2 A3 A4 A5 A6 A7 A8 A9 A10 A11 A12 A13 A14 A15 : Type} (W : Nat → A1 → A2 → A3 → A4 → A5 → A6 → A7 → A8 → A9 → A10 → A11 → A12 → A13 → A14 → A15 → Prop) (I : A1 → A2 → A3 → A4 → A5 → A6 → A7 → A8 → A9 → A10 → A11 → A12 → A13 → A14 → A15 → Prop) (μ : A1 → A2 → A3 → A4 → A5 → A6 → A7 → A8 → A9 → A10 → A11 → A12 → A13 → A14 → A15 → Nat) (hs : ∀ (n : Nat) (a1 : A1) (a2 : A2) (a3 : A3) (a4 : A4) (a5 : A5) (a6 : A6) (a7 : A7) (a8 : A8) (a9 : A9) (a10 : A10) (a11 : A11) (a12 : A12) (a13 : A13) (a14 : A14) (a15 : A15), I a1 a2 a3 a4 a5 a6 a7 a8 a9 a10 a11 a12 a13 a14 a15 → (∀ (b1 : A1) (b2 : A2) (b3 : A3) (b4 : A4) (b5 : A5) (b6 : A6) (b7 : A7) (b8 : A8) (b9 : A9) (b10 : A10) (b11 : A11) (b12 : A12) (b13 : A13) (b14 : A14) (b15 : A15), I b1 b2 b3 b4 b5 b6 b7 b8 b9 b10 b11 b12 b13 b14 b15 → μ b1 b2 b3 b4 b5 b6 b7 b8 b9 b10 b11 b12 b13 b14 b15 < μ a1 a2 a3 a4 a5 a6 a7 a8 a9 a10 a11 a12 a13 a14 a15 → W n b1 b2 b3 b4 b5 b6 b7 b8 b9 b10 b11 b12 b13 b14 b15) → W (n + 1) a1 a2 a3 a4 a5 a6 a7 a8 a9 a10 a11 a12 a13 a14 a15) (a1 : A1) (a2 : A2) (a3 : A3) (a4 : A4) (a5 : A5) (a6 : A6) (a7 : A7) (a8 : A8) (a9 : A9) (a10 : A10) (a11 : A11) (a12 : A12) (a13 : A13) (a14 : A14) (a15 : A15) (h : I a1 a2 a3 a4 a5 a6 a7 a8 a9 a10 a11 a12 a13 a14 a15) : ∃ n, W n a1 a2 a3 a4 a5 a6 a7 a8 a9 a10 a11 a12 a13 a14 a15 :=
  loop_m (σ := A1 × A2 × A3 × A4 × A5 × A6 × A7 × A8 × A9 × A10 × A11 × A12 × A13 × A14 × A15) (fun n s => W n s.1 s.2.1 s.2.2.1 s.2.2.2.1 s.2.2.2.2.1 s.2.2.2.2.2.1 s.2.2.2.2.2.2.1 s.2.2.2.2.2.2.2.1 s.2.2.2.2.2.2.2.2.1 s.2.2.2.2.2.2.2.2.2.1 s.2.2.2.2.2.2.2.2.2.2.1 s.2.2.2.2.2.2.2.2.2.2.2.1 s.2.2.2.2.2.2.2.2.2.2.2.2.1 s.2.2.2.2.2.2.2.2.2.2.2.2.2.1 s.2.2.2.2.2.2.2.2.2.2.2.2.2.2) (fun s => I s.1 s.2.1 s.2.2.1 s.2.2.2.1 s.2.2.2.2.1 s.2.2.2.2.2.1 s.2.2.2.2.2.2.1 s.2.2.2.2.2.2.2.1 s.2.2.2.2.2.2.2.2.1 s.2.2.2.2.2.2.2.2.2.1 s.2.2.2.2.2.2.2.2.2.2.1 s.2.2.2.2.2.2.2.2.2.2.2.1 s.2.2.2.2.2.2.2.2.2.2.2.2.1 s.2.2.2.2.2.2.2.2.2.2.2.2.2.1 s.2.2.2.2.2.2.2.2.2.2.2.2.2.2) (fun s => μ s.1 s.2.1 s.2.2.1 s.2.2.2.1 s.2.2.2.2.1 s.2.2.2.2.2.1 s.2.2.2.2.2.2.1 s.2.2.2.2.2.2.2.1 s.2.2.2.2.2.2.2.2.1 s.2.2.2.2.2.2.2.2.2.1 s.2.2.2.2.2.2.2.2.2.2.1 s.2.2.2.2.2.2.2.2.2.2.2.1 s.2.2.2.2.2.2.2.2.2.2.2.2.1 s.2.2.2.2.2.2.2.2.2.2.2.2.2.1 s.2.2.2.2.2.2.2.2.2.2.2.2.2.2) (fun n s hI hk => hs n s.1 s.2.1 s.2.2.1 s.2.2.2.1 s.2.2.2.2.1 s.2.2.2.2.2.1 s.2.2.2.2.2.2.1 s.2.2.2.2.2.2.2.1 s.2.2.2.2.2.2.2.2.1 s.2.2.2.2.2.2.2.2.2.1 s.2.2.2.2.2.2.2.2.2.2.1 s.2.2.2.2.2.2.2.2.2.2.2.1 s.2.2.2.2.2.2.2.2.2.2.2.2.1 s.2.2.2.2.2.2.2.2.2.2.2.2.2.1 s.2.2.2.2.2.2.2.2.2.2.2.2.2.2 hI (fun b1 b2 b3 b4 b5 b6 b7 b8 b9 b10 b11 b12 b13 b14 b15 h9 hm => hk (b1, b2, b3, b4, b5, b6, b7, b8, b9, b10, b11, b12, b13, b14, b15) h9 hm)) (a1, a2, a3, a4, a5, a6, a7, a8, a9, a10, a11, a12, a13, a14, a15) h
theorem lp16 {A1 A2 A3 A4 A5 A6 A7 A8 A9 A10 A11 A12 A13 A14 A15 A16 : Type} (W : Nat → A1 → A2 → A3 → A4 → A5 → A6 → A7 → A8 → A9 → A10 → A11 → A12 → A13 → A14 → A15 → A16 → Prop) (I : A1 → A2 → A3 → A4 → A5 → A6 → A7 → A8 → A9 → A10 → A11 → A12 → A13 → A14 → A15 → A16 → Prop) (μ : A1 → A2 → A3 → A4 → A5 → A6 → A7 → A8 → A9 → A10 → A11 → A12 → A13 → A14 → A15 → A16 → Nat) (hs : ∀ (n : Nat) (a1 : A1) (a2 : A2) (a3 : A3) (a4 : A4) (a5 : A5) (a6 : A6) (a7 : A7) (a8 : A8) (a9 : A9) (a10 : A10) (a11 : A11) (a12 : A12) (a13 : A13) (a14 : A14) (a15 : A15) (a16 : A16), I a1 a2 a3 a4 a5 a6 a7 a8 a9 a10 a11 a12 a13 a14 a15 a16 → (∀ (b1 : A1) (b2 : A2) (b3 : A3) (b4 : A4) (b5 : A5) (b6 : A6) (b7 : A7) (b8 : A8) (b9 : A9) (b10 : A10) (b11 : A11) (b12 : A12) (b13 : A13) (b14 : A14) (b15 : A15) (b16 : A16), I b1 b2 b3 b4 b5 b6 b7 b8 b9 b10 b11 b12 b13 b14 b15 b16 → μ b1 b2 b3 b4 b5 b6 b7 b8 b9 b10 b11 b12 b13 b14 b15 b16 < μ a1 a2 a3 a4 a5 a6 a7 a8 a9 a10 a11 a12 a13 a14 a15 a16 → W n b1 b2 b3 b4 b5 b6 b7 b8 b9 b10 b11 b12 b13 b14 b15 b16) → W (n + 1) a1 a2 a3 a4 a5 a6 a7 a8 a9 a10 a11 a12 a13 a14 a15 a16) (a1 : A1) (a2 : A2) (a3 : A3) (a4 : A4) (a5 : A5) (a6 : A6) (a7 : A7) (a8 : A8) (a9 : A9) (a10 : A10) (a11 : A11) (a12 : A12) (a13 : A13) (a14 : A14) (a15 : A15) (a16 : A16) (h : I a1 a2 a3 a4 a5 a6 a7 a8 a9 a10 a11 a12 a13 a14 a15 a16) : ∃ n, W n a1 a2 a3 a4 a5 a6 a7 a8 a9 a10 a11 a12 a13 a14 a15 a16 :=
  loop_m (σ := A1 × A2 × A3 × A4 × A5 × A6 × A7 × A8 × A9 × A10 × A11 × A12 × A13 × A14 × A15 × A16) (fun n s => W n s.1 s.2.1 s.2.2.1 s.2.2.2.1 s.2.2.2.2.1 s.2.2.2.2.2.1 s.2.2.2.2.2.2.1 s.2.2.2.2.2.2.2.1 s.2.2.2.2.2.2.2.2.1 s.2.2.2.2.2.2.2.2.2.1 s.2.2.2.2.2.2.2.2.2.2.1 s.2.2.2.2.2.2.2.2.2.2.2.1 s.2.2.2.2.2.2.2.2.2.2.2.2.1 s.2.2.2.2.2.2.2.2.2.2.2.2.2.1 s.2.2.2.2.2.2.2.2.2.2.2.2.2.2.1 s.2.2.2.2.2.2.2.2.2.2.2.2.2.2.2) (fun s => I s.1 s.2.1 s.2.2.1 s.2.2.2.1 s.2.2.2.2.1 s.2.2.2.2.2.1 s.2.2.2.2.2.2.1 s.2.2.2.2.2.2.2.1 s.2.2.2.2.2.2.2.2.1 s.2.2.2.2.2.2.2.2.2.1 s.2.2.2.2.2.2.2.2.2.2.1 s.2.2.2.2.2.2.2.2.2.2.2.1 s.2.2.2.2.2.2.2.2.2.2.2.2.1 s.2.2.2.2.2.2.2.2.2.2.2.2.2.1 s.2.2.2.2.2.2.2.2.2.2.2.2.2.2.1 s.2.2.2.2.2.2.2.2.2.2.2.2.2.2.2) (fun s => μ s.1 s.2.1 s.2.2.1 s.2.2.2.1 s.2.2.2.2.1 s.2.2.2.2.2.1 s.2.2.2.2.2.2.1 s.2.2.2.2.2.2.2.1 s.2.2.2.2.2.2.2.2.1 s.2.2.2.2.2.2.2.2.2.1 s.2.2.2.2.2.2.2.2.2.2.1 s.2.2.2.2.2.2.2.2.2.2.2.1 s.2.2.2.2.2.2.2.2.2.2.2.2.1 s.2.2.2.2.2.2.2.2.2.2.2.2.2.1 s.2.2.2.2.2.2.2.2.2.2.2.2.2.2.1 s.2.2.2.2.2.2.2.2.2.2.2.2.2.2.2) (fun n s hI hk => hs n s.1 s.2.1 s.2.2.1 s.2.2.2.1 s.2.2.2.2.1 s.2.2.2.2.2.1 s.2.2.2.2.2.2.1 s.2.2.2.2.2.2.2.1 s.2.2.2.2.2.2.2.2.1 s.2.2.2.2.2.2.2.2.2.1 s.2.2.2.2.2.2.2.2.2.2.1 s.2.2.2.2.2.2.2.2.2.2.2.1 s.2.2.2.2.2.2.2.2.2.2.2.2.1 s.2.2.2.2.2.2.2.2.2.2.2.2.2.1 s.2.2.2.2.2.2.2.2.2.2.2.2.2.2.1 s.2.2.2.2.2.2.2.2.2.2.2.2.2.2.2 hI (fun b1 b2 b3 b4 b5 b6 b7 b8 b9 b10 b11 b12 b13 b14 b15 b16 h9 hm => hk (b1, b2, b3, b4, b5, b6, b7, b8, b9, b10, b11, b12, b13, b14, b15, b16) h9 hm)) (a1, a2, a3, a4, a5, a6, a7, a8, a9, a10, a11, a12, a13, a14, a15, a16) h
theorem pk_least (P : Nat → Prop) (h : ∃ k, P k) : ∃ k, P k ∧ ∀ j, j < k → ¬ P j := by
  obtain ⟨k, hk⟩ := h
  induction k using Nat.strongRecOn with
  | ind k ih =>
    by_cases e : ∃ j, j < k ∧ P j
    · obtain ⟨j, hj, pj⟩ := e
      exact ih j hj pj
    · exact ⟨k, hk, fun j hj pj => e ⟨j, hj, pj⟩⟩
theorem rp1 {ρ A1 : Type} (W : Nat → (ρ → Prop) → A1 → Prop) (ok : A1 → Prop) (μ : A1 → Nat) (val : A1 → ρ)
    (hs : ∀ (d : Nat) (post : ρ → Prop) (a1 : A1), ok a1 → post (val a1) → (∀ (post' : ρ → Prop) (b1 : A1), ok b1 → μ b1 < μ a1 → post' (val b1) → W d post' b1) → W (d + 1) post a1) :
    ∀ (d : Nat) (post : ρ → Prop) (a1 : A1), ok a1 → μ a1 < d → post (val a1) → W d post a1 := by
  intro d
  induction d with
  | zero => intro post a1 _ h; omega
  | succ d ih =>
    intro post a1 ho hm hp
    exact hs d post a1 ho hp (fun post' b1 ho' hm' hp' => ih post' b1 ho' (by omega) hp')
theorem rp2 {ρ A1 A2 : Type} (W : Nat → (ρ → Prop) → A1 → A2 → Prop) (ok : A1 → A2 → Prop) (μ : A1 → A2 → Nat) (val : A1 → A2 → ρ)
    (hs : ∀ (d : Nat) (post : ρ → Prop) (a1 : A1) (a2 : A2), ok a1 a2 → post (val a1 a2) → (∀ (post' : ρ → Prop) (b1 : A1) (b2 : A2), ok b1 b2 → μ b1 b2 < μ a1 a2 → post' (val b1 b2) → W d post' b1 b2) → W (d + 1) post a1 a2) :
    ∀ (d : Nat) (post : ρ → Prop) (a1 : A1) (a2 : A2), ok a1 a2 → μ a1 a2 < d → post (val a1 a2) → W d post a1 a2 := by
  intro d
  induction d with
  | zero => intro post a1 a2 _ h; omega
  | succ d ih =>
    intro post a1 a2 ho hm hp
    exact hs d post a1 a2 ho hp (fun post' b1 b2 ho' hm' hp' => ih post' b1 b2 ho' (by omega) hp')
theorem rp3 {ρ A1 A2 A3 : Type} (W : Nat → (ρ → Prop) → A1 → A2 → A3 → Prop) (ok : A1 → A2 → A3 → Prop) (μ : A1 → A2 → A3 → Nat) (val : A1 → A2 → A3 → ρ)
    (hs : ∀ (d : Nat) (post : ρ → Prop) (a1 : A1) (a2 : A2) (a3 : A3), ok a1 a2 a3 → post (val a1 a2 a3) → (∀ (post' : ρ → Prop) (b1 : A1) (b2 : A2) (b3 : A3), ok b1 b2 b3 → μ b1 b2 b3 < μ a1 a2 a3 → post' (val b1 b2 b3) → W d post' b1 b2 b3) → W (d + 1) post a1 a2 a3) :
    ∀ (d : Nat) (post : ρ → Prop) (a1 : A1) (a2 : A2) (a3 : A3), ok a1 a2 a3 → μ a1 a2 a3 < d → post (val a1 a2 a3) → W d post a1 a2 a3 := by
  intro d
  induction d with
  | zero => intro post a1 a2 a3 _ h; omega
  | succ d ih =>
    intro post a1 a2 a3 ho hm hp
    exact hs d post a1 a2 a3 ho hp (fun post' b1 b2 b3 ho' hm' hp' => ih post' b1 b2 b3 ho' (by omega) hp')
theorem rp4 {ρ A1 A2 A3 A4 : Type} (W : Nat → (ρ → Prop) → A1 → A2 → A3 → A4 → Prop) (ok : A1 → A2 → A3 → A4 → Prop) (μ : A1 → A2 → A3 → A4 → Nat) (val : A1 → A2 → A3 → A4 → ρ)
    (hs : ∀ (d : Nat) (post : ρ → Prop) (a1 : A1) (a2 : A2) (a3 : A3) (a4 : A4), ok a1 a2 a3 a4 → post (val a1 a2 a3 a4) → (∀ (post' : ρ → Prop) (b1 : A1) (b2 : A2) (b3 : A3) (b4 : A4), ok b1 b2 b3 b4 → μ b1 b2 b3 b4 < μ a1 a2 a3 a4 → post' (val b1 b2 b3 b4) → W d post' b1 b2 b3 b4) → W (d + 1) post a1 a2 a3 a4) :
    ∀ (d : Nat) (post : ρ → Prop) (a1 : A1) (a2 : A2) (a3 : A3) (a4 : A4), ok a1 a2 a3 a4 → μ a1 a2 a3 a4 < d → post (val a1 a2 a3 a4) → W d post a1 a2 a3 a4 := by
  intro d
  induction d with
  | zero => intro post a1 a2 a3 a4 _ h; omega
  | succ d ih =>
    intro post a1 a2 a3 a4 ho hm hp
    exact hs d post a1 a2 a3 a4 ho hp (fun post' b1 b2 b3 b4 ho' hm' hp' => ih post' b1 b2 b3 b4 ho' (by omega) hp')
theorem rp5 {ρ A1 A2 A3 A4 A5 : Type} (W : Nat → (ρ → Prop) → A1 → A2 → A3 → A4 → A5 → Prop) (ok : A1 → A2 → A3 → A4 → A5 → Prop) (μ : A1 → A2 → A3 → A4 → A5 → Nat) (val : A1 → A2 → A3 → A4 → A5 → ρ)
    (hs : ∀ (d : Nat) (post : ρ → Prop) (a1 : A1) (a2 : A2) (a3 : A3) (a4 : A4) (a5 : A5), ok a1 a2 a3 a4 a5 → post (val a1 a2 a3 a4 a5) → (∀ (post' : ρ → Prop) (b1 : A1) (b2 : A2) (b3 : A3) (b4 : A4) (b5 : A5), ok b1 b2 b3 b4 b5 → μ b1 b2 b3 b4 b5 < μ a1 a2 a3 a4 a5 → post' (val b1 b2 b3 b4 b5) → W d post' b1 b2 b3 b4 b5) → W (d + 1) post a1 a2 a3 a4 a5) :
    ∀ (d : Nat) (post : ρ → Prop) (a1 : A1) (a2 : A2) (a3 : A3) (a4 : A4) (a5 : A5), ok a1 a2 a3 a4 a5 → μ a1 a2 a3 a4 a5 < d → post (val a1 a2 a3 a4 a5) → W d post a1 a2 a3 a4 a5 := by
  intro d
  induction d with
  | zero => intro post a1 a2 a3 a4 a5 _ h; omega
  | succ d ih =>
    intro post a1 a2 a3 a4 a5 ho hm hp
    exact hs d post a1 a2 a3 a4 a5 ho hp (fun post' b1 b2 b3 b4 b5 ho' hm' hp' => ih post' b1 b2 b3 b4 b5 ho' (by omega) hp')
theorem rp6 {ρ A1 A2 A3 A4 A5 A6 : Type} (W : Nat → (ρ → Prop) → A1 → A2 → A3 → A4 → A5 → A6 → Prop) (ok : A1 → A2 → A3 → A4 → A5 → A6 → Prop) (μ : A1 → A2 → A3 → A4 → A5 → A6 → Nat) (val : A1 → A2 → A3 → A4 → A5 → A6 → ρ)
    (hs : ∀ (d : Nat) (post : ρ → Prop) (a1 : A1) (a2 : A2) (a3 : A3) (a4 : A4) (a5 : A5) (a6 : A6), ok a1 a2 a3 a4 a5 a6 → post (val a1 a2 a3 a4 a5 a6) → (∀ (post' : ρ → Prop) (b1 : A1) (b2 : A2) (b3 : A3) (b4 : A4) (b5 : A5) (b6 : A6), ok b1 b2 b3 b4 b5 b6 → μ b1 b2 b3 b4 b5 b6 < μ a1 a2 a3 a4 a5 a6 → post' (val b1 b2 b3 b4 b5 b6) → W d post' b1 b2 b3 b4 b5 b6) → W (d + 1) post a1 a2 a3 a4 a5 a6) :
    ∀ (d : Nat) (post : ρ → Prop) (a1 : A1) (a2 : A2) (a3 : A3) (a4 : A4) (a5 : A5) (a6 : A6), ok a1 a2 a3 a4 a5 a6 → μ a1 a2 a3 a4 a5 a6 < d → post (val a1 a2 a3 a4 a5 a6) → W d post a1 a2 a3 a4 a5 a6 := by
  intro d
  induction d with
  | zero => intro post a1 a2 a3 a4 a5 a6 _ h; omega
  | succ d ih =>
    intro post a1 a2 a3 a4 a5 a6 ho hm hp
    exact hs d post a1 a2 a3 a4 a5 a6 ho hp (fun post' b1 b2 b3 b4 b5 b6 ho' hm' hp' => ih post' b1 b2 b3 b4 b5 b6 ho' (by omega) hp')
theorem rec_p {σ ρ : Type} (W : Nat → (ρ → Prop) → σ → Prop) (ok : σ → Prop) (μ : σ → Nat) (val : σ → ρ)
    (hs : ∀ d s post, ok s → post (val s) → (∀ s' post', ok s' → μ s' < μ s → post' (val s') → W d post' s') → W (d + 1) post s) :
    ∀ d s post, ok s → μ s < d → post (val s) → W d post s := by
  intro d
  induction d with
  | zero => intro s post _ h; omega
  | succ d ih =>
    intro s post ho hm hp
    exact hs d s post ho hp (fun s' post' ho' hm' hp' => ih s' post' ho' (by omega) hp')
theorem rec_q {σ ρ : Type} (W : Nat → (ρ → Prop) → σ → Prop) (ok : σ → Prop) (μ : σ → Nat) (Q : σ → ρ → Prop)
    (hs : ∀ d s post, ok s → (∀ r, Q s r → post r) → (∀ s' post', ok s' → μ s' < μ s → (∀ r, Q s' r → post' r) → W d post' s') → W (d + 1) post s) :
    ∀ d s post, ok s → μ s < d → (∀ r, Q s r → post r) → W d post s := by
  intro d
  induction d with
  | zero => intro s post _ h; omega
  | succ d ih =>
    intro s post ho hm hp
    exact hs d s post ho hp (fun s' post' ho' hm' hp' => ih s' post' ho' (by omega) hp')
def bx_sum (f : Nat → Int32) : Nat → Int32
  | 0 => 0
  | n + 1 => bx_sum f n + f n
theorem ek_u {A : Prop} {B : Nat → Prop} {k N : Nat} (hk : k < N) (h : B k) : (some k = none → A) ∧ (∀ y : Nat, some k = some y → (y < N ∧ B y)) :=
  ⟨fun z => absurd z (Option.some_ne_none k), fun _ e => (by cases e; exact ⟨hk, h⟩)⟩
theorem ek_nu {A : Prop} {B : Nat → Prop} (h : A) : ((none : Option Nat) = none → A) ∧ (∀ y : Nat, (none : Option Nat) = some y → B y) :=
  ⟨fun _ => h, fun _ e => (by cases e)⟩
theorem ek_if {c d A B : Prop} (e : c ↔ d) (f : d → A) (g : ¬ d → B) : (c → A) ∧ (¬ c → B) :=
  ⟨fun z => f (e.mp z), fun z => g (fun y => z (e.mpr y))⟩
theorem ek_v {α : Sort _} {P : α → Prop} {a b : α} (e : a = b) (h : P b) : P a := e ▸ h
theorem co_some {x : Option Nat} {A : Prop} {B : Nat → Prop} (i : Nat) (h : B i) (hx : x = some i := by rfl) : (x = none → A) ∧ (∀ y : Nat, x = some y → B y) := by
  subst hx
  exact ⟨fun e => (nomatch e), fun y e => Option.some.inj e ▸ h⟩
theorem co_none {x : Option Nat} {A : Prop} {B : Nat → Prop} (h : A) (hx : x = none := by rfl) : (x = none → A) ∧ (∀ y : Nat, x = some y → B y) := by
  subst hx
  exact ⟨fun _ => h, fun y e => (nomatch e)⟩
theorem co_any {x : Option Nat} {A : Prop} {B : Nat → Prop} (hn : x = none → A) (hs : ∀ i : Nat, x = some i → B i) : (x = none → A) ∧ (∀ y : Nat, x = some y → B y) := ⟨hn, hs⟩
theorem co_2 {P : Nat → Prop} (h0 : P 0) (h1 : P 1) {i : Nat} (hi : i < 2) : P i :=
  match i, hi with
  | 0, _ => h0
  | 1, _ => h1
theorem co_3 {P : Nat → Prop} (h0 : P 0) (h1 : P 1) (h2 : P 2) {i : Nat} (hi : i < 3) : P i :=
  match i, hi with
  | 0, _ => h0
  | 1, _ => h1
  | 2, _ => h2
theorem co_4 {P : Nat → Prop} (h0 : P 0) (h1 : P 1) (h2 : P 2) (h3 : P 3) {i : Nat} (hi : i < 4) : P i :=
  match i, hi with
  | 0, _ => h0
  | 1, _ => h1
  | 2, _ => h2
  | 3, _ => h3
theorem co_dec {N : Nat} {P : Nat → Prop} [DecidablePred P] (h : (List.range N).all (fun i => decide (P i)) = true) {i : Nat} (hi : i < N) : P i := by
  have := List.all_eq_true.mp h i (List.mem_range.mpr hi)
  exact of_decide_eq_true this
theorem co_tab {α : Type} {l : List α} {d : α} {P : α → Prop} (h : ∀ a, a ∈ l → P a) {i : Nat} (hi : i < l.length) : P (l.getD i d) := by
  rw [List.getD_eq_getElem?_getD, List.getElem?_eq_getElem hi]
  exact h _ (List.getElem_mem hi)
theorem pk_mu {x : Int32} {L : Nat} (h0 : ¬ x < 0) (h : ¬ nI L ≤ x) (hL : L < 2 ^ 31) : ∃ j : Nat, j < L ∧ x = nI j ∧ x + 1 = nI (j + 1) ∧ x.toNatClampNeg = j ∧ L - (x + 1).toNatClampNeg < L - x.toNatClampNeg := by
  obtain ⟨j, hj, rfl⟩ := nI_of h0
  have hl : j < L := Nat.not_le.mp fun q => h (nI_le q hj)
  refine ⟨j, hl, rfl, nI_1 j, nI_clamp hj, ?_⟩
  rw [nI_1, nI_clamp (by omega), nI_clamp hj]
  omega
theorem op_s {α : Type} {r : Option α} {A : Prop} {B : α → Prop} {y : α} (h : r = some y) (b : B y) : (r = none → A) ∧ ∀ z, r = some z → B z :=
  ⟨fun e => (by rw [h] at e; cases e), fun z e => (by rw [h] at e; cases e; exact b)⟩
def l_holds {α : Type} (a : Nat → Option Nat) (LP : List Nat) (p : Nat → α) (c : Nat) (b : Nat → α) : Prop :=
  ∀ j, j < c → ∃ y, a j = some y ∧ y ∈ LP ∧ p y = b j
theorem l_holds_0 {α : Type} {a : Nat → Option Nat} {LP : List Nat} {p b : Nat → α} : l_holds a LP p 0 b := fun j h => absurd h (Nat.not_lt_zero j)
theorem l_in_new (LP : List Nat) (q : Nat) : q ∈ LP ++ [q] := List.mem_append.mpr (Or.inr (List.mem_singleton.mpr rfl))
def l_sum (b : Nat → Int32) : Nat → Int32
  | 0 => 0
  | k + 1 => l_sum b k + b k
theorem sb_shr0 (x : Int32) : x >>> ((0 : Int32) &&& 31) = x := by
  rw [show ((0 : Int32) &&& 31) = 0 by decide]
  simp
theorem sb_shl0 (x : Int32) : x <<< ((0 : Int32) &&& 31) = x := by
  rw [show ((0 : Int32) &&& 31) = 0 by decide]
  simp
theorem sb_cl0 : (0 : Int32).toNatClampNeg = 0 := by decide
theorem sb_m1 {p : Nat} (h : 0 < p) : nI p + (-1) = nI (p - 1) := by
  obtain ⟨q, rfl⟩ : ∃ q, p = q + 1 := ⟨p - 1, by omega⟩
  exact pk_m1 q
def sb_b (c : Nat) : Int32 := (nI c).toInt8.toInt32
theorem sb_byte : ∀ c, c < 256 → sb_b c &&& 255 = nI c ∧ ((nI c).toUInt32 % 65536).toInt32 = nI c ∧ nI c ≤ 255 := by decide +kernel
def sb_Fit (a : Nat → Int32) : Prop := ∀ j, fits .byte (.int (a j)) = true
def sb_Lat (t : Nat → Nat) (n : Nat) (a : Nat → Int32) : Prop := ∀ j, j < n → t j < 256 ∧ a j = sb_b (t j)
theorem sb_fitB (c : Nat) : fits .byte (.int (sb_b c)) = true := pk_fb _
theorem sb_fit0 : sb_Fit (fun _ => 0) := fun _ => by
  show fits .byte (.int 0) = true
  decide
theorem sb_fitU {a : Nat → Int32} {k : Nat} {x : Int32} (h : sb_Fit a) (hx : fits .byte (.int x) = true) : sb_Fit (upd a k x) := by
  intro j
  by_cases e : j = k
  · subst e
    rw [pk_us]
    exact hx
  · rw [pk_un e]
    exact h j
def sb_cat (t : Nat → Nat) (n : Nat) (s : Nat → Nat) : Nat → Nat := fun j => if j < n then t j else s (j - n)
theorem sb_cat_lo {t s : Nat → Nat} {n j : Nat} (h : j < n) : sb_cat t n s j = t j := if_pos h
theorem sb_cat_hi {t s : Nat → Nat} {n j : Nat} : sb_cat t n s (n + j) = s j := by
  show (if n + j < n then t (n + j) else s (n + j - n)) = s j
  rw [if_neg (by omega), Nat.add_sub_cancel_left]
theorem sb_latPut {t s : Nat → Nat} {n w : Nat} {a a' : Nat → Int32} (h : sb_Lat t n a) (hk : ∀ j, j < n → a' j = a j) (hs : ∀ i, i < w → s i < 256 ∧ a' (n + i) = sb_b (s i)) : sb_Lat (sb_cat t n s) (n + w) a' := by
  intro j hj
  by_cases e : j < n
  · rw [sb_cat_lo e, hk j e]
    exact h j e
  · obtain ⟨i, rfl⟩ : ∃ i, j = n + i := ⟨j - n, by omega⟩
    rw [sb_cat_hi]
    exact hs i (by omega)
theorem sb_latKeep {t : Nat → Nat} {n : Nat} {a a' : Nat → Int32} (h : sb_Lat t n a) (hk : ∀ j, j < n → a' j = a j) : sb_Lat t n a' := fun j hj => by
  rw [hk j hj]
  exact h j hj
def sb_cap (q m : Nat) : Nat := if q ≤ m then m else if 2 * m + 2 < q then q else 2 * m + 2
def sb_Room (q m mc ms : Nat) : Prop := q ≤ m ∨ (1 ≤ mc ∧ sb_cap q m ≤ ms ∧ sb_cap q m ≤ 65536)
theorem sb_cap_ge (q m : Nat) : q ≤ sb_cap q m := by
  unfold sb_cap
  split
  · omega
  · split <;> omega
theorem sb_cap_gem (q m : Nat) : m ≤ sb_cap q m := by
  unfold sb_cap
  split
  · omega
  · split <;> omega
theorem sb_cap_le {q m mc ms : Nat} (hm : m ≤ 65536) (hr : sb_Room q m mc ms) : sb_cap q m ≤ 65536 := by
  rcases hr with h | h
  · rw [sb_cap, if_pos h]
    exact hm
  · exact h.2.2
theorem sb_at {P : Int32 → Prop} {x y : Int32} (e : x = y) (h : P y) : P x := e ▸ h
def sb_dg (w : Nat) : Nat := if w < 10 then 1 else if w < 100 then 2 else if w < 1000 then 3 else if w < 10000 then 4 else if w < 100000 then 5 else if w < 1000000 then 6 else if w < 10000000 then 7 else if w < 100000000 then 8 else if w < 1000000000 then 9 else 10
def sb_dec (v : Nat) : Nat → Nat := fun i => 48 + v / 10 ^ (sb_dg v - 1 - i) % 10
theorem sb_dg_in (w : Nat) : 1 ≤ sb_dg w ∧ sb_dg w ≤ 10 := by
  unfold sb_dg
  constructor <;> (repeat' split) <;> omega
theorem sb_dg100 {w : Nat} (h : 100 ≤ w) (hw : w < 2 ^ 31) : sb_dg w = sb_dg (w / 100) + 2 := by
  rw [sb_dg, sb_dg, if_neg (show ¬ w < 10 by omega), if_neg (show ¬ w < 100 by omega)]
  by_cases h3 : w < 1000
  · rw [if_pos h3, if_pos (show w / 100 < 10 by omega)]
  rw [if_neg h3, if_neg (show ¬ w / 100 < 10 by omega)]
  by_cases h4 : w < 10000
  · rw [if_pos h4, if_pos (show w / 100 < 100 by omega)]
  rw [if_neg h4, if_neg (show ¬ w / 100 < 100 by omega)]
  by_cases h5 : w < 100000
  · rw [if_pos h5, if_pos (show w / 100 < 1000 by omega)]
  rw [if_neg h5, if_neg (show ¬ w / 100 < 1000 by omega)]
  by_cases h6 : w < 1000000
  · rw [if_pos h6, if_pos (show w / 100 < 10000 by omega)]
  rw [if_neg h6, if_neg (show ¬ w / 100 < 10000 by omega)]
  by_cases h7 : w < 10000000
  · rw [if_pos h7, if_pos (show w / 100 < 100000 by omega)]
  rw [if_neg h7, if_neg (show ¬ w / 100 < 100000 by omega)]
  by_cases h8 : w < 100000000
  · rw [if_pos h8, if_pos (show w / 100 < 1000000 by omega)]
  rw [if_neg h8, if_neg (show ¬ w / 100 < 1000000 by omega)]
  by_cases h9 : w < 1000000000
  · rw [if_pos h9, if_pos (show w / 100 < 10000000 by omega)]
  rw [if_neg h9, if_neg (show ¬ w / 100 < 10000000 by omega)]
  rw [if_pos (show w / 100 < 100000000 by omega)]
theorem sb_negT {w : Nat} (h : w < 2 ^ 31) : (-nI w).toInt = -(w : Int) := by
  rw [Int32.toInt_neg, nI_toInt h]
  exact Int.bmod_eq_of_le (by omega) (by omega)
theorem sb_nle {a b : Nat} (ha : a < 2 ^ 31) (hb : b < 2 ^ 31) : -nI a ≤ -nI b ↔ b ≤ a := by
  rw [Int32.le_iff_toInt_le, sb_negT ha, sb_negT hb]
  omega
theorem sb_nlt {a b : Nat} (ha : a < 2 ^ 31) (hb : b < 2 ^ 31) : -nI a < -nI b ↔ b < a := by
  rw [Int32.lt_iff_toInt_lt, sb_negT ha, sb_negT hb]
  omega
theorem sb_cmp {A B : Prop} {x : Int32} (v c : Nat) (f : c ≤ v → A) (g : v < c → B) (hv : v < 2 ^ 31) (hx : x = -nI c := by rfl) (hc : c < 2 ^ 31 := by omega) : (-nI v ≤ x → A) ∧ (¬ -nI v ≤ x → B) := by
  subst hx
  rw [sb_nle hv hc]
  exact ⟨f, fun z => g (by omega)⟩
theorem sb_ndiv {w : Nat} (hw : w < 2 ^ 31) : (-nI w) / 100 = -nI (w / 100) := by
  apply Int32.toInt_inj.mp
  have h100 : (100 : Int32).toInt = 100 := by decide
  rw [Int32.toInt_div, sb_negT hw, h100, sb_negT (by omega), Int.neg_tdiv, Int.tdiv_eq_ediv_of_nonneg (by omega), Int.bmod_eq_of_le (by omega) (by omega)]
  omega
theorem sb_nrem {w : Nat} (hw : w < 2 ^ 31) : (-nI (w / 100)) * 100 - (-nI w) = nI (w % 100) := by
  have h := pk_rem (a := w) (d := 100) hw (by decide) (by decide)
  rw [pk_div hw (by decide) (by decide)] at h
  rw [← h]
  show (-nI (w / 100)) * nI 100 - (-nI w) = nI w - nI (w / 100) * nI 100
  rw [Int32.neg_mul, Int32.sub_neg, Int32.add_comm, ← Int32.sub_eq_add_neg]
end
section
/-! rows on bits, shifts and unsigned numbers, to paste: each family out of a closed proof of our own, whole with what it rests on; each by itself clean at Lean in its own claim (generation 39, form 5). Take a family whole -/
/-! ===== Int32 by its bits: bt x i ===== -/
def bt (x : Int32) (i : Nat) : Bool := x.toBitVec.getLsbD i
theorem b_ext {x y : Int32} (h : ∀ i, i < 32 → bt x i = bt y i) : x = y := Int32.toBitVec_inj.mp (BitVec.eq_of_getLsbD_eq (fun i hi => h i hi))
theorem b_or (x y : Int32) (i : Nat) : bt (x ||| y) i = (bt x i || bt y i) := by unfold bt; rw [Int32.toBitVec_or, BitVec.getLsbD_or]
theorem b_and (x y : Int32) (i : Nat) : bt (x &&& y) i = (bt x i && bt y i) := by unfold bt; rw [Int32.toBitVec_and, BitVec.getLsbD_and]
theorem b_xor (x y : Int32) (i : Nat) : bt (x ^^^ y) i = (bt x i ^^ bt y i) := by unfold bt; rw [Int32.toBitVec_xor, BitVec.getLsbD_xor]
theorem b_big {x : Int32} {i : Nat} (h : 32 ≤ i) : bt x i = false := BitVec.getLsbD_of_ge _ _ h
theorem b_255 (i : Nat) : bt 255 i = decide (i < 8) := by
  rcases Nat.lt_or_ge i 32 with h | h
  · exact (by decide +kernel : ∀ i, i < 32 → bt 255 i = decide (i < 8)) i h
  · rw [b_big h, decide_eq_false (by omega)]
theorem b_65535 (i : Nat) : bt 65535 i = decide (i < 16) := by
  rcases Nat.lt_or_ge i 32 with h | h
  · exact (by decide +kernel : ∀ i, i < 32 → bt 65535 i = decide (i < 16)) i h
  · rw [b_big h, decide_eq_false (by omega)]
theorem b_m1 : ∀ i, i < 32 → bt (-1) i = true := by decide +kernel
theorem b_0 (i : Nat) : bt 0 i = false := BitVec.getLsbD_zero
theorem s_l : ∀ n, n < 32 → ((nI n &&& 31).toBitVec.smod 32).toNat = n := by decide +kernel
theorem s_u : ∀ n, n < 32 → (((nI n).toUInt32 &&& Int32.toUInt32 31).toBitVec % 32).toNat = n := by decide +kernel
theorem b_shl (n : Nat) (hn : n < 32) (x : Int32) {i : Nat} (hi : i < 32) : bt (x <<< (nI n &&& 31)) i = (decide (n ≤ i) && bt x (i - n)) := by
  unfold bt
  rw [Int32.toBitVec_shiftLeft]
  show (x.toBitVec <<< ((nI n &&& 31).toBitVec.smod 32).toNat).getLsbD i = _
  rw [s_l n hn, BitVec.getLsbD_shiftLeft]
  rcases Nat.lt_or_ge i n with h | h
  · simp [h, Nat.not_le.mpr h]
  · simp [hi, h, Nat.not_lt.mpr h]
theorem b_ushr (n : Nat) (hn : n < 32) (x : Int32) (i : Nat) : bt ((x.toUInt32 >>> ((nI n).toUInt32 &&& Int32.toUInt32 31)).toInt32) i = bt x (n + i) := by
  show (x.toUInt32 >>> ((nI n).toUInt32 &&& Int32.toUInt32 31)).toBitVec.getLsbD i = x.toUInt32.toBitVec.getLsbD (n + i)
  rw [UInt32.toBitVec_shiftRight]
  show (x.toUInt32.toBitVec >>> (((nI n).toUInt32 &&& Int32.toUInt32 31).toBitVec % 32).toNat).getLsbD i = _
  rw [s_u n hn, BitVec.getLsbD_ushiftRight]
theorem b_sshr (n : Nat) (hn : n < 32) (x : Int32) {i : Nat} (hi : i < 32) : bt (x >>> (nI n &&& 31)) i = if n + i < 32 then bt x (n + i) else bt x 31 := by
  unfold bt
  rw [Int32.toBitVec_shiftRight]
  show (x.toBitVec.sshiftRight ((nI n &&& 31).toBitVec.smod 32).toNat).getLsbD i = _
  rw [s_l n hn, BitVec.getLsbD_sshiftRight, BitVec.msb_eq_getLsbD_last]
  simp [hi]
theorem b_shl8 (x : Int32) {i : Nat} (hi : i < 32) : bt (x <<< ((8 : Int32) &&& 31)) i = (decide (8 ≤ i) && bt x (i - 8)) := b_shl 8 (by omega) x hi
theorem b_shl16 (x : Int32) {i : Nat} (hi : i < 32) : bt (x <<< ((16 : Int32) &&& 31)) i = (decide (16 ≤ i) && bt x (i - 16)) := b_shl 16 (by omega) x hi
theorem b_shl24 (x : Int32) {i : Nat} (hi : i < 32) : bt (x <<< ((24 : Int32) &&& 31)) i = (decide (24 ≤ i) && bt x (i - 24)) := b_shl 24 (by omega) x hi
theorem b_sshr8 (x : Int32) {i : Nat} (hi : i < 32) : bt (x >>> ((8 : Int32) &&& 31)) i = if 8 + i < 32 then bt x (8 + i) else bt x 31 := b_sshr 8 (by omega) x hi
/-! ===== nI under and, xor, >>>, one bit, 65535 ===== -/
theorem nx_and (a b : Nat) : nI a &&& nI b = nI (a &&& b) := by
  apply Int32.toBitVec_inj.1
  show BitVec.ofNat 32 a &&& BitVec.ofNat 32 b = BitVec.ofNat 32 (a &&& b)
  apply BitVec.eq_of_getLsbD_eq
  intro i hi
  simp [hi]
theorem nx_xor (a b : Nat) : nI a ^^^ nI b = nI (a ^^^ b) := by
  apply Int32.toBitVec_inj.1
  show BitVec.ofNat 32 a ^^^ BitVec.ofNat 32 b = BitVec.ofNat 32 (a ^^^ b)
  apply BitVec.eq_of_getLsbD_eq
  intro i hi
  simp [hi]
theorem nx_cnt : ∀ j : Fin 32, (UInt32.ofNat j.val &&& Int32.toUInt32 31).toNat % 32 = j.val := by decide +kernel
theorem nx_ush {k j : Nat} (hk : k < 65536) (hj : j < 32) : ((nI k).toUInt32 >>> ((nI j).toUInt32 &&& Int32.toUInt32 31)).toInt32 = nI (k >>> j) := by
  have hs : k >>> j ≤ k := by
    rw [Nat.shiftRight_eq_div_pow]
    exact Nat.div_le_self _ _
  have e2 : UInt32.ofNat k >>> (UInt32.ofNat j &&& Int32.toUInt32 31) = UInt32.ofNat (k >>> j) := by
    apply UInt32.toNat_inj.1
    have h1 : (UInt32.ofNat k).toNat = k := Nat.mod_eq_of_lt (by omega)
    have h2 : (UInt32.ofNat (k >>> j)).toNat = k >>> j := Nat.mod_eq_of_lt (by omega)
    rw [UInt32.toNat_shiftRight, nx_cnt ⟨j, hj⟩, h1, h2]
  show (UInt32.ofNat k >>> (UInt32.ofNat j &&& Int32.toUInt32 31)).toInt32 = _
  rw [e2]
  rfl
theorem nx_bit {k j : Nat} (hk : k < 65536) (hj : j < 16) : (((nI k).toUInt32 >>> ((nI j).toUInt32 &&& Int32.toUInt32 31)).toInt32 &&& 1) = 0 ↔ k.testBit j = false := by
  rw [nx_ush hk (by omega)]
  show nI (k >>> j) &&& nI 1 = 0 ↔ _
  rw [nx_and, Nat.and_one_is_mod, ← nI_0, nI_eq (by omega) (by omega), Nat.testBit_eq_decide_div_mod_eq, Nat.shiftRight_eq_div_pow, decide_eq_false_iff_not]
  generalize k / 2 ^ j = z
  omega
theorem nx_mod (k : Nat) : nI k &&& 65535 = nI (k % 65536) := by
  show nI k &&& nI 65535 = _
  rw [nx_and, show (65535 : Nat) = 2 ^ 16 - 1 from rfl, Nat.and_two_pow_sub_one_eq_mod]
theorem nx_m16 {k : Nat} (h : k < 65536) : nI k &&& 65535 = nI k := by rw [nx_mod, Nat.mod_eq_of_lt h]
theorem nx_mask (x : Int32) : ∃ k, k < 65536 ∧ x &&& 65535 = nI k := by
  have e : x = nI x.toBitVec.toNat := by
    apply Int32.toBitVec_inj.1
    show x.toBitVec = BitVec.ofNat 32 x.toBitVec.toNat
    simp
  refine ⟨x.toBitVec.toNat % 65536, Nat.mod_lt _ (by omega), ?_⟩
  rw [← nx_mod, ← e]
/-! ===== Int32 as a set of bits: test, set ===== -/
def nf_M (m : Int32) : Nat := 4294967296 - m.toBitVec.toNat
theorem nf_sh : ∀ l, l < 32 → ((1 : Int32) <<< (nI l &&& 31)).toBitVec = BitVec.twoPow 32 l := by decide +kernel
theorem nf_sl : ∀ l, l < 32 → (((nI l).toUInt32 &&& Int32.toUInt32 31).toBitVec % 32).toNat = l := by decide +kernel
theorem nf_tp : ∀ l, l < 32 → BitVec.twoPow 32 l ≠ 0#32 := by decide +kernel
theorem nf_bit (m : Int32) (l : Nat) (hl : l < 32) : ((m.toUInt32 >>> ((nI l).toUInt32 &&& Int32.toUInt32 31)).toInt32 &&& 1) = 0 ↔ (m &&& ((1 : Int32) <<< (nI l &&& 31))) = 0 := by
  have e : ((m.toUInt32 >>> ((nI l).toUInt32 &&& Int32.toUInt32 31)).toInt32).toBitVec = m.toBitVec >>> l := by
    show m.toBitVec >>> (((nI l).toUInt32 &&& Int32.toUInt32 31).toBitVec % 32) = m.toBitVec >>> l
    rw [BitVec.ushiftRight_eq', nf_sl l hl]
  rw [← Int32.toBitVec_inj, ← Int32.toBitVec_inj, Int32.toBitVec_and, Int32.toBitVec_and, nf_sh l hl, e, BitVec.and_twoPow]
  show (m.toBitVec >>> l &&& 1#32) = 0#32 ↔ _ = 0#32
  rw [BitVec.and_one_eq_setWidth_ofBool_getLsbD, BitVec.getLsbD_ushiftRight, Nat.add_zero]
  cases hb : m.toBitVec.getLsbD l
  · exact ⟨fun _ => by simp, fun _ => by decide⟩
  · exact ⟨fun z => absurd z (by decide), fun z => absurd ((if_pos rfl).symm.trans z) (nf_tp l hl)⟩
theorem nf_gr (m k : Int32) (h : m &&& k = 0) (hk : k ≠ 0) : nf_M (m ||| k) < nf_M m := by
  have hm := m.toBitVec.isLt
  have hm' := (m ||| k).toBitVec.isLt
  have h1 : m.toBitVec.toNat ≤ (m ||| k).toBitVec.toNat := by
    rw [Int32.toBitVec_or, BitVec.toNat_or]
    exact Nat.left_le_or
  have h2 : m.toBitVec.toNat ≠ (m ||| k).toBitVec.toNat := by
    intro e
    have e2 : m = m ||| k := Int32.toBitVec_inj.mp (BitVec.eq_of_toNat_eq e)
    apply hk
    apply Int32.toBitVec_inj.mp
    show k.toBitVec = 0#32
    apply BitVec.eq_of_getLsbD_eq
    intro i hi
    have a : m.toBitVec.getLsbD i = (m.toBitVec.getLsbD i || k.toBitVec.getLsbD i) := by rw [← BitVec.getLsbD_or, ← Int32.toBitVec_or, ← e2]
    have b : (m.toBitVec.getLsbD i && k.toBitVec.getLsbD i) = false := by
      rw [← BitVec.getLsbD_and, ← Int32.toBitVec_and, h]
      exact BitVec.getLsbD_zero
    rw [BitVec.getLsbD_zero]
    revert a b
    cases m.toBitVec.getLsbD i <;> cases k.toBitVec.getLsbD i <;> simp
  unfold nf_M
  omega
/-! ===== a byte read unsigned ===== -/
theorem bp_b (x : Int32) : x.toInt8.toInt32 &&& 255 = x &&& 255 := by
  apply Int32.toBitVec_inj.mp
  rw [Int32.toBitVec_and, Int32.toBitVec_and, Int8.toBitVec_toInt32, Int32.toBitVec_toInt8]
  apply BitVec.eq_of_getLsbD_eq
  intro i hi
  rw [BitVec.getLsbD_and, BitVec.getLsbD_and]
  have hm : ∀ i < 32, 8 ≤ i → (255 : Int32).toBitVec.getLsbD i = false := by decide
  rcases Nat.lt_or_ge i 8 with z | z
  · rw [BitVec.getLsbD_signExtend, BitVec.getLsbD_signExtend, if_pos z, if_pos hi]
    simp only [z, hi, decide_true, Bool.true_and]
  · rw [hm i hi z]; simp
/-! ===== the char cast and 65535 ===== -/
theorem em_w (v : Int32) : ∃ w : Nat, w < 65536 ∧ (v.toUInt32 % 65536).toInt32 = nI w ∧ v &&& 65535 = nI w := by
  have hr := lw_u16_r v
  have h0 : (0 : Int32).toInt = 0 := by decide
  obtain ⟨w, h1, h2⟩ := nI_of (x := lw_u16 v) (by rw [Int32.lt_iff_toInt_lt]; omega)
  have h3 : (v.toUInt32 % 65536).toInt32 = nI w := h2
  rw [h2, nI_toInt h1] at hr
  exact ⟨w, by omega, h3, by rw [← lg_i2c_mask, ← lg_i2c_nf, h3]⟩
/-! ===== Int64 as a set of bits: test, set, clear ===== -/
theorem ts_nf {x : Bool} (h : ¬ x = false) : x = true := by cases x <;> first | rfl | exact absurd rfl h
theorem ts_nt {x : Bool} (h : ¬ x = true) : x = false := by cases x <;> first | rfl | exact absurd rfl h
theorem ts_bit {w : Int64} {s : UInt64} {j : Nat} (hj : j < 64) (hs : s.toNat = j) : ((w.toUInt64 >>> s).toInt64 &&& 1) = 0 ↔ w.toBitVec.getLsbD j = false := by
  have e : (w.toUInt64 >>> s).toInt64.toBitVec = w.toBitVec >>> j := by
    apply BitVec.eq_of_toNat_eq
    show (w.toUInt64 >>> s).toNat = _
    rw [UInt64.toNat_shiftRight, hs, Nat.mod_eq_of_lt hj, BitVec.toNat_ushiftRight]
    rfl
  rw [← Int64.toBitVec_inj, Int64.toBitVec_and, e]
  show w.toBitVec >>> j &&& 1#64 = 0#64 ↔ _
  constructor
  · intro h
    have t := congrArg (fun x => x.getLsbD 0) h
    simpa using t
  · intro h
    apply BitVec.eq_of_getLsbD_eq
    intro i hi
    cases i with
    | zero => simp [h]
    | succ i => simp
theorem ts_or {w m : Int64} {j : Nat} (hj : j < 64) (hm : m.toBitVec = BitVec.twoPow 64 j) : (w ||| m) = w ↔ w.toBitVec.getLsbD j = true := by
  rw [← Int64.toBitVec_inj, Int64.toBitVec_or, hm]
  constructor
  · intro h
    have t := congrArg (fun x => x.getLsbD j) h
    simp only [BitVec.getLsbD_or, BitVec.getLsbD_twoPow] at t
    simpa [hj] using t.symm
  · intro h
    apply BitVec.eq_of_getLsbD_eq
    intro i hi
    rw [BitVec.getLsbD_or, BitVec.getLsbD_twoPow]
    by_cases e : j = i
    · subst e; rw [h, Bool.true_or]
    · simp [e]
theorem ts_and {w m : Int64} {j : Nat} (hj : j < 64) (hm : m.toBitVec = BitVec.twoPow 64 j) : (w &&& (m ^^^ (-1))) = w ↔ w.toBitVec.getLsbD j = false := by
  have ha : (-1 : Int64).toBitVec = BitVec.allOnes 64 := by decide
  rw [← Int64.toBitVec_inj, Int64.toBitVec_and, Int64.toBitVec_xor, hm, ha]
  constructor
  · intro h
    have t := congrArg (fun x => x.getLsbD j) h
    simp only [BitVec.getLsbD_and, BitVec.getLsbD_xor, BitVec.getLsbD_twoPow, BitVec.getLsbD_allOnes] at t
    simpa [hj] using t.symm
  · intro h
    apply BitVec.eq_of_getLsbD_eq
    intro i hi
    rw [BitVec.getLsbD_and, BitVec.getLsbD_xor, BitVec.getLsbD_twoPow, BitVec.getLsbD_allOnes]
    by_cases e : j = i
    · subst e; rw [h, Bool.false_and]
    · simp [e, hi]
/-! ===== lN n to 2^64: shifts, and, or, masks, one bit ===== -/
theorem wb_tb (n : Nat) : (lN n).toBitVec = BitVec.ofNat 64 n := rfl
theorem wb_inj {a b : Int64} (h : a.toBitVec = b.toBitVec) : a = b := Int64.toBitVec_inj.mp h
theorem wb_tn {n : Nat} (h : n < 2 ^ 64) : (lN n).toBitVec.toNat = n := by rw [wb_tb, BitVec.toNat_ofNat, Nat.mod_eq_of_lt h]
theorem wb_of (x : Int64) : ∃ n, n < 2 ^ 64 ∧ x = lN n := ⟨x.toBitVec.toNat, x.toBitVec.isLt, wb_inj (by rw [wb_tb]; simp)⟩
theorem wb_of32 (x : Int32) : ∃ n, n < 2 ^ 32 ∧ x = nI n := ⟨x.toBitVec.toNat, x.toBitVec.isLt, Int32.toBitVec_inj.mp (by show _ = BitVec.ofNat 32 _; simp)⟩
theorem wb_c : ∀ k, k < 64 → ((nI k).toInt64 &&& 63) = lN k := by decide +kernel
theorem wb_cu : ∀ k, k < 64 → ((nI k).toInt64.toUInt64 &&& Int64.toUInt64 63) = UInt64.ofNat k := by decide +kernel
theorem wb_sm : ∀ k, k < 64 → (BitVec.ofNat 64 k).smod 64 = BitVec.ofNat 64 k := by decide +kernel
theorem wb_pw {a b : Nat} (h : a ≤ b) : 2 ^ b = 2 ^ a * 2 ^ (b - a) := by rw [← Nat.pow_add]; congr 1; omega
theorem wb_lt2 {a b : Nat} (h : a < b) : 2 ^ a < 2 ^ b := Nat.pow_lt_pow_right (by decide) h
theorem wb_mod (n : Nat) : lN n = lN (n % 2 ^ 64) := wb_inj (by rw [wb_tb, wb_tb]; apply BitVec.eq_of_toNat_eq; rw [BitVec.toNat_ofNat, BitVec.toNat_ofNat, Nat.mod_mod])
theorem wb_shr {n k : Nat} (hn : n < 2 ^ 64) (hk : k < 64) : ((lN n).toUInt64 >>> ((nI k).toInt64.toUInt64 &&& Int64.toUInt64 63)).toInt64 = lN (n / 2 ^ k) := by
  rw [wb_cu k hk]
  apply wb_inj
  apply BitVec.eq_of_toNat_eq
  show ((lN n).toUInt64 >>> UInt64.ofNat k).toNat = (BitVec.ofNat 64 _).toNat
  have h1 : (UInt64.ofNat k).toNat = k := by
    show (BitVec.ofNat 64 k).toNat = k
    rw [BitVec.toNat_ofNat, Nat.mod_eq_of_lt (by omega)]
  have h2 : (lN n).toUInt64.toNat = n := wb_tn hn
  rw [UInt64.toNat_shiftRight, h1, h2, Nat.mod_eq_of_lt hk, Nat.shiftRight_eq_div_pow, BitVec.toNat_ofNat, Nat.mod_eq_of_lt (Nat.lt_of_le_of_lt (Nat.div_le_self _ _) hn)]
theorem wb_shl (n : Nat) {k : Nat} (hk : k < 64) : lN n <<< ((nI k).toInt64 &&& 63) = lN (n * 2 ^ k) := by
  rw [wb_c k hk]
  apply wb_inj
  rw [Int64.toBitVec_shiftLeft, wb_tb, wb_tb, wb_tb, wb_sm k hk]
  apply BitVec.eq_of_toNat_eq
  rw [BitVec.shiftLeft_eq', BitVec.toNat_shiftLeft, BitVec.toNat_ofNat, BitVec.toNat_ofNat, BitVec.toNat_ofNat, Nat.mod_eq_of_lt (show k < 2 ^ 64 by omega), Nat.shiftLeft_eq, Nat.mul_mod, Nat.mod_mod, ← Nat.mul_mod]
theorem wb_and {a b : Nat} (ha : a < 2 ^ 64) (hb : b < 2 ^ 64) : lN a &&& lN b = lN (a &&& b) := by
  apply wb_inj
  rw [Int64.toBitVec_and, wb_tb, wb_tb, wb_tb]
  apply BitVec.eq_of_toNat_eq
  rw [BitVec.toNat_and, BitVec.toNat_ofNat, BitVec.toNat_ofNat, BitVec.toNat_ofNat, Nat.mod_eq_of_lt ha, Nat.mod_eq_of_lt hb, Nat.mod_eq_of_lt (Nat.and_lt_two_pow _ hb)]
theorem wb_or {a b : Nat} (ha : a < 2 ^ 64) (hb : b < 2 ^ 64) : lN a ||| lN b = lN (a ||| b) := by
  apply wb_inj
  rw [Int64.toBitVec_or, wb_tb, wb_tb, wb_tb]
  apply BitVec.eq_of_toNat_eq
  rw [BitVec.toNat_or, BitVec.toNat_ofNat, BitVec.toNat_ofNat, BitVec.toNat_ofNat, Nat.mod_eq_of_lt ha, Nat.mod_eq_of_lt hb, Nat.mod_eq_of_lt (Nat.or_lt_two_pow ha hb)]
theorem wb_mask {n k : Nat} (hn : n < 2 ^ 64) (hk : k < 64) : lN n &&& lN (2 ^ k - 1) = lN (n % 2 ^ k) := by
  rw [wb_and hn (by have := wb_lt2 hk; omega), Nat.and_two_pow_sub_one_eq_mod]
theorem wb_a1 {n : Nat} (hn : n < 2 ^ 64) : lN n &&& 1 = lN (n % 2) := wb_mask (k := 1) hn (by decide)
theorem wb_bit {n k : Nat} (hn : n < 2 ^ 64) (hk : k < 64) : ((lN n).toUInt64 >>> ((nI k).toInt64.toUInt64 &&& Int64.toUInt64 63)).toInt64 &&& 1 = lN (n / 2 ^ k % 2) := by
  rw [wb_shr hn hk, wb_a1 (Nat.lt_of_le_of_lt (Nat.div_le_self _ _) hn)]
theorem wb_xor {q k : Nat} (hk : k < 63) (h : 2 ^ k ≤ q) (h2 : q < 2 ^ (k + 1)) : lN q ^^^ lN (2 ^ k) = lN (q - 2 ^ k) := by
  obtain ⟨r, rfl⟩ : ∃ r, q = 2 ^ k + r := ⟨q - 2 ^ k, by omega⟩
  have hr : r < 2 ^ k := by rw [Nat.pow_succ] at h2; omega
  have hx : (2 ^ k + r) ^^^ 2 ^ k = r := by
    apply Nat.eq_of_testBit_eq
    intro i
    rw [Nat.testBit_xor, Nat.testBit_two_pow]
    rcases Nat.lt_trichotomy i k with h | h | h
    · rw [Nat.testBit_two_pow_add_gt h]
      simp [show ¬ k = i by omega]
    · subst h
      rw [Nat.testBit_two_pow_add_eq]
      simp
    · have a1 : 2 ^ (k + 1) ≤ 2 ^ i := Nat.pow_le_pow_right (by decide) h
      rw [Nat.testBit_lt_two_pow (show 2 ^ k + r < 2 ^ i by omega), Nat.testBit_lt_two_pow (show r < 2 ^ i by omega)]
      simp [show ¬ k = i by omega]
  have b1 := wb_lt2 (show k + 1 < 64 by omega)
  have b2 := wb_lt2 (show k < 64 by omega)
  apply wb_inj
  rw [Int64.toBitVec_xor, wb_tb, wb_tb, wb_tb]
  apply BitVec.eq_of_toNat_eq
  rw [BitVec.toNat_xor, BitVec.toNat_ofNat, BitVec.toNat_ofNat, BitVec.toNat_ofNat, Nat.mod_eq_of_lt (by omega : 2 ^ k + r < 2 ^ 64), Nat.mod_eq_of_lt b2, hx, Nat.add_sub_cancel_left, Nat.mod_eq_of_lt (by omega)]
/-! ===== lN: masks, 'or' of parts that don't overlap is a sum ===== -/
theorem u_tn {n : Nat} (h : n < 2 ^ 64) : (UInt64.ofNat n).toNat = n := Nat.mod_eq_of_lt h
theorem g_and {a b c : Nat} (ha : a < 2 ^ 64) (hb : b < 2 ^ 64) (hc : a &&& b = c) : lN a &&& lN b = lN c := by
  subst hc
  have h : UInt64.ofNat a &&& UInt64.ofNat b = UInt64.ofNat (a &&& b) := UInt64.toNat_inj.mp (by rw [UInt64.toNat_and, u_tn ha, u_tn hb, u_tn (Nat.and_lt_two_pow a hb)])
  have h2 := congrArg UInt64.toInt64 h
  exact h2
theorem g_and1 {a : Nat} (ha : a < 2 ^ 64) : lN a &&& 1 = lN (a % 2) := g_and (b := 1) ha (by decide) (Nat.and_two_pow_sub_one_eq_mod a 1)
theorem g_mask {a s p : Nat} (hp : 2 ^ s = p) (hs : s < 64) (ha : a < 2 ^ 64) : lN a &&& lN (p - 1) = lN (a % p) := by
  subst hp
  have := Nat.pow_lt_pow_right (show 1 < 2 by decide) hs
  exact g_and ha (by omega) (Nat.and_two_pow_sub_one_eq_mod a s)
theorem g_or {k p a b : Nat} (hp : 2 ^ k = p) (ha : a < p) (h : b * p + a < 2 ^ 64) : lN (b * p) ||| lN a = lN (b * p + a) := by
  subst hp
  have h1 : b * 2 ^ k ||| a = b * 2 ^ k + a := by rw [← Nat.shiftLeft_eq, Nat.shiftLeft_add_eq_or_of_lt ha]
  have h3 : UInt64.ofNat (b * 2 ^ k) ||| UInt64.ofNat a = UInt64.ofNat (b * 2 ^ k + a) := UInt64.toNat_inj.mp (by rw [UInt64.toNat_or, u_tn (by omega), u_tn (by omega), u_tn h, h1])
  have h2 := congrArg UInt64.toInt64 h3
  exact h2
theorem g_or' {k p a b : Nat} (hp : 2 ^ k = p) (ha : a < p) (h : a + b * p < 2 ^ 64) : lN a ||| lN (b * p) = lN (a + b * p) := by
  rw [Int64.or_comm, g_or hp ha (by omega), Nat.add_comm]
theorem g_ushr {a k p : Nat} {y : UInt64} (hy : y = UInt64.ofNat k) (hk : k < 64) (hp : 2 ^ k = p) (ha : a < 2 ^ 64) : ((lN a).toUInt64 >>> y).toInt64 = lN (a / p) := by
  subst hy hp
  have h : UInt64.ofNat a >>> UInt64.ofNat k = UInt64.ofNat (a / 2 ^ k) := UInt64.toNat_inj.mp (by rw [UInt64.toNat_shiftRight, u_tn ha, u_tn (by omega), u_tn (Nat.lt_of_le_of_lt (Nat.div_le_self _ _) ha), Nat.mod_eq_of_lt hk, Nat.shiftRight_eq_div_pow])
  have h2 := congrArg UInt64.toInt64 h
  exact h2
theorem g_shl {a k p : Nat} {y : Int64} (hy : y.toBitVec.smod 64 = BitVec.ofNat 64 k) (hk : k < 64) (hp : 2 ^ k = p) (ha : a < 2 ^ 64) : lN a <<< y = lN (a * p) := by
  subst hp
  apply Int64.toBitVec_inj.mp
  rw [Int64.toBitVec_shiftLeft, hy]
  apply BitVec.eq_of_toNat_eq
  have hb : (lN a).toBitVec.toNat = a := Nat.mod_eq_of_lt ha
  have hk' : (BitVec.ofNat 64 k).toNat = k := Nat.mod_eq_of_lt (by omega)
  have h : ((lN a).toBitVec <<< BitVec.ofNat 64 k).toNat = (a * 2 ^ k) % 2 ^ 64 := by simp only [BitVec.shiftLeft_eq', BitVec.toNat_shiftLeft, hb, hk', Nat.shiftLeft_eq]
  exact h
/-! ===== lN to 2^62 under >> and >>> ===== -/
theorem pf_lI {a : Nat} (h : a < 2 ^ 63) : (lN a).toInt = (a : Int) := lg_ofNat_toInt h
theorem pf_shr {a d : Nat} {D : Int64} (hD : (D.toBitVec.smod 64).toNat = d) (h : a < 2 ^ 62) : lN a >>> D = lN (a / 2 ^ d) := by
  have hd : a / 2 ^ d ≤ a := Nat.div_le_self _ _
  apply Int64.toInt_inj.mp
  have e : (lN a >>> D).toInt = (lN a).toInt >>> d := by
    rw [← hD]
    exact BitVec.toInt_sshiftRight ..
  rw [e, Int.shiftRight_eq_div_pow, pf_lI (by omega), pf_lI (by omega)]
  rfl
theorem pf_ushr {a d : Nat} {D : UInt64} (hD : D.toNat % 64 = d) (h : a < 2 ^ 62) : ((lN a).toUInt64 >>> D).toInt64 = lN (a / 2 ^ d) := by
  have hd : a / 2 ^ d ≤ a := Nat.div_le_self _ _
  have e : (lN a).toUInt64 >>> D = UInt64.ofNat (a / 2 ^ d) := UInt64.toNat_inj.mp (by
    rw [UInt64.toNat_shiftRight, hD, Nat.shiftRight_eq_div_pow, UInt64.toNat_ofNat']
    show (UInt64.ofNat a).toNat / 2 ^ d = _
    rw [UInt64.toNat_ofNat', Nat.mod_eq_of_lt (by omega), Nat.mod_eq_of_lt (by omega)])
  rw [e]
  rfl
theorem pf_andw (x : Int64) : ∃ m, m < 2 ^ 32 ∧ x &&& 4294967295 = lN m := ⟨x.toBitVec.toNat % 2 ^ 32, Nat.mod_lt _ (by decide), Int64.toBitVec_inj.mp (BitVec.eq_of_toNat_eq (by
  show (x.toBitVec &&& 4294967295#64).toNat = (BitVec.ofNat 64 (x.toBitVec.toNat % 2 ^ 32)).toNat
  rw [BitVec.toNat_and, show (4294967295#64).toNat = 2 ^ 32 - 1 from by decide, Nat.and_two_pow_sub_one_eq_mod, BitVec.toNat_ofNat]
  omega))⟩
/-! ===== Int64 as an unsigned number: uN x ===== -/
def uN (x : Int64) : Nat := x.toUInt64.toNat
theorem uN_lt (x : Int64) : uN x < 18446744073709551616 := x.toUInt64.toNat_lt
theorem uN_inj {x y : Int64} (h : uN x = uN y) : x = y := congrArg UInt64.toInt64 (UInt64.toNat_inj.mp h)
theorem uN_add (x y : Int64) : uN (x + y) = (uN x + uN y) % 18446744073709551616 := by
  show (x.toUInt64 + y.toUInt64).toNat = _
  exact UInt64.toNat_add _ _
theorem uN_mul (x y : Int64) : uN (x * y) = (uN x * uN y) % 18446744073709551616 := by
  show (x.toUInt64 * y.toUInt64).toNat = _
  exact UInt64.toNat_mul _ _
theorem uN_shl (x : Int64) : uN (x <<< ((1 : Int32).toInt64 &&& 63)) = (2 * uN x) % 18446744073709551616 := by
  have h : (((1 : Int32).toInt64 &&& 63).toBitVec.smod 64).toNat = 1 := by decide
  show (x.toBitVec <<< (((1 : Int32).toInt64 &&& 63).toBitVec.smod 64).toNat).toNat = _
  rw [h, BitVec.toNat_shiftLeft, Nat.shiftLeft_eq, Nat.mul_comm]
  rfl
theorem uN_shr (x : Int64) (s : UInt64) : uN (x.toUInt64 >>> s).toInt64 = uN x / 2 ^ (s.toNat % 64) := by
  show (x.toUInt64 >>> s).toNat = _
  rw [UInt64.toNat_shiftRight, Nat.shiftRight_eq_div_pow]
  rfl
theorem uN_s32 (x : Int64) : uN (x.toUInt64 >>> ((32 : Int32).toInt64.toUInt64 &&& Int64.toUInt64 63)).toInt64 = uN x / 4294967296 := by
  have h : ((32 : Int32).toInt64.toUInt64 &&& Int64.toUInt64 63).toNat % 64 = 32 := by decide
  rw [uN_shr, h]
theorem uN_s63 (x : Int64) : uN (x.toUInt64 >>> ((63 : Int32).toInt64.toUInt64 &&& Int64.toUInt64 63)).toInt64 = uN x / 9223372036854775808 := by
  have h : ((63 : Int32).toInt64.toUInt64 &&& Int64.toUInt64 63).toNat % 64 = 63 := by decide
  rw [uN_shr, h]
theorem uN_lo (x : Int64) : uN (x &&& 4294967295) = uN x % 4294967296 := by
  show (x.toUInt64 &&& Int64.toUInt64 4294967295).toNat = _
  rw [UInt64.toNat_and]
  exact Nat.and_two_pow_sub_one_eq_mod _ 32
theorem uN_bit (x : Int64) : (x &&& 1) = 0 ↔ uN x % 2 = 0 := by
  have h : uN (x &&& 1) = uN x % 2 := by
    show (x.toUInt64 &&& Int64.toUInt64 1).toNat = _
    rw [UInt64.toNat_and]
    exact Nat.and_two_pow_sub_one_eq_mod _ 1
  rw [← h]
  exact ⟨fun z => by rw [z]; rfl, fun z => uN_inj (z.trans rfl)⟩
theorem uN_or {x y : Int64} (hy : uN y < 2) : uN ((x <<< ((1 : Int32).toInt64 &&& 63)) ||| y) = (2 * uN x) % 18446744073709551616 + uN y := by
  have h1 : uN ((x <<< ((1 : Int32).toInt64 &&& 63)) ||| y) = uN (x <<< ((1 : Int32).toInt64 &&& 63)) ||| uN y := UInt64.toNat_or _ _
  have h2 : (2 * uN x) % 18446744073709551616 = 2 ^ 1 * (uN x % 9223372036854775808) := by omega
  rw [h1, uN_shl, h2]
  exact (Nat.two_pow_add_eq_or_of_lt (i := 1) hy _).symm
theorem nat_xor {a : Nat} (h : a < 18446744073709551616) : a ^^^ 2 ^ 63 = (a + 9223372036854775808) % 18446744073709551616 := by
  have h1 : (a ^^^ 2 ^ 63) % 2 ^ 63 = a % 2 ^ 63 := by rw [Nat.xor_mod_two_pow, Nat.mod_self, Nat.xor_zero]
  have h2 : (a ^^^ 2 ^ 63) / 2 ^ 63 = (a / 2 ^ 63) ^^^ 1 := by rw [Nat.xor_div_two_pow, Nat.div_self (Nat.two_pow_pos 63)]
  have h3 : a / 2 ^ 63 = 0 ∨ a / 2 ^ 63 = 1 := by omega
  generalize a ^^^ 2 ^ 63 = t at h1 h2
  rcases h3 with h3 | h3
  · rw [h3] at h2
    have h2 : t / 2 ^ 63 = 1 := h2
    omega
  · rw [h3] at h2
    have h2 : t / 2 ^ 63 = 0 := h2
    omega
theorem uN_xor (x : Int64) : uN (x ^^^ (-9223372036854775808)) = (uN x + 9223372036854775808) % 18446744073709551616 := by
  rw [← nat_xor (uN_lt x)]
  exact UInt64.toNat_xor _ _
theorem uN_int (x : Int64) : x.toInt = if 2 * uN x < 18446744073709551616 then (uN x : Int) else (uN x : Int) - 18446744073709551616 := BitVec.toInt_eq_toNat_cond _
theorem uN_le (x y : Int64) : (x ^^^ (-9223372036854775808)) ≤ (y ^^^ (-9223372036854775808)) ↔ uN x ≤ uN y := by
  have hx := uN_lt x
  have hy := uN_lt y
  rw [Int64.le_iff_toInt_le, uN_int, uN_int, uN_xor, uN_xor]
  omega
theorem uN_sk (x : Int64) {k : Nat} (hk : k < 64) : uN (x.toUInt64 >>> ((nI k).toInt64.toUInt64 &&& Int64.toUInt64 63)).toInt64 = uN x / 2 ^ k := by
  have h : ((nI k).toInt64.toUInt64 &&& Int64.toUInt64 63).toNat % 64 = k := by
    rw [nI_l (by omega), UInt64.toNat_and]
    have e : (lN k).toUInt64.toNat = k % 2 ^ 64 := rfl
    have e2 : (Int64.toUInt64 63).toNat = 2 ^ 6 - 1 := by decide
    rw [e, e2, Nat.and_two_pow_sub_one_eq_mod]
    omega
  rw [uN_shr, h]
/-! ===== unsigned comparison by xor with the least ===== -/
theorem lN_bv (n : Nat) : (lN n).toBitVec = BitVec.ofNat 64 n := rfl
theorem lN_nat {n : Nat} (h : n < 2 ^ 64) : (lN n).toBitVec.toNat = n := by rw [lN_bv, BitVec.toNat_ofNat]; exact Nat.mod_eq_of_lt h
theorem lN_xor (a b : Nat) : lN a ^^^ lN b = lN (a ^^^ b) := by
  apply Int64.toBitVec_inj.mp; rw [Int64.toBitVec_xor, lN_bv, lN_bv, lN_bv]; apply BitVec.eq_of_getLsbD_eq; intro i hi; simp [BitVec.getLsbD_ofNat, Nat.testBit_xor, hi]
theorem lN_ti {m : Nat} (h : m < 2 ^ 64) : (lN m).toInt = if m < 2 ^ 63 then (m : Int) else (m : Int) - 2 ^ 64 := by
  have c := BitVec.toInt_eq_toNat_cond (lN m).toBitVec
  rw [lN_nat h] at c
  show (lN m).toBitVec.toInt = _
  rw [c]
  split <;> split <;> omega
theorem xor63 {x : Nat} (h : x < 2 ^ 63) : x ^^^ 2 ^ 63 = 2 ^ 63 + x := by
  apply Nat.eq_of_testBit_eq
  intro i
  rw [Nat.testBit_xor, Nat.testBit_two_pow]
  rcases Nat.lt_trichotomy i 63 with z | z | z
  · rw [Nat.testBit_two_pow_add_gt z, decide_eq_false (by omega)]; simp
  · subst z; rw [Nat.testBit_two_pow_add_eq]; simp
  · have hp : 2 ^ 64 ≤ 2 ^ i := Nat.pow_le_pow_right (by decide) z
    rw [Nat.testBit_lt_two_pow (show x < 2 ^ i by omega), Nat.testBit_lt_two_pow (show 2 ^ 63 + x < 2 ^ i by omega), decide_eq_false (by omega)]; rfl
theorem xorS {a : Nat} (h : a < 2 ^ 64) : (lN a ^^^ (-9223372036854775808)).toInt = (a : Int) - 2 ^ 63 := by
  rw [show (-9223372036854775808 : Int64) = lN (2 ^ 63) from by decide +kernel, lN_xor]
  rcases Nat.lt_or_ge a (2 ^ 63) with z | z
  · rw [xor63 z, lN_ti (by omega), if_neg (by omega)]; omega
  · obtain ⟨x, rfl⟩ : ∃ x, a = 2 ^ 63 + x := ⟨a - 2 ^ 63, by omega⟩
    rw [← xor63 (by omega), Nat.xor_assoc, Nat.xor_self, Nat.xor_zero, lN_ti (by omega), if_pos (by omega), xor63 (by omega)]; omega
theorem ultL {a b : Nat} (ha : a < 2 ^ 64) (hb : b < 2 ^ 64) : ((lN b ^^^ (-9223372036854775808)) ≤ (lN a ^^^ (-9223372036854775808))) ↔ b ≤ a := by
  rw [Int64.le_iff_toInt_le, xorS ha, xorS hb]; omega
/-! ===== Int64 masks of n low bits ===== -/
theorem cr_bits (W U M : BitVec 64) : ((W &&& U) &&& (U &&& (M ^^^ BitVec.allOnes 64))) = 0#64 ↔ (W &&& U) &&& M = W &&& U := by
  constructor
  · intro h
    apply BitVec.eq_of_getLsbD_eq
    intro i hi
    have e := congrArg (fun x => BitVec.getLsbD x i) h
    simp only [BitVec.getLsbD_and, BitVec.getLsbD_xor, BitVec.getLsbD_allOnes, BitVec.getLsbD_zero, hi, decide_true] at e ⊢
    revert e
    cases W.getLsbD i <;> cases U.getLsbD i <;> cases M.getLsbD i <;> decide
  · intro h
    apply BitVec.eq_of_getLsbD_eq
    intro i hi
    have e := congrArg (fun x => BitVec.getLsbD x i) h
    simp only [BitVec.getLsbD_and, BitVec.getLsbD_xor, BitVec.getLsbD_allOnes, BitVec.getLsbD_zero, hi, decide_true] at e ⊢
    revert e
    cases W.getLsbD i <;> cases U.getLsbD i <;> cases M.getLsbD i <;> decide
theorem cr_mask (w U m : Int64) (n : Nat) (hm : m.toBitVec.toNat = 2 ^ n - 1) : ((w &&& U) &&& (U &&& (m ^^^ (-1)))) = 0 ↔ (w &&& U).toBitVec.toNat < 2 ^ n := by
  have e0 : (-1 : Int64).toBitVec = BitVec.allOnes 64 := by decide
  have z0 : (0 : Int64).toBitVec = 0#64 := by decide
  rw [← Int64.toBitVec_inj, z0, Int64.toBitVec_and, Int64.toBitVec_and, Int64.toBitVec_and, Int64.toBitVec_xor, e0, cr_bits]
  generalize w.toBitVec &&& U.toBitVec = T
  rw [← BitVec.toNat_inj, BitVec.toNat_and, hm, Nat.and_two_pow_sub_one_eq_mod]
  constructor
  · intro h
    have t := Nat.mod_lt T.toNat (Nat.two_pow_pos n)
    rw [h] at t
    exact t
  · exact Nat.mod_eq_of_lt
theorem cr_shr (t : Int64) (x : UInt64) (n : Nat) (hx : x.toNat % 64 = n) : (t.toUInt64 >>> x).toInt64 = 0 ↔ t.toBitVec.toNat < 2 ^ n := by
  rw [← Int64.toBitVec_inj, ← BitVec.toNat_inj]
  show (t.toUInt64 >>> x).toNat = 0 ↔ t.toUInt64.toNat < 2 ^ n
  rw [UInt64.toNat_shiftRight, hx, Nat.shiftRight_eq_div_pow]
  constructor
  · intro h
    have d : t.toUInt64.toNat / 2 ^ n < 1 := by
      rw [h]
      decide
    have e := (Nat.div_lt_iff_lt_mul (Nat.two_pow_pos n)).mp d
    rw [Nat.one_mul] at e
    exact e
  · exact Nat.div_eq_of_lt
theorem cr_amt (s : Int64) : ∃ n, n < 64 ∧ s &&& 63 = lN n ∧ (s.toUInt64 &&& Int64.toUInt64 63).toNat % 64 = n := by
  have e : (s.toUInt64 &&& Int64.toUInt64 63).toNat = s.toUInt64.toNat % 2 ^ 6 := by
    rw [UInt64.toNat_and, show (Int64.toUInt64 63).toNat = 2 ^ 6 - 1 from by decide, Nat.and_two_pow_sub_one_eq_mod]
  refine ⟨s.toUInt64.toNat % 2 ^ 6, by omega, ?_, by omega⟩
  rw [← Int64.toBitVec_inj, ← BitVec.toNat_inj]
  show (s.toUInt64 &&& Int64.toUInt64 63).toNat = (BitVec.ofNat 64 (s.toUInt64.toNat % 2 ^ 6)).toNat
  rw [e, BitVec.toNat_ofNat]
  omega
end
section
/-! sets of seven members as masks: bits, counts, subsets -/
def tc_co (s : Nat) : Nat := (s.testBit 0).toNat + (s.testBit 1).toNat + (s.testBit 2).toNat + (s.testBit 3).toNat + (s.testBit 4).toNat + (s.testBit 5).toNat + (s.testBit 6).toNat
def tc_df (s g : Nat) : Nat := s ^^^ (s &&& g)
def tc_sb (s g : Nat) : Prop := ∀ m, s.testBit m = true → g.testBit m = true
theorem tc_dfb (s g m : Nat) : (tc_df s g).testBit m = (s.testBit m && !g.testBit m) := by
  unfold tc_df
  rw [Nat.testBit_xor, Nat.testBit_and]
  cases s.testBit m <;> cases g.testBit m <;> rfl
theorem tc_dflt {s g : Nat} (h : s < 128) : tc_df s g < 128 := Nat.xor_lt_two_pow (n := 7) h (Nat.lt_of_le_of_lt Nat.and_le_left h)
theorem tc_anlt {s g : Nat} (h : s < 128) : s &&& g < 128 := Nat.lt_of_le_of_lt Nat.and_le_left h
theorem tc_orlt {s g : Nat} (h : s < 128) (h' : g < 128) : s ||| g < 128 := Nat.or_lt_two_pow (n := 7) h h'
theorem tc_b7 {s m : Nat} (h : s < 128) (hb : s.testBit m = true) : m < 7 := by
  rcases Nat.lt_or_ge m 7 with z | z
  · exact z
  · have e : (2 : Nat) ^ 7 ≤ 2 ^ m := Nat.pow_le_pow_right (by decide) z
    rw [Nat.testBit_lt_two_pow (Nat.lt_of_lt_of_le (show s < 2 ^ 7 from h) e)] at hb
    cases hb
theorem tc_co7 (s : Nat) : tc_co s ≤ 7 := by
  have h0 := Bool.toNat_le (s.testBit 0)
  have h1 := Bool.toNat_le (s.testBit 1)
  have h2 := Bool.toNat_le (s.testBit 2)
  have h3 := Bool.toNat_le (s.testBit 3)
  have h4 := Bool.toNat_le (s.testBit 4)
  have h5 := Bool.toNat_le (s.testBit 5)
  have h6 := Bool.toNat_le (s.testBit 6)
  unfold tc_co
  omega
theorem tc_tn {a b : Bool} (h : a = true → b = true) : a.toNat ≤ b.toNat := by
  cases a <;> cases b <;> simp_all
theorem tc_com {s g : Nat} (h : tc_sb s g) : tc_co s ≤ tc_co g := by
  have h0 := tc_tn (h 0)
  have h1 := tc_tn (h 1)
  have h2 := tc_tn (h 2)
  have h3 := tc_tn (h 3)
  have h4 := tc_tn (h 4)
  have h5 := tc_tn (h 5)
  have h6 := tc_tn (h 6)
  unfold tc_co
  omega
theorem tc_m7 {m : Nat} (h : m < 7) : m = 0 ∨ m = 1 ∨ m = 2 ∨ m = 3 ∨ m = 4 ∨ m = 5 ∨ m = 6 := by omega
theorem tc_coml {s g m : Nat} (h : tc_sb s g) (hm : m < 7) (hg : g.testBit m = true) (hs : s.testBit m = false) : tc_co s < tc_co g := by
  have h0 := tc_tn (h 0)
  have h1 := tc_tn (h 1)
  have h2 := tc_tn (h 2)
  have h3 := tc_tn (h 3)
  have h4 := tc_tn (h 4)
  have h5 := tc_tn (h 5)
  have h6 := tc_tn (h 6)
  have k : (s.testBit m).toNat < (g.testBit m).toNat := by rw [hg, hs]; decide
  unfold tc_co
  rcases tc_m7 hm with rfl | rfl | rfl | rfl | rfl | rfl | rfl <;> omega
theorem tc_ext {s g : Nat} (h : tc_sb s g) (h' : tc_sb g s) : s = g := Nat.eq_of_testBit_eq (fun m => Bool.eq_iff_iff.mpr ⟨h m, h' m⟩)
theorem tc_eqc {s g : Nat} (hg : g < 128) (h : tc_sb s g) (hc : tc_co g ≤ tc_co s) : s = g := by
  refine tc_ext h (fun m hm => ?_)
  cases e : s.testBit m with
  | true => rfl
  | false => exact absurd (tc_coml h (tc_b7 hg hm) hm e) (by omega)
theorem tc_lts {s g : Nat} (hg : g < 128) (h : tc_sb s g) (hn : s ≠ g) : tc_co s < tc_co g := by
  rcases Nat.lt_or_ge (tc_co s) (tc_co g) with z | z
  · exact z
  · exact absurd (tc_eqc hg h z) hn
theorem tc_bsp (a b : Bool) : a.toNat = (a && b).toNat + (a && !b).toNat := by cases a <;> cases b <;> rfl
theorem tc_spl (s g : Nat) : tc_co s = tc_co (s &&& g) + tc_co (tc_df s g) := by
  have h0 := tc_bsp (s.testBit 0) (g.testBit 0)
  have h1 := tc_bsp (s.testBit 1) (g.testBit 1)
  have h2 := tc_bsp (s.testBit 2) (g.testBit 2)
  have h3 := tc_bsp (s.testBit 3) (g.testBit 3)
  have h4 := tc_bsp (s.testBit 4) (g.testBit 4)
  have h5 := tc_bsp (s.testBit 5) (g.testBit 5)
  have h6 := tc_bsp (s.testBit 6) (g.testBit 6)
  unfold tc_co
  simp only [Nat.testBit_and, tc_dfb]
  omega
theorem tc_uni {s g : Nat} (h : ∀ m, s.testBit m = true → g.testBit m = true → False) : tc_co (s ||| g) = tc_co s + tc_co g := by
  have k : ∀ m, ((s ||| g).testBit m).toNat = (s.testBit m).toNat + (g.testBit m).toNat := by
    intro m
    rw [Nat.testBit_or]
    have q := h m
    revert q
    cases s.testBit m <;> cases g.testBit m <;> simp
  unfold tc_co
  rw [k 0, k 1, k 2, k 3, k 4, k 5, k 6]
  omega
theorem tc_nb {b : Bool} (h : b = true → False) : b = false := by
  cases b
  · rfl
  · exact absurd rfl h
theorem tc_co0 {s : Nat} (h : ∀ m, s.testBit m = true → False) : tc_co s = 0 := by
  unfold tc_co
  rw [tc_nb (h 0), tc_nb (h 1), tc_nb (h 2), tc_nb (h 3), tc_nb (h 4), tc_nb (h 5), tc_nb (h 6)]
  rfl
theorem tc_cop {s m : Nat} (hm : m < 7) (h : s.testBit m = true) : 1 ≤ tc_co s := by
  have k : (s.testBit m).toNat = 1 := by rw [h]; rfl
  unfold tc_co
  rcases tc_m7 hm with rfl | rfl | rfl | rfl | rfl | rfl | rfl <;> omega
theorem tc_ex {s : Nat} (h : 1 ≤ tc_co s) : ∃ m, s.testBit m = true := by
  refine Classical.byContradiction (fun q => ?_)
  have := tc_co0 (s := s) (fun m hm => q ⟨m, hm⟩)
  omega
theorem tc_cp : ∀ a, a < 7 → tc_co (2 ^ a) = 1 := by decide +kernel
theorem tc_one : ∀ g, g < 128 → tc_co g = 1 → Nat.log2 g < 7 ∧ g = 2 ^ Nat.log2 g := by decide +kernel
theorem tc_pb {a m : Nat} (h : (2 ^ a).testBit m = true) : m = a := by
  rw [Nat.testBit_two_pow, decide_eq_true_eq] at h
  exact h.symm
theorem tc_pa (a : Nat) : (2 ^ a).testBit a = true := Nat.testBit_two_pow_self
theorem tc_psb {a g : Nat} (h : g.testBit a = true) : tc_sb (2 ^ a) g := fun m hm => by rw [tc_pb hm]; exact h
theorem tc_and0 {g h : Nat} : g &&& h = 0 ↔ ∀ m, g.testBit m = true → h.testBit m = true → False := by
  constructor
  · intro e m a b
    have q : (g &&& h).testBit m = true := by rw [Nat.testBit_and, a, b]; rfl
    rw [e, Nat.zero_testBit] at q
    cases q
  · intro k
    refine Nat.eq_of_testBit_eq (fun m => ?_)
    rw [Nat.testBit_and, Nat.zero_testBit]
    have q := k m
    revert q
    cases g.testBit m <;> cases h.testBit m <;> simp
theorem tc_andl {g h : Nat} : g &&& h = g ↔ tc_sb g h := by
  constructor
  · intro e m a
    rw [← e, Nat.testBit_and] at a
    revert a
    cases g.testBit m <;> cases h.testBit m <;> simp
  · intro k
    refine Nat.eq_of_testBit_eq (fun m => ?_)
    rw [Nat.testBit_and]
    have q := k m
    revert q
    cases g.testBit m <;> cases h.testBit m <;> simp
theorem tc_andr {g h : Nat} : g &&& h = h ↔ tc_sb h g := by rw [Nat.and_comm]; exact tc_andl
theorem tc_df0 {s g : Nat} : tc_df s g = 0 ↔ tc_sb s g := by
  constructor
  · intro e m a
    have q := tc_dfb s g m
    rw [e, Nat.zero_testBit, a] at q
    revert q
    cases g.testBit m <;> simp
  · intro k
    refine Nat.eq_of_testBit_eq (fun m => ?_)
    rw [tc_dfb, Nat.zero_testBit]
    have q := k m
    revert q
    cases s.testBit m <;> cases g.testBit m <;> simp
theorem tc_ba {s g m : Nat} : (s &&& g).testBit m = true ↔ s.testBit m = true ∧ g.testBit m = true := by rw [Nat.testBit_and, Bool.and_eq_true]
theorem tc_bo {s g m : Nat} : (s ||| g).testBit m = true ↔ s.testBit m = true ∨ g.testBit m = true := by rw [Nat.testBit_or, Bool.or_eq_true]
theorem tc_bd {s g m : Nat} : (tc_df s g).testBit m = true ↔ s.testBit m = true ∧ ¬ g.testBit m = true := by
  rw [tc_dfb]
  cases s.testBit m <;> cases g.testBit m <;> simp
theorem tc_mx {P : Nat → Prop} (h : ∃ x, P x) : ∃ x, P x ∧ ∀ y, P y → tc_co y ≤ tc_co x := by
  have key : ∀ n x, P x → 7 - tc_co x ≤ n → ∃ x, P x ∧ ∀ y, P y → tc_co y ≤ tc_co x := by
    intro n
    induction n with
    | zero => exact fun x hx hn => ⟨x, hx, fun y _ => by have := tc_co7 y; omega⟩
    | succ n ih =>
      intro x hx hn
      rcases Classical.em (∃ y, P y ∧ tc_co x < tc_co y) with q | q
      · obtain ⟨y, hy, hl⟩ := q
        exact ih y hy (by have := tc_co7 y; omega)
      · exact ⟨x, hx, fun y hy => Nat.le_of_not_lt (fun z => q ⟨y, hy, z⟩)⟩
  obtain ⟨x, hx⟩ := h
  exact key 7 x hx (by omega)
/-! the largest count among the sets of a kind -/
def tc_Mx (P : Nat → Prop) (v : Nat) : Prop := (∃ s, P s ∧ tc_co s = v) ∧ ∀ s, P s → tc_co s ≤ v
theorem tc_Mx1 {P : Nat → Prop} {v w : Nat} (h : tc_Mx P v) (h' : tc_Mx P w) : v = w := by
  obtain ⟨⟨s, hs, es⟩, hv⟩ := h
  obtain ⟨⟨t, ht, et⟩, hw⟩ := h'
  have := hv t ht
  have := hw s hs
  omega
noncomputable def tc_mv (P : Nat → Prop) : Nat := Classical.epsilon (tc_Mx P)
theorem tc_mvs {P : Nat → Prop} (h : ∃ s, P s) : tc_Mx P (tc_mv P) := by
  refine Classical.epsilon_spec ?_
  obtain ⟨x, hx, hm⟩ := tc_mx h
  exact ⟨tc_co x, ⟨x, hx, rfl⟩, hm⟩
theorem tc_mve {P : Nat → Prop} {v : Nat} (h : tc_Mx P v) : tc_mv P = v := by
  have h1 := h
  obtain ⟨⟨s, hs, _⟩, _⟩ := h1
  exact tc_Mx1 (tc_mvs ⟨s, hs⟩) h
theorem tc_mv7 {P : Nat → Prop} (h : ∃ s, P s) : tc_mv P ≤ 7 := by
  obtain ⟨⟨s, hs, e⟩, _⟩ := tc_mvs h
  have := tc_co7 s
  omega
end
section
/-! families of groups of which no two cross; the parts of a group; what a tree says of three members -/
def tc_lm (g h : Nat) : Prop := (∀ m, g.testBit m = true → h.testBit m = true → False) ∨ tc_sb g h ∨ tc_sb h g
def tc_Fm (H : Nat → Prop) : Prop := (∀ g, H g → g < 128) ∧ H 127 ∧ (∀ m, m < 7 → H (2 ^ m)) ∧ ∀ g h, H g → H h → tc_lm g h
def tc_cl (H : Nat → Prop) (a b c : Nat) : Prop := ∃ x, H x ∧ x.testBit a = true ∧ x.testBit b = true ∧ ¬ x.testBit c = true
def tc_pt (H : Nat → Prop) (g p : Nat) : Prop := H p ∧ p ≠ g ∧ tc_sb p g ∧ ∀ x, H x → x ≠ g → x ≠ p → tc_sb p x → tc_sb x g → False
def tc_sp (H : Nat → Prop) (g a b : Nat) : Prop := ∃ p, tc_pt H g p ∧ p.testBit a = true ∧ p.testBit b = true
theorem tc_lmm {g h a : Nat} (l : tc_lm g h) (hg : g.testBit a = true) (hh : h.testBit a = true) : tc_sb g h ∨ tc_sb h g := by
  rcases l with l | l
  · exact absurd (l a hg hh) id
  · exact l
/-- every member of a group of two or more is in a part -/
theorem tc_p1 {H : Nat → Prop} (F : tc_Fm H) {g a : Nat} (hg : H g) (h2 : 2 ≤ tc_co g) (ha : g.testBit a = true) : ∃ p, tc_pt H g p ∧ p.testBit a = true := by
  have h7 : a < 7 := tc_b7 (F.1 g hg) ha
  obtain ⟨x, ⟨hx, xg, xs, xa⟩, hm⟩ := tc_mx (P := fun x => H x ∧ x ≠ g ∧ tc_sb x g ∧ x.testBit a = true) ⟨2 ^ a, F.2.2.1 a h7, fun e => by have := tc_cp a h7; rw [e] at this; omega, tc_psb ha, tc_pa a⟩
  refine ⟨x, ⟨hx, xg, xs, fun y hy yg yx sxy syg => ?_⟩, xa⟩
  have := hm y ⟨hy, yg, syg, sxy a xa⟩
  have := tc_lts (F.1 y hy) sxy (fun e => yx e.symm)
  omega
/-- only one -/
theorem tc_p2 {H : Nat → Prop} (F : tc_Fm H) {g p q a : Nat} (hp : tc_pt H g p) (hq : tc_pt H g q) (pa : p.testBit a = true) (qa : q.testBit a = true) : p = q := by
  refine Classical.byContradiction (fun n => ?_)
  rcases tc_lmm (F.2.2.2 p q hp.1 hq.1) pa qa with s | s
  · exact hp.2.2.2 q hq.1 hq.2.1 (fun e => n e.symm) s hq.2.2.1
  · exact hq.2.2.2 p hp.1 hp.2.1 n s hp.2.2.1
theorem tc_p3 {H : Nat → Prop} (F : tc_Fm H) {g p x a : Nat} (hp : tc_pt H g p) (hx : H x) (xg : x ≠ g) (xs : tc_sb x g) (pa : p.testBit a = true) (xa : x.testBit a = true) : tc_sb x p := by
  rcases tc_lmm (F.2.2.2 p x hp.1 hx) pa xa with s | s
  · rcases Classical.em (x = p) with e | n
    · rw [e]; exact fun _ z => z
    · exact absurd (hp.2.2.2 x hx xg n s xs) id
  · exact s
/-- a group that parts c from a and b, all three in g, puts a and b into one part of g -/
theorem tc_p5 {H : Nat → Prop} (F : tc_Fm H) {g a b c : Nat} (hg : H g) (h2 : 2 ≤ tc_co g) (ga : g.testBit a = true) (gc : g.testBit c = true) (h : tc_cl H a b c) : tc_sp H g a b := by
  obtain ⟨x, hx, xa, xb, xc⟩ := h
  obtain ⟨p, hp, pa⟩ := tc_p1 F hg h2 ga
  have xs : tc_sb x g := by
    rcases tc_lmm (F.2.2.2 x g hx hg) xa ga with s | s
    · exact s
    · exact absurd (s c gc) xc
  exact ⟨p, hp, pa, tc_p3 F hp hx (fun e => xc (by rw [e]; exact gc)) xs pa xa b xb⟩
theorem tc_p6 {H : Nat → Prop} {g a b c : Nat} (h : tc_sp H g a b) (n : ¬ tc_sp H g a c) : tc_cl H a b c := by
  obtain ⟨p, hp, pa, pb⟩ := h
  exact ⟨p, hp.1, pa, pb, fun pc => n ⟨p, hp, pa, pc⟩⟩
section
variable {H K : Nat → Prop}
/-- the two trees say the same of every three members of a set -/
def tc_ag (H K : Nat → Prop) (S : Nat) : Prop := ∀ a b c, S.testBit a = true → S.testBit b = true → S.testBit c = true → (tc_cl H a b c ↔ tc_cl K a b c)
/-- and its members are together in the parts of g as in those of h -/
def tc_Gd (H K : Nat → Prop) (g h S : Nat) : Prop := tc_ag H K S ∧ tc_sb S g ∧ tc_sb S h ∧ ∀ a b, S.testBit a = true → S.testBit b = true → (tc_sp H g a b ↔ tc_sp K h a b)
theorem tc_agm {S T : Nat} (h : tc_ag H K S) (s : tc_sb T S) : tc_ag H K T := fun a b c ha hb hc => h a b c (s a ha) (s b hb) (s c hc)
theorem tc_Gdm {g h S T : Nat} (G : tc_Gd H K g h S) (s : tc_sb T S) : tc_Gd H K g h T := ⟨tc_agm G.1 s, fun m hm => G.2.1 m (s m hm), fun m hm => G.2.2.1 m (s m hm), fun a b ha hb => G.2.2.2 a b (s a ha) (s b hb)⟩
theorem tc_nsb {S p : Nat} (h : ¬ tc_sb S p) : ∃ c, S.testBit c = true ∧ ¬ p.testBit c = true := by
  refine Classical.byContradiction (fun q => h (fun m hm => ?_))
  exact Classical.byContradiction (fun z => q ⟨m, hm, z⟩)
/-- an agreeing set below g and h lies below a part of one, or is parted alike by both -/
theorem tc_U (F : tc_Fm H) (E : tc_Fm K) {g h S : Nat} (hg : H g) (hh : K h) (g2 : 2 ≤ tc_co g) (h2 : 2 ≤ tc_co h) (A : tc_ag H K S) (sg : tc_sb S g) (sh : tc_sb S h) :
    (∃ p, tc_pt H g p ∧ tc_sb S p) ∨ (∃ q, tc_pt K h q ∧ tc_sb S q) ∨ tc_Gd H K g h S := by
  rcases Classical.em (∃ p, tc_pt H g p ∧ tc_sb S p) with q | n
  · exact Or.inl q
  rcases Classical.em (∃ q, tc_pt K h q ∧ tc_sb S q) with q | n'
  · exact Or.inr (Or.inl q)
  refine Or.inr (Or.inr ⟨A, sg, sh, fun a b ha hb => ⟨?_, ?_⟩⟩)
  · rintro ⟨p, hp, pa, pb⟩
    obtain ⟨c, hc, pc⟩ := tc_nsb (fun z => n ⟨p, hp, z⟩)
    exact tc_p5 E hh h2 (sh a ha) (sh c hc) ((A a b c ha hb hc).mp ⟨p, hp.1, pa, pb, pc⟩)
  · rintro ⟨p, hp, pa, pb⟩
    obtain ⟨c, hc, pc⟩ := tc_nsb (fun z => n' ⟨p, hp, z⟩)
    exact tc_p5 F hg g2 (sg a ha) (sg c hc) ((A a b c ha hb hc).mpr ⟨p, hp.1, pa, pb, pc⟩)
/-- for members of two sides that no part joins -/
theorem tc_mix (F : tc_Fm H) (E : tc_Fm K) {g h a b c : Nat} (hg : H g) (hh : K h) (g2 : 2 ≤ tc_co g) (h2 : 2 ≤ tc_co h) (ga : g.testBit a = true) (gc : g.testBit c = true) (ha : h.testBit a = true) (hc : h.testBit c = true)
    (e : tc_sp H g a b ↔ tc_sp K h a b) (n : tc_sp H g a b → ¬ tc_sp H g a c) (n' : tc_sp K h a b → ¬ tc_sp K h a c) : tc_cl H a b c ↔ tc_cl K a b c := by
  constructor
  · intro q
    have s := e.mp (tc_p5 F hg g2 ga gc q)
    exact tc_p6 s (n' s)
  · intro q
    have s := e.mpr (tc_p5 E hh h2 ha hc q)
    exact tc_p6 s (n s)
theorem tc_nsp (F : tc_Fm H) {g p a b : Nat} (hp : tc_pt H g p) (pa : p.testBit a = true) (nb : ¬ p.testBit b = true) : ¬ tc_sp H g a b := by
  rintro ⟨q, hq, qa, qb⟩
  rw [tc_p2 F hp hq pa qa] at nb
  exact nb qb
theorem tc_nsp' (F : tc_Fm H) {g p a b : Nat} (hp : tc_pt H g p) (pb : p.testBit b = true) (na : ¬ p.testBit a = true) : ¬ tc_sp H g a b := by
  rintro ⟨q, hq, qa, qb⟩
  rw [tc_p2 F hp hq pb qb] at na
  exact na qa
/-- one more part of each side joins a set that has nothing of them -/
theorem tc_L2 (F : tc_Fm H) (E : tc_Fm K) {g h S T p q : Nat} (hg : H g) (hh : K h) (g2 : 2 ≤ tc_co g) (h2 : 2 ≤ tc_co h) (G : tc_Gd H K g h S) (A : tc_ag H K T) (tp : tc_sb T p) (tq : tc_sb T q)
    (hp : tc_pt H g p) (hq : tc_pt K h q) (dp : ∀ m, S.testBit m = true → ¬ p.testBit m = true) (dq : ∀ m, S.testBit m = true → ¬ q.testBit m = true) : tc_Gd H K g h (S ||| T) := by
  have ug : tc_sb (S ||| T) g := fun m hm => by
    rcases tc_bo.mp hm with z | z
    · exact G.2.1 m z
    · exact hp.2.2.1 m (tp m z)
  have uh : tc_sb (S ||| T) h := fun m hm => by
    rcases tc_bo.mp hm with z | z
    · exact G.2.2.1 m z
    · exact hq.2.2.1 m (tq m z)
  have e : ∀ a b, (S ||| T).testBit a = true → (S ||| T).testBit b = true → (tc_sp H g a b ↔ tc_sp K h a b) := by
    intro a b ha hb
    rcases tc_bo.mp ha with sa | ta <;> rcases tc_bo.mp hb with sb | tb
    · exact G.2.2.2 a b sa sb
    · exact ⟨fun z => absurd z (tc_nsp' F hp (tp b tb) (dp a sa)), fun z => absurd z (tc_nsp' E hq (tq b tb) (dq a sa))⟩
    · exact ⟨fun z => absurd z (tc_nsp F hp (tp a ta) (dp b sb)), fun z => absurd z (tc_nsp E hq (tq a ta) (dq b sb))⟩
    · exact ⟨fun _ => ⟨q, hq, tq a ta, tq b tb⟩, fun _ => ⟨p, hp, tp a ta, tp b tb⟩⟩
  refine ⟨fun a b c ha hb hc => ?_, ug, uh, e⟩
  have mx := fun n n' => tc_mix F E hg hh g2 h2 (ug a ha) (ug c hc) (uh a ha) (uh c hc) (e a b ha hb) n n'
  rcases tc_bo.mp ha with sa | ta <;> rcases tc_bo.mp hb with sb | tb <;> rcases tc_bo.mp hc with sc | tc
  · exact G.1 a b c sa sb sc
  · exact mx (fun _ => tc_nsp' F hp (tp c tc) (dp a sa)) (fun _ => tc_nsp' E hq (tq c tc) (dq a sa))
  · exact mx (fun z => absurd z (tc_nsp' F hp (tp b tb) (dp a sa))) (fun z => absurd z (tc_nsp' E hq (tq b tb) (dq a sa)))
  · exact mx (fun z => absurd z (tc_nsp' F hp (tp b tb) (dp a sa))) (fun z => absurd z (tc_nsp' E hq (tq b tb) (dq a sa)))
  · exact mx (fun z => absurd z (tc_nsp F hp (tp a ta) (dp b sb))) (fun z => absurd z (tc_nsp E hq (tq a ta) (dq b sb)))
  · exact mx (fun z => absurd z (tc_nsp F hp (tp a ta) (dp b sb))) (fun z => absurd z (tc_nsp E hq (tq a ta) (dq b sb)))
  · exact mx (fun _ => tc_nsp F hp (tp a ta) (dp c sc)) (fun _ => tc_nsp E hq (tq a ta) (dq c sc))
  · exact A a b c ta tb tc
theorem tc_L4 (F : tc_Fm H) (E : tc_Fm K) {g h S p q a : Nat} (G : tc_Gd H K g h S) (hp : tc_pt H g p) (hq : tc_pt K h q) (sa : S.testBit a = true) (pa : p.testBit a = true) (qa : q.testBit a = true) {b : Nat} (sb : S.testBit b = true) : p.testBit b = true ↔ q.testBit b = true := by
  constructor
  · intro pb
    obtain ⟨x, hx, xa, xb⟩ := (G.2.2.2 a b sa sb).mp ⟨p, hp, pa, pb⟩
    rw [tc_p2 E hq hx qa xa]
    exact xb
  · intro qb
    obtain ⟨x, hx, xa, xb⟩ := (G.2.2.2 a b sa sb).mpr ⟨q, hq, qa, qb⟩
    rw [tc_p2 F hp hx pa xa]
    exact xb
/-! the largest agreement below two groups -/
def tc_PA (H K : Nat → Prop) (g h S : Nat) : Prop := S < 128 ∧ tc_ag H K S ∧ tc_sb S g ∧ tc_sb S h
noncomputable def tc_ma (H K : Nat → Prop) (g h : Nat) : Nat := tc_mv (tc_PA H K g h)
theorem tc_0b {m : Nat} (h : (0 : Nat).testBit m = true) : False := by
  rw [Nat.zero_testBit] at h
  cases h
theorem tc_PA0 (g h : Nat) : tc_PA H K g h 0 := ⟨by decide, fun _ _ _ z => absurd z tc_0b, fun _ z => absurd z tc_0b, fun _ z => absurd z tc_0b⟩
theorem tc_mas (g h : Nat) : tc_Mx (tc_PA H K g h) (tc_ma H K g h) := tc_mvs ⟨0, tc_PA0 g h⟩
theorem tc_ma7 (g h : Nat) : tc_ma H K g h ≤ 7 := tc_mv7 ⟨0, tc_PA0 g h⟩
theorem tc_mamg {g g' h : Nat} (s : tc_sb g' g) : tc_ma H K g' h ≤ tc_ma H K g h := by
  obtain ⟨⟨S, ⟨a, b, c, d⟩, e⟩, _⟩ := tc_mas (H := H) (K := K) g' h
  rw [← e]
  exact (tc_mas g h).2 S ⟨a, b, fun m hm => s m (c m hm), d⟩
theorem tc_mamh {g h h' : Nat} (s : tc_sb h' h) : tc_ma H K g h' ≤ tc_ma H K g h := by
  obtain ⟨⟨S, ⟨a, b, c, d⟩, e⟩, _⟩ := tc_mas (H := H) (K := K) g h'
  rw [← e]
  exact (tc_mas g h).2 S ⟨a, b, c, fun m hm => s m (d m hm)⟩
/-- a group with one member -/
theorem tc_ag1 {S a : Nat} (h : ∀ m, S.testBit m = true → m = a) : tc_ag H K S := by
  intro x y z hx hy hz
  rw [h x hx, h y hy, h z hz]
  exact ⟨fun ⟨_, _, p, _, q⟩ => absurd p q, fun ⟨_, _, p, _, q⟩ => absurd p q⟩
theorem tc_ma1 {g h : Nat} (hg : g < 128) (a : Nat) (o : ∀ m, (g &&& h).testBit m = true → m = a) : tc_ma H K g h = tc_co (g &&& h) := by
  refine tc_mve ⟨⟨g &&& h, ⟨tc_anlt hg, tc_ag1 o, fun m hm => (tc_ba.mp hm).1, fun m hm => (tc_ba.mp hm).2⟩, rfl⟩, fun S P => ?_⟩
  exact tc_com (fun m hm => tc_ba.mpr ⟨P.2.2.1 m hm, P.2.2.2 m hm⟩)
end
end
section
/-! the matching of parts, part by part of g, over sets of parts of h -/
def tc_im (M : Nat → Nat) (s : Nat) : List Nat → Nat → Nat → Nat
  | [], _, v => v
  | w :: W, r, v => tc_im M s W (r + 1) (if s.testBit r = true then (if M (tc_df s (2 ^ r)) + w ≤ v then v else M (tc_df s (2 ^ r)) + w) else v)
theorem tc_imge (M : Nat → Nat) (s : Nat) : ∀ (W : List Nat) (r v : Nat), v ≤ tc_im M s W r v
  | [], _, v => Nat.le_refl v
  | w :: W, r, v => by
    rw [tc_im]
    refine Nat.le_trans ?_ (tc_imge M s W (r + 1) _)
    split
    · split <;> omega
    · omega
theorem tc_imle (M : Nat → Nat) (s : Nat) : ∀ (W : List Nat) (r v k : Nat), k < W.length → s.testBit (r + k) = true → M (tc_df s (2 ^ (r + k))) + W.getD k 0 ≤ tc_im M s W r v
  | [], _, _, k, hk, _ => absurd hk (Nat.not_lt_zero k)
  | w :: W, r, v, 0, _, hb => by
    rw [tc_im, Nat.add_zero, List.getD_cons_zero]
    rw [Nat.add_zero] at hb
    refine Nat.le_trans ?_ (tc_imge M s W (r + 1) _)
    rw [if_pos hb]
    split <;> omega
  | w :: W, r, v, k + 1, hk, hb => by
    rw [tc_im, List.getD_cons_succ]
    have e : r + (k + 1) = r + 1 + k := by omega
    rw [e] at hb ⊢
    exact tc_imle M s W (r + 1) _ k (Nat.lt_of_succ_lt_succ hk) hb
theorem tc_imor (M : Nat → Nat) (s : Nat) : ∀ (W : List Nat) (r v : Nat), tc_im M s W r v = v ∨ ∃ k, k < W.length ∧ s.testBit (r + k) = true ∧ tc_im M s W r v = M (tc_df s (2 ^ (r + k))) + W.getD k 0
  | [], _, v => Or.inl rfl
  | w :: W, r, v => by
    rw [tc_im]
    rcases tc_imor M s W (r + 1) (if s.testBit r = true then (if M (tc_df s (2 ^ r)) + w ≤ v then v else M (tc_df s (2 ^ r)) + w) else v) with h | ⟨k, hk, hb, e⟩
    · rw [h]
      by_cases z : s.testBit r = true
      · rw [if_pos z]
        by_cases y : M (tc_df s (2 ^ r)) + w ≤ v
        · rw [if_pos y]; exact Or.inl rfl
        · rw [if_neg y]
          exact Or.inr ⟨0, Nat.succ_pos _, z, rfl⟩
      · rw [if_neg z]; exact Or.inl rfl
    · refine Or.inr ⟨k + 1, Nat.succ_lt_succ hk, ?_, ?_⟩
      · rw [show r + (k + 1) = r + 1 + k by omega]; exact hb
      · rw [e, show r + (k + 1) = r + 1 + k by omega, List.getD_cons_succ]
section
variable {H K : Nat → Prop}
def tc_PG (H K : Nat → Prop) (N : Nat → Nat) (g h : Nat) (Q : List Nat) (i s S : Nat) : Prop :=
  S < 128 ∧ tc_Gd H K g h S ∧ (∀ a, S.testBit a = true → ∃ i', i' < i ∧ tc_pt H g (N i') ∧ (N i').testBit a = true) ∧ ∀ a, S.testBit a = true → ∃ r, r < Q.length ∧ s.testBit r = true ∧ (Q.getD r 0).testBit a = true
noncomputable def tc_mg (H K : Nat → Prop) (N : Nat → Nat) (g h : Nat) (Q : List Nat) (i s : Nat) : Nat := tc_mv (tc_PG H K N g h Q i s)
variable {N : Nat → Nat} {g h : Nat} {Q : List Nat}
theorem tc_PG0 (i s : Nat) : tc_PG H K N g h Q i s 0 := ⟨by decide, ⟨fun _ _ _ z => absurd z tc_0b, fun _ z => absurd z tc_0b, fun _ z => absurd z tc_0b, fun _ _ z => absurd z tc_0b⟩, fun _ z => absurd z tc_0b, fun _ z => absurd z tc_0b⟩
theorem tc_mgs (i s : Nat) : tc_Mx (tc_PG H K N g h Q i s) (tc_mg H K N g h Q i s) := tc_mvs ⟨0, tc_PG0 i s⟩
theorem tc_mg7 (i s : Nat) : tc_mg H K N g h Q i s ≤ 7 := tc_mv7 ⟨0, tc_PG0 i s⟩
theorem tc_mg0 (s : Nat) : tc_mg H K N g h Q 0 s = 0 := by
  refine tc_mve ⟨⟨0, tc_PG0 0 s, rfl⟩, fun S P => ?_⟩
  rw [tc_co0 (fun m hm => ?_)]
  · exact Nat.le_refl 0
  · obtain ⟨i, hi, _⟩ := P.2.2.1 m hm
    omega
theorem tc_mgn {i s : Nat} (n : ¬ tc_pt H g (N i)) : tc_mg H K N g h Q (i + 1) s = tc_mg H K N g h Q i s := by
  have e : tc_PG H K N g h Q (i + 1) s = tc_PG H K N g h Q i s := by
    funext S
    refine propext ⟨fun P => ⟨P.1, P.2.1, fun a ha => ?_, P.2.2.2⟩, fun P => ⟨P.1, P.2.1, fun a ha => ?_, P.2.2.2⟩⟩
    · obtain ⟨j, hj, hp, hb⟩ := P.2.2.1 a ha
      rcases Nat.lt_or_ge j i with z | z
      · exact ⟨j, z, hp, hb⟩
      · rw [show j = i by omega] at hp
        exact absurd hp n
    · obtain ⟨j, hj, hp, hb⟩ := P.2.2.1 a ha
      exact ⟨j, by omega, hp, hb⟩
  unfold tc_mg
  rw [e]
theorem tc_stp (F : tc_Fm H) (E : tc_Fm K) (hg : H g) (hh : K h) (g2 : 2 ≤ tc_co g) (h2 : 2 ≤ tc_co h) {i s v : Nat} (inj : ∀ j, j < i → N j ≠ N i) (hp : tc_pt H g (N i))
    (hQ : ∀ r, r < Q.length → tc_pt K h (Q.getD r 0)) (hQn : ∀ r r', r < Q.length → r' < Q.length → Q.getD r 0 = Q.getD r' 0 → r = r')
    (hv : v = tc_mg H K N g h Q i s ∨ ∃ r, r < Q.length ∧ s.testBit r = true ∧ v = tc_mg H K N g h Q i (tc_df s (2 ^ r)) + tc_ma H K (N i) (Q.getD r 0))
    (v1 : tc_mg H K N g h Q i s ≤ v) (v2 : ∀ r, r < Q.length → s.testBit r = true → tc_mg H K N g h Q i (tc_df s (2 ^ r)) + tc_ma H K (N i) (Q.getD r 0) ≤ v) : tc_mg H K N g h Q (i + 1) s = v := by
  refine tc_mve ⟨?_, fun S P => ?_⟩
  · rcases hv with e | ⟨r, hr, sr, e⟩
    · obtain ⟨⟨S, P, c⟩, _⟩ := tc_mgs (H := H) (K := K) (N := N) (g := g) (h := h) (Q := Q) i s
      refine ⟨S, ⟨P.1, P.2.1, fun a ha => ?_, P.2.2.2⟩, c.trans e.symm⟩
      obtain ⟨j, hj, q⟩ := P.2.2.1 a ha
      exact ⟨j, by omega, q⟩
    · obtain ⟨⟨S, P, c⟩, _⟩ := tc_mgs (H := H) (K := K) (N := N) (g := g) (h := h) (Q := Q) i (tc_df s (2 ^ r))
      obtain ⟨⟨T, P', c'⟩, _⟩ := tc_mas (H := H) (K := K) (N i) (Q.getD r 0)
      have dp : ∀ m, S.testBit m = true → ¬ (N i).testBit m = true := by
        intro m hm z
        obtain ⟨j, hj, q, b⟩ := P.2.2.1 m hm
        exact inj j hj (tc_p2 F q hp b z)
      have dq : ∀ m, S.testBit m = true → ¬ (Q.getD r 0).testBit m = true := by
        intro m hm z
        obtain ⟨r', hr', sr', b⟩ := P.2.2.2 m hm
        have er := hQn r' r hr' hr (tc_p2 E (hQ r' hr') (hQ r hr) b z)
        rw [er] at sr'
        exact (tc_bd.mp sr').2 (tc_pa r)
      refine ⟨S ||| T, ⟨tc_orlt P.1 P'.1, tc_L2 F E hg hh g2 h2 P.2.1 P'.2.1 P'.2.2.1 P'.2.2.2 hp (hQ r hr) dp dq, fun a ha => ?_, fun a ha => ?_⟩, ?_⟩
      · rcases tc_bo.mp ha with z | z
        · obtain ⟨j, hj, q⟩ := P.2.2.1 a z
          exact ⟨j, by omega, q⟩
        · exact ⟨i, Nat.lt_succ_self i, hp, P'.2.2.1 a z⟩
      · rcases tc_bo.mp ha with z | z
        · obtain ⟨r', hr', sr', b⟩ := P.2.2.2 a z
          exact ⟨r', hr', (tc_bd.mp sr').1, b⟩
        · exact ⟨r, hr, sr, P'.2.2.2 a z⟩
      · rw [tc_uni (fun m hm z => dp m hm (P'.2.2.1 m z)), c, c', e]
  · rcases Classical.em (∃ a, S.testBit a = true ∧ (N i).testBit a = true) with ⟨a, sa, na⟩ | n
    · obtain ⟨r, hr, sr, ra⟩ := P.2.2.2 a sa
      have l4 := fun {b : Nat} (sb : S.testBit b = true) => tc_L4 F E P.2.1 hp (hQ r hr) sa na ra sb
      have c1 : tc_co (S &&& N i) ≤ tc_ma H K (N i) (Q.getD r 0) := by
        refine (tc_mas (N i) (Q.getD r 0)).2 _ ⟨tc_anlt P.1, tc_agm P.2.1.1 (fun m hm => (tc_ba.mp hm).1), fun m hm => (tc_ba.mp hm).2, fun m hm => ?_⟩
        exact (l4 (tc_ba.mp hm).1).mp (tc_ba.mp hm).2
      have c2 : tc_co (tc_df S (N i)) ≤ tc_mg H K N g h Q i (tc_df s (2 ^ r)) := by
        refine (tc_mgs i (tc_df s (2 ^ r))).2 _ ⟨tc_dflt P.1, tc_Gdm P.2.1 (fun m hm => (tc_bd.mp hm).1), fun m hm => ?_, fun m hm => ?_⟩
        · obtain ⟨j, hj, q, b⟩ := P.2.2.1 m (tc_bd.mp hm).1
          refine ⟨j, ?_, q, b⟩
          rcases Nat.lt_or_ge j i with z | z
          · exact z
          · rw [show j = i by omega] at b
            exact absurd b (tc_bd.mp hm).2
        · obtain ⟨r', hr', sr', b⟩ := P.2.2.2 m (tc_bd.mp hm).1
          refine ⟨r', hr', tc_bd.mpr ⟨sr', fun z => ?_⟩, b⟩
          rw [tc_pb z] at b
          exact (tc_bd.mp hm).2 ((l4 (tc_bd.mp hm).1).mpr b)
      have := v2 r hr sr
      have := tc_spl S (N i)
      omega
    · refine Nat.le_trans ((tc_mgs i s).2 S ⟨P.1, P.2.1, fun a ha => ?_, P.2.2.2⟩) v1
      obtain ⟨j, hj, q, b⟩ := P.2.2.1 a ha
      refine ⟨j, ?_, q, b⟩
      rcases Nat.lt_or_ge j i with z | z
      · exact z
      · rw [show j = i by omega] at b
        exact absurd ⟨a, ha, b⟩ n
theorem tc_gm {f : Nat → Nat} {l : List Nat} {r : Nat} (h : r < l.length) : (l.map f).getD r 0 = f (l.getD r 0) := by
  simp [List.getD_eq_getElem?_getD, List.getElem?_map, List.getElem?_eq_getElem h]
/-- one part of g, by the rows that the class runs -/
theorem tc_stm (F : tc_Fm H) (E : tc_Fm K) (hg : H g) (hh : K h) (g2 : 2 ≤ tc_co g) (h2 : 2 ≤ tc_co h) {i s : Nat} (inj : ∀ j, j < i → N j ≠ N i) (hp : tc_pt H g (N i))
    (hQ : ∀ r, r < Q.length → tc_pt K h (Q.getD r 0)) (hQn : ∀ r r', r < Q.length → r' < Q.length → Q.getD r 0 = Q.getD r' 0 → r = r') :
    tc_mg H K N g h Q (i + 1) s = tc_im (tc_mg H K N g h Q i) s (Q.map (tc_ma H K (N i))) 0 (tc_mg H K N g h Q i s) := by
  refine tc_stp F E hg hh g2 h2 inj hp hQ hQn ?_ (tc_imge _ _ _ _ _) (fun r hr sr => ?_)
  · rcases tc_imor (tc_mg H K N g h Q i) s (Q.map (tc_ma H K (N i))) 0 (tc_mg H K N g h Q i s) with e | ⟨k, hk, sk, e⟩
    · exact Or.inl e
    · rw [Nat.zero_add] at sk e
      rw [List.length_map] at hk
      rw [tc_gm hk] at e
      exact Or.inr ⟨k, hk, sk, e⟩
  · have q := tc_imle (tc_mg H K N g h Q i) s (Q.map (tc_ma H K (N i))) 0 (tc_mg H K N g h Q i s) r (by rw [List.length_map]; exact hr) (by rw [Nat.zero_add]; exact sr)
    rw [Nat.zero_add, tc_gm hr] at q
    exact q
/-- different parts hold different members: at most seven -/
theorem tc_q7 (F : tc_Fm H) : ∀ (Q : List Nat), Q.Nodup → (∀ q, q ∈ Q → tc_pt H g q) → (∀ q, q ∈ Q → 1 ≤ tc_co q) → ∃ U, Q.length ≤ tc_co U ∧ ∀ m, U.testBit m = true → ∃ q, q ∈ Q ∧ q.testBit m = true
  | [], _, _, _ => ⟨0, Nat.zero_le _, fun m hm => absurd hm tc_0b⟩
  | q :: Q, nd, hp, hc => by
    obtain ⟨nq, nd'⟩ := List.nodup_cons.mp nd
    obtain ⟨U, hU, hm⟩ := tc_q7 F Q nd' (fun x hx => hp x (List.mem_cons_of_mem _ hx)) (fun x hx => hc x (List.mem_cons_of_mem _ hx))
    refine ⟨U ||| q, ?_, fun m h => ?_⟩
    · rw [tc_uni (fun m hU' hq => ?_), List.length_cons]
      · have := hc q List.mem_cons_self
        omega
      · obtain ⟨x, hx, xm⟩ := hm m hU'
        have e := tc_p2 F (hp q List.mem_cons_self) (hp x (List.mem_cons_of_mem _ hx)) hq xm
        rw [e] at nq
        exact nq hx
    · rcases tc_bo.mp h with z | z
      · obtain ⟨x, hx, xm⟩ := hm m z
        exact ⟨x, List.mem_cons_of_mem _ hx, xm⟩
      · exact ⟨q, List.mem_cons_self, z⟩
/-- what the class takes as the largest agreement of two groups of two members or more -/
theorem tc_below (F : tc_Fm H) (E : tc_Fm K) (hg : H g) (hh : K h) (g2 : 2 ≤ tc_co g) (h2 : 2 ≤ tc_co h) {k v : Nat} (hN : ∀ p, tc_pt H g p → ∃ i, i < k ∧ N i = p)
    (hQ : ∀ q, tc_pt K h q → ∃ r, r < Q.length ∧ Q.getD r 0 = q) (hQ' : ∀ r, r < Q.length → tc_pt K h (Q.getD r 0)) (h7 : Q.length ≤ 7)
    (hv : v = tc_mg H K N g h Q k 127 ∨ (∃ p, tc_pt H g p ∧ v = tc_ma H K p h) ∨ ∃ q, tc_pt K h q ∧ v = tc_ma H K g q)
    (v1 : tc_mg H K N g h Q k 127 ≤ v) (v2 : ∀ p, tc_pt H g p → tc_ma H K p h ≤ v) (v3 : ∀ q, tc_pt K h q → tc_ma H K g q ≤ v) : tc_ma H K g h = v := by
  refine tc_mve ⟨?_, fun S P => ?_⟩
  · rcases hv with e | ⟨p, hp, e⟩ | ⟨q, hq, e⟩
    · obtain ⟨⟨S, P, c⟩, _⟩ := tc_mgs (H := H) (K := K) (N := N) (g := g) (h := h) (Q := Q) k 127
      exact ⟨S, ⟨P.1, P.2.1.1, P.2.1.2.1, P.2.1.2.2.1⟩, c.trans e.symm⟩
    · obtain ⟨⟨S, P, c⟩, _⟩ := tc_mas (H := H) (K := K) p h
      exact ⟨S, ⟨P.1, P.2.1, fun m hm => hp.2.2.1 m (P.2.2.1 m hm), P.2.2.2⟩, c.trans e.symm⟩
    · obtain ⟨⟨S, P, c⟩, _⟩ := tc_mas (H := H) (K := K) g q
      exact ⟨S, ⟨P.1, P.2.1, P.2.2.1, fun m hm => hq.2.2.1 m (P.2.2.2 m hm)⟩, c.trans e.symm⟩
  · rcases tc_U F E hg hh g2 h2 P.2.1 P.2.2.1 P.2.2.2 with ⟨p, hp, s⟩ | ⟨q, hq, s⟩ | G
    · exact Nat.le_trans ((tc_mas p h).2 S ⟨P.1, P.2.1, s, P.2.2.2⟩) (v2 p hp)
    · exact Nat.le_trans ((tc_mas g q).2 S ⟨P.1, P.2.1, P.2.2.1, s⟩) (v3 q hq)
    · refine Nat.le_trans ((tc_mgs k 127).2 S ⟨P.1, G, fun a ha => ?_, fun a ha => ?_⟩) v1
      · obtain ⟨p, hp, pa⟩ := tc_p1 F hg g2 (P.2.2.1 a ha)
        obtain ⟨i, hi, e⟩ := hN p hp
        exact ⟨i, hi, by rw [e]; exact hp, by rw [e]; exact pa⟩
      · obtain ⟨q, hq, qa⟩ := tc_p1 E hh h2 (P.2.2.2 a ha)
        obtain ⟨r, hr, e⟩ := hQ q hq
        refine ⟨r, hr, ?_, by rw [e]; exact qa⟩
        exact (by decide : ∀ r, r < 7 → (127 : Nat).testBit r = true) r (by omega)
end
end
section
/-! a tree by the list of its groups besides those that every tree has; at most five of them -/
def tc_gv (g : Nat) : Bool := tc_co g == 1 || g == 127
def tc_hs (L : List Nat) (g : Nat) : Bool := tc_gv g || L.contains g
def tc_OK (L : List Nat) : Prop := L.Nodup ∧ (∀ g, g ∈ L → g < 127 ∧ 2 ≤ tc_co g) ∧ ∀ g h, g ∈ L → h ∈ L → tc_lm g h
def tc_H (L : List Nat) (g : Nat) : Prop := g < 128 ∧ tc_hs L g = true
theorem tc_hsi {L : List Nat} {g : Nat} : tc_hs L g = true ↔ tc_co g = 1 ∨ g = 127 ∨ g ∈ L := by
  unfold tc_hs tc_gv
  rw [Bool.or_eq_true, Bool.or_eq_true, beq_iff_eq, beq_iff_eq, List.contains_iff_mem, or_assoc]
theorem tc_lms {g h : Nat} (l : tc_lm g h) : tc_lm h g := by
  rcases l with l | l | l
  · exact Or.inl (fun m a b => l m b a)
  · exact Or.inr (Or.inr l)
  · exact Or.inr (Or.inl l)
theorem tc_lm1 {g h : Nat} (hg : g < 128) (c : tc_co g = 1) : tc_lm g h := by
  obtain ⟨_, e⟩ := tc_one g hg c
  by_cases z : h.testBit (Nat.log2 g) = true
  · refine Or.inr (Or.inl (fun m hm => ?_))
    rw [e] at hm
    rw [tc_pb hm]
    exact z
  · refine Or.inl (fun m hm hh => z ?_)
    rw [e] at hm
    rw [← tc_pb hm]
    exact hh
theorem tc_s127 {g : Nat} (h : g < 128) : tc_sb g 127 := fun m hm => (by decide : ∀ m, m < 7 → (127 : Nat).testBit m = true) m (tc_b7 h hm)
theorem tc_HF {L : List Nat} (O : tc_OK L) : tc_Fm (tc_H L) := by
  refine ⟨fun g h => h.1, ⟨by decide, tc_hsi.mpr (Or.inr (Or.inl rfl))⟩, fun m hm => ⟨?_, tc_hsi.mpr (Or.inl (tc_cp m hm))⟩, fun g h hg hh => ?_⟩
  · exact Nat.pow_lt_pow_right (by decide) hm
  · rcases tc_hsi.mp hg.2 with a | a | a
    · exact tc_lm1 hg.1 a
    · rw [a]; exact Or.inr (Or.inr (tc_s127 hh.1))
    · rcases tc_hsi.mp hh.2 with b | b | b
      · exact tc_lms (tc_lm1 hh.1 b)
      · rw [b]; exact Or.inr (Or.inl (tc_s127 hg.1))
      · exact O.2.2 g h a b
theorem tc_Hc {L : List Nat} (O : tc_OK L) {g : Nat} (h : tc_H L g) : 1 ≤ tc_co g := by
  rcases tc_hsi.mp h.2 with a | a | a
  · omega
  · rw [a]; decide
  · have := (O.2.1 g a).2
    omega
/-! counting: the members that are the least of every group that holds them -/
def tc_rt (L : List Nat) (m : Nat) : Prop := ∀ g, g ∈ L → g.testBit m = true → ∀ j, j < m → g.testBit j = true → False
noncomputable def tc_pn (P : Prop) : Nat := @ite Nat P (Classical.propDecidable P) 1 0
theorem tc_pn1 {P : Prop} (h : P) : tc_pn P = 1 := by unfold tc_pn; rw [if_pos h]
theorem tc_pn0 {P : Prop} (h : ¬ P) : tc_pn P = 0 := by unfold tc_pn; rw [if_neg h]
theorem tc_pnl (P : Prop) : tc_pn P ≤ 1 := by
  rcases Classical.em P with h | h
  · rw [tc_pn1 h]; omega
  · rw [tc_pn0 h]; omega
theorem tc_pnm {P R : Prop} (h : P → R) : tc_pn P ≤ tc_pn R := by
  rcases Classical.em P with p | p
  · rw [tc_pn1 p, tc_pn1 (h p)]; omega
  · rw [tc_pn0 p]; omega
noncomputable def tc_rc (L : List Nat) : Nat := tc_pn (tc_rt L 0) + tc_pn (tc_rt L 1) + tc_pn (tc_rt L 2) + tc_pn (tc_rt L 3) + tc_pn (tc_rt L 4) + tc_pn (tc_rt L 5) + tc_pn (tc_rt L 6)
theorem tc_rcl (L L' : List Nat) (h : ∀ m, tc_rt L m → tc_rt L' m) {m : Nat} (hm : m < 7) (a : tc_rt L' m) (b : ¬ tc_rt L m) : tc_rc L < tc_rc L' := by
  have k : tc_pn (tc_rt L m) < tc_pn (tc_rt L' m) := by rw [tc_pn1 a, tc_pn0 b]; decide
  have h0 := tc_pnm (h 0)
  have h1 := tc_pnm (h 1)
  have h2 := tc_pnm (h 2)
  have h3 := tc_pnm (h 3)
  have h4 := tc_pnm (h 4)
  have h5 := tc_pnm (h 5)
  have h6 := tc_pnm (h 6)
  unfold tc_rc
  rcases tc_m7 hm with rfl | rfl | rfl | rfl | rfl | rfl | rfl <;> omega
theorem tc_new {P : List Nat} {g : Nat} (hg : g < 128) (g2 : 2 ≤ tc_co g) (hP : ∀ p, p ∈ P → p < 128 ∧ tc_lm p g ∧ p ≠ g ∧ tc_co p ≤ tc_co g) (hl : ∀ p q, p ∈ P → q ∈ P → tc_lm p q) :
    ∃ m, m < 7 ∧ g.testBit m = true ∧ (∃ u, u < m ∧ g.testBit u = true) ∧ tc_rt P m := by
  obtain ⟨u, gu, um⟩ := pk_least (fun m => g.testBit m = true) (tc_ex (by omega))
  have u7 : u < 7 := tc_b7 hg gu
  obtain ⟨C, ⟨cP, cu, cg, cn⟩, cm⟩ := tc_mx (P := fun x => (x = 2 ^ u ∨ x ∈ P) ∧ x.testBit u = true ∧ tc_sb x g ∧ x ≠ g) ⟨2 ^ u, Or.inl rfl, tc_pa u, tc_psb gu, fun e => by have := tc_cp u u7; rw [e] at this; omega⟩
  have lC : ∀ p, p ∈ P → tc_lm p C := by
    intro p hp
    rcases cP with e | e
    · rw [e]
      exact tc_lms (tc_lm1 (Nat.pow_lt_pow_right (by decide) u7) (tc_cp u u7))
    · exact hl p C hp e
  have C128 : C < 128 := by
    rcases cP with e | e
    · rw [e]; exact Nat.pow_lt_pow_right (by decide) u7
    · exact (hP C e).1
  have big : ∀ p, p ∈ P → p.testBit u = true → tc_sb p g → tc_sb p C := by
    intro p hp pu pg
    rcases tc_lmm (lC p hp) pu cu with s | s
    · exact s
    · have c := cm p ⟨Or.inr hp, pu, pg, (hP p hp).2.2.1⟩
      rw [tc_eqc (hP p hp).1 s c]
      exact fun _ z => z
  obtain ⟨m, gm, ml⟩ := pk_least (fun m => (tc_df g C).testBit m = true) (by
    obtain ⟨c, a, b⟩ := tc_nsb (S := g) (p := C) (fun s => cn (tc_ext cg s))
    exact ⟨c, tc_bd.mpr ⟨a, b⟩⟩)
  obtain ⟨g1, g3⟩ := tc_bd.mp gm
  refine ⟨m, tc_b7 hg g1, g1, ⟨u, ?_, gu⟩, fun p hp pm j jm pj => ?_⟩
  · rcases Nat.lt_or_ge u m with z | z
    · exact z
    · rcases Nat.lt_or_ge m u with y | y
      · exact absurd g1 (um m y)
      · rw [show m = u by omega] at g3
        exact absurd cu g3
  · have pg : tc_sb p g := by
      rcases tc_lmm (hP p hp).2.1 pm g1 with s | s
      · exact s
      · exact absurd (tc_eqc (hP p hp).1 s (hP p hp).2.2.2) (fun e => (hP p hp).2.2.1 e.symm)
    refine ml j jm (tc_bd.mpr ⟨pg j pj, fun cj => g3 ?_⟩)
    rcases tc_lmm (lC p hp) pj cj with s | s
    · exact s m pm
    · exact big p hp (s u cu) pg m pm
theorem tc_rcn : ∀ (n : Nat) (L : List Nat), L.length = n → L.Nodup → (∀ g, g ∈ L → g < 128 ∧ 2 ≤ tc_co g) → (∀ g h, g ∈ L → h ∈ L → tc_lm g h) → tc_rc L + n ≤ 7
  | 0, L, _, _, _, _ => by
    have h0 := tc_pnl (tc_rt L 0)
    have h1 := tc_pnl (tc_rt L 1)
    have h2 := tc_pnl (tc_rt L 2)
    have h3 := tc_pnl (tc_rt L 3)
    have h4 := tc_pnl (tc_rt L 4)
    have h5 := tc_pnl (tc_rt L 5)
    have h6 := tc_pnl (tc_rt L 6)
    unfold tc_rc
    omega
  | n + 1, L, hn, nd, hc, hl => by
    obtain ⟨g, gL, gm⟩ := tc_mx (P := fun g => g ∈ L) (by
      cases L with
      | nil => cases hn
      | cons a l => exact ⟨a, List.mem_cons_self⟩)
    have ih := tc_rcn n (L.erase g) (by rw [List.length_erase_of_mem gL]; omega) (nd.erase g) (fun x hx => hc x (List.mem_of_mem_erase hx)) (fun x y hx hy => hl x y (List.mem_of_mem_erase hx) (List.mem_of_mem_erase hy))
    obtain ⟨m, m7, g1, ⟨u, um, gu⟩, rt⟩ := tc_new (P := L.erase g) (hc g gL).1 (hc g gL).2 (fun p hp => ⟨(hc p (List.mem_of_mem_erase hp)).1, hl p g (List.mem_of_mem_erase hp) gL, (nd.mem_erase_iff.mp hp).1, gm p (List.mem_of_mem_erase hp)⟩) (fun x y hx hy => hl x y (List.mem_of_mem_erase hx) (List.mem_of_mem_erase hy))
    have := tc_rcl L (L.erase g) (fun m h x hx => h x (List.mem_of_mem_erase hx)) m7 rt (fun h => h g gL g1 u um gu)
    omega
theorem tc_len5 {L : List Nat} (O : tc_OK L) : L.length ≤ 5 := by
  have h := tc_rcn (L.length + 1) (127 :: L) rfl (List.nodup_cons.mpr ⟨fun z => by have := (O.2.1 127 z).1; omega, O.1⟩) (fun g hg => by
    rcases List.mem_cons.mp hg with e | e
    · rw [e]; exact ⟨by decide, by decide⟩
    · exact ⟨by have := (O.2.1 g e).1; omega, (O.2.1 g e).2⟩) (fun g h hg hh => by
    have lt : ∀ g, g ∈ 127 :: L → g < 128 := fun g hg => by
      rcases List.mem_cons.mp hg with e | e
      · omega
      · have := (O.2.1 g e).1
        omega
    rcases List.mem_cons.mp hg with a | a
    · rw [a]; exact Or.inr (Or.inr (tc_s127 (lt h hh)))
    · rcases List.mem_cons.mp hh with b | b
      · rw [b]; exact Or.inr (Or.inl (tc_s127 (lt g hg)))
      · exact O.2.2 g h a b)
  have r0 : tc_pn (tc_rt (127 :: L) 0) = 1 := tc_pn1 (fun _ _ _ j hj => absurd hj (Nat.not_lt_zero j))
  unfold tc_rc at h
  omega
/-! sums over lists -/
def tc_sm (f : Nat → Nat) : List Nat → Nat
  | [] => 0
  | a :: l => f a + tc_sm f l
theorem tc_smc {f g : Nat → Nat} : ∀ {l : List Nat}, (∀ a, a ∈ l → f a = g a) → tc_sm f l = tc_sm g l
  | [], _ => rfl
  | a :: l, h => by
    rw [tc_sm, tc_sm, h a List.mem_cons_self, tc_smc (fun x hx => h x (List.mem_cons_of_mem _ hx))]
theorem tc_sma {f g : Nat → Nat} : ∀ {l : List Nat}, tc_sm (fun a => f a + g a) l = tc_sm f l + tc_sm g l
  | [] => rfl
  | a :: l => by
    rw [tc_sm, tc_sm, tc_sm, tc_sma (l := l)]
    omega
theorem tc_smf {f : Nat → Nat} {p : Nat → Bool} : ∀ {l : List Nat}, tc_sm (fun a => if p a = true then f a else 0) l = tc_sm f (l.filter p)
  | [] => rfl
  | a :: l => by
    rw [tc_sm, tc_smf (l := l)]
    by_cases h : p a = true
    · rw [if_pos h, List.filter_cons_of_pos h, tc_sm]
    · rw [if_neg h, List.filter_cons_of_neg h, Nat.zero_add]
theorem tc_smm {f m : Nat → Nat} : ∀ {l : List Nat}, tc_sm f (l.map m) = tc_sm (fun a => f (m a)) l
  | [] => rfl
  | a :: l => by rw [List.map_cons, tc_sm, tc_sm, tc_smm (l := l)]
theorem tc_smap {f : Nat → Nat} : ∀ {l l' : List Nat}, tc_sm f (l ++ l') = tc_sm f l + tc_sm f l'
  | [], l' => by rw [List.nil_append, tc_sm, Nat.zero_add]
  | a :: l, l' => by rw [List.cons_append, tc_sm, tc_sm, tc_smap (l := l)]; omega
theorem tc_smp {f : Nat → Nat} {l l' : List Nat} (h : l.Perm l') : tc_sm f l = tc_sm f l' := by
  induction h with
  | nil => rfl
  | cons x _ ih => rw [tc_sm, tc_sm, ih]
  | swap x y l => rw [tc_sm, tc_sm, tc_sm, tc_sm]; omega
  | trans _ _ a b => exact a.trans b
theorem tc_sm1 : ∀ {l : List Nat}, tc_sm (fun _ => 1) l = l.length
  | [] => rfl
  | a :: l => by rw [tc_sm, tc_sm1 (l := l), List.length_cons]; omega
theorem tc_sml {f g : Nat → Nat} : ∀ {l : List Nat}, (∀ a, a ∈ l → f a ≤ g a) → tc_sm f l ≤ tc_sm g l
  | [], _ => Nat.le_refl _
  | a :: l, h => by
    have h1 := h a List.mem_cons_self
    have h2 := tc_sml (l := l) (fun x hx => h x (List.mem_cons_of_mem _ hx))
    rw [tc_sm, tc_sm]
    omega
theorem tc_sm0 {f : Nat → Nat} : ∀ {l : List Nat}, tc_sm f l = 0 ↔ ∀ a, a ∈ l → f a = 0
  | [] => ⟨fun _ _ h => absurd h List.not_mem_nil, fun _ => rfl⟩
  | a :: l => by
    rw [tc_sm, Nat.add_eq_zero_iff, tc_sm0 (l := l)]
    constructor
    · rintro ⟨x, y⟩ b hb
      rcases List.mem_cons.mp hb with e | e
      · rw [e]; exact x
      · exact y b e
    · exact fun h => ⟨h a List.mem_cons_self, fun b hb => h b (List.mem_cons_of_mem _ hb)⟩
def tc_gl : List Nat := [1, 2, 4, 8, 16, 32, 64, 127]
theorem tc_glm : ∀ g, g < 128 → (tc_gv g = true ↔ g ∈ tc_gl) := by decide +kernel
def tc_rg : List Nat := List.range' 1 127
theorem tc_rgm {g : Nat} : g ∈ tc_rg ↔ 1 ≤ g ∧ g < 128 := by
  unfold tc_rg
  rw [List.mem_range'_1]
theorem tc_rgn : tc_rg.Nodup := List.nodup_range'
theorem tc_c1 {g : Nat} (h : 1 ≤ tc_co g) : 1 ≤ g := by
  rcases Nat.eq_zero_or_pos g with z | z
  · rw [z] at h
    exact absurd h (by decide)
  · exact z
theorem tc_perm {L : List Nat} (O : tc_OK L) : (tc_rg.filter (tc_hs L)).Perm (tc_gl ++ L) := by
  refine (List.perm_ext_iff_of_nodup (tc_rgn.filter _) (List.nodup_append.mpr ⟨by decide, O.1, fun a ha b hb e => ?_⟩)).mpr (fun g => ?_)
  · have o := O.2.1 b hb
    rw [← e] at o
    have z := (tc_glm a (by omega)).mpr ha
    unfold tc_gv at z
    rw [Bool.or_eq_true, beq_iff_eq, beq_iff_eq] at z
    omega
  · rw [List.mem_filter, tc_rgm, List.mem_append]
    unfold tc_hs
    rw [Bool.or_eq_true, List.contains_iff_mem]
    constructor
    · rintro ⟨⟨a, b⟩, c | c⟩
      · exact Or.inl ((tc_glm g b).mp c)
      · exact Or.inr c
    · rintro (c | c)
      · have b : 1 ≤ g ∧ g < 128 := (by decide : ∀ g, g ∈ tc_gl → 1 ≤ g ∧ g < 128) g c
        exact ⟨b, Or.inl ((tc_glm g b.2).mpr c)⟩
      · have o := O.2.1 g c
        exact ⟨⟨tc_c1 (by omega), by omega⟩, Or.inr c⟩
theorem tc_smL {L : List Nat} (O : tc_OK L) (f : Nat → Nat) : tc_sm (fun g => if tc_hs L g = true then f g else 0) tc_rg = tc_sm f tc_gl + tc_sm f L := by
  rw [tc_smf, tc_smp (tc_perm O), tc_smap]
end
section
/-! masks as ints -/
def tn_b (b : Bool) : Int32 := if b = true then 1 else 0
theorem tn_b1 {b : Bool} (h : b = true) : tn_b b = 1 := if_pos h
theorem tn_b0 {b : Bool} (h : b = false) : tn_b b = 0 := if_neg (by rw [h]; decide)
theorem tn_br {A B : Prop} (b : Bool) (g : b = false → A) (f : b = true → B) : (tn_b b = 0 → A) ∧ (¬ tn_b b = 0 → B) := by
  cases b
  · exact br_t rfl (g rfl)
  · exact br_f (by decide) (f rfl)
theorem tn_nar (b : Bool) : narrow .boolean (.int (tn_b b)) = .int (tn_b b) := by cases b <;> rfl
theorem tn_bit {s m : Nat} (hs : s < 128) (hm : m < 32) : (nI s >>> (nI m &&& 31)) &&& 1 = nI (s.testBit m).toNat := by
  rw [pk_shrN (by omega) _ m (s_l m hm)]
  show nI _ &&& nI 1 = _
  rw [nx_and, Nat.and_one_is_mod, Nat.toNat_testBit]
theorem tn_bit0 {s m : Nat} (hs : s < 128) (hm : m < 32) : (nI s >>> (nI m &&& 31)) &&& 1 = 0 ↔ s.testBit m = false := by
  rw [tn_bit hs hm]
  cases s.testBit m
  · exact ⟨fun _ => rfl, fun _ => rfl⟩
  · exact ⟨fun z => absurd z (by decide), fun z => by cases z⟩
theorem tn_bit1 {s m : Nat} (hs : s < 128) (hm : m < 32) : (nI s >>> (nI m &&& 31)) &&& 1 = 1 ↔ s.testBit m = true := by
  rw [tn_bit hs hm]
  cases s.testBit m
  · exact ⟨fun z => absurd z (by decide), fun z => by cases z⟩
  · exact ⟨fun _ => rfl, fun _ => rfl⟩
theorem tn_bt (n i : Nat) (hi : i < 32) : bt (nI n) i = n.testBit i := by
  show (BitVec.ofNat 32 n).getLsbD i = _
  rw [BitVec.getLsbD_ofNat]
  simp [hi]
theorem tn_df (a b : Nat) : nI a &&& (nI b ^^^ (-1)) = nI (tc_df a b) := by
  refine b_ext (fun i hi => ?_)
  rw [b_and, b_xor, b_m1 i hi, tn_bt _ _ hi, tn_bt _ _ hi, tn_bt _ _ hi, tc_dfb, Bool.xor_true]
theorem tn_or (a b : Nat) : nI a ||| nI b = nI (a ||| b) := by
  refine b_ext (fun i hi => ?_)
  rw [b_or, tn_bt _ _ hi, tn_bt _ _ hi, tn_bt _ _ hi, Nat.testBit_or]
theorem tn_pw {r : Nat} (hr : r < 31) : (1 : Int32) <<< (nI r &&& 31) = nI (2 ^ r) := by
  have h : (1 : Nat) * 2 ^ r < 2 ^ 32 := by
    rw [Nat.one_mul]
    exact Nat.pow_lt_pow_right (by decide) (by omega)
  have e := pk_shlN (n := 1) (nI r &&& 31) r (s_l r (by omega)) h
  rw [Nat.one_mul] at e
  exact e
theorem tn_by0 : ∀ v, v < 128 → (nI v).toInt8.toInt32 = nI v := by decide +kernel
theorem tn_by {v : Nat} (h : v < 128) : vp_nar .byte ((nI v).toInt8.toInt32) = nI v := by rw [tn_by0 v h, vp_nar_byte, tn_by0 v h]
theorem tn_by' {v : Nat} (h : v < 128) : vp_nar .byte (nI v) = nI v := by rw [vp_nar_byte, tn_by0 v h]
theorem tn_ix5 (t k : Nat) : nI t * 5 + nI k = nI (5 * t + k) := by
  show nI t * nI 5 + nI k = _
  rw [pk_mul, nI_add, Nat.mul_comm]
theorem tn_ix13 (t k : Nat) : nI t * 13 + nI k = nI (13 * t + k) := by
  show nI t * nI 13 + nI k = _
  rw [pk_mul, nI_add, Nat.mul_comm]
theorem tn_ix128 (t k : Nat) : 128 * nI t + nI k = nI (128 * t + k) := by
  show nI 128 * nI t + nI k = _
  rw [pk_mul, nI_add]
theorem tn_tree (x : Int32) : (∃ t, t < 2 ∧ x = nI t) ∨ (x ≠ 0 ∧ x ≠ 1) := by
  by_cases a : x = 0
  · exact Or.inl ⟨0, by decide, a⟩
  · by_cases b : x = 1
    · exact Or.inl ⟨1, by decide, b⟩
    · exact Or.inr ⟨a, b⟩
theorem tn_t2 {t : Nat} (h : t < 2) : t = 0 ∨ t = 1 := by omega
theorem tn_ix (x : Int32) : x < 0 ∨ (¬ x < 0 ∧ 127 < x) ∨ ∃ j : Nat, j < 128 ∧ x = nI j := by
  rcases pk_ix x (n := 128) (by decide) with h | h | h
  · exact Or.inl h
  · refine Or.inr (Or.inl ⟨?_, ?_⟩)
    · rw [Int32.lt_iff_toInt_lt]
      rw [Int32.le_iff_toInt_le, nI_toInt (by decide)] at h
      have e : (0 : Int32).toInt = 0 := by decide
      omega
    · rw [Int32.lt_iff_toInt_lt]
      rw [Int32.le_iff_toInt_le, nI_toInt (by decide)] at h
      have e : (127 : Int32).toInt = 127 := by decide
      omega
  · exact Or.inr (Or.inr h)
theorem tn_ixm (x : Int32) : x < 0 ∨ (¬ x < 0 ∧ 7 ≤ x ∧ 6 < x) ∨ ∃ j : Nat, j < 7 ∧ x = nI j := by
  rcases pk_ix x (n := 7) (by decide) with h | h | h
  · exact Or.inl h
  · refine Or.inr (Or.inl ⟨?_, h, ?_⟩)
    · rw [Int32.lt_iff_toInt_lt]
      rw [Int32.le_iff_toInt_le, nI_toInt (by decide)] at h
      have e : (0 : Int32).toInt = 0 := by decide
      omega
    · rw [Int32.lt_iff_toInt_lt]
      rw [Int32.le_iff_toInt_le, nI_toInt (by decide)] at h
      have e : (6 : Int32).toInt = 6 := by decide
      omega
  · exact Or.inr (Or.inr h)
/-! whether two groups go together -/
def tc_lb (g h : Nat) : Bool := g &&& h == 0 || (g &&& h == g || g &&& h == h)
theorem tc_lbi {g h : Nat} : tc_lb g h = true ↔ tc_lm g h := by
  unfold tc_lb tc_lm
  rw [Bool.or_eq_true, Bool.or_eq_true, beq_iff_eq, beq_iff_eq, beq_iff_eq, tc_and0, tc_andl, tc_andr]
theorem tc_lbs (g h : Nat) : tc_lb g h = tc_lb h g := Bool.eq_iff_iff.mpr ⟨fun z => tc_lbi.mpr (tc_lms (tc_lbi.mp z)), fun z => tc_lbi.mpr (tc_lms (tc_lbi.mp z))⟩
/-! counting members -/
theorem tx_ones1 {post : Int32 → Prop} {s n c m : Nat} (hs : s < 128) (hm : m < 7) (h : wX_ones_4 post (nI s) n (nI (c + (s.testBit m).toNat)) (nI (m + 1))) : wX_ones_4 post (nI s) (n + 1) (nI c) (nI m) :=
  br_f (nI_ge (b := 7) hm (by decide)) (nm_r (by rw [tn_bit hs (by omega), nI_add]) (nm_r (nI_1 m) h))
theorem tx_ones {post : Int32 → Prop} {s : Nat} (hs : s < 128) (h : post (nI (tc_co s))) : wpX_ones post (nI s) := by
  refine ⟨8, tx_ones1 (c := 0) (m := 0) hs (by decide) (tx_ones1 hs (by decide) (tx_ones1 hs (by decide) (tx_ones1 hs (by decide) (tx_ones1 hs (by decide) (tx_ones1 hs (by decide) (tx_ones1 hs (by decide) (br_t (by decide) ?_)))))))⟩
  rw [Nat.zero_add]
  exact h
theorem ty_count1 {post : Int32 → Prop} {ah : Nat → Int32} {s n c m : Nat} (hs : s < 128) (hm : m < 7) (h : wY_count_4 post (nI s) ah n (nI (c + (s.testBit m).toNat)) (nI (m + 1))) : wY_count_4 post (nI s) ah (n + 1) (nI c) (nI m) :=
  br_f (nI_ge (b := 7) hm (by decide)) (nm_r (by rw [tn_bit hs (by omega), nI_add]) (nm_r (nI_1 m) h))
theorem ty_count {post : Int32 → Prop} {ah : Nat → Int32} {s : Nat} (hs : s < 128) (h : post (nI (tc_co s))) : wpY_count post ah (nI s) := by
  refine ⟨8, ty_count1 (c := 0) (m := 0) hs (by decide) (ty_count1 hs (by decide) (ty_count1 hs (by decide) (ty_count1 hs (by decide) (ty_count1 hs (by decide) (ty_count1 hs (by decide) (ty_count1 hs (by decide) (br_t (by decide) ?_)))))))⟩
  rw [Nat.zero_add]
  exact h
theorem tn_g127 {g : Nat} (hg : g < 128) : nI g = 127 ↔ g = 127 := nI_eq (b := 127) (by omega) (by decide)
theorem tn_c1 (g : Nat) : nI (tc_co g) = 1 ↔ tc_co g = 1 := nI_eq (b := 1) (by have := tc_co7 g; omega) (by decide)
theorem tx_every {post : Int32 → Prop} {g : Nat} (hg : g < 128) (h : post (tn_b (tc_gv g))) : wpX_everyTreeHas post (nI g) := by
  by_cases e : g = 127
  · refine br_t ((tn_g127 hg).mpr e) ?_
    rw [e] at h
    exact h
  · refine br_f (fun z => e ((tn_g127 hg).mp z)) (tx_ones hg ?_)
    by_cases c : tc_co g = 1
    · refine br_t ((tn_c1 g).mpr c) ?_
      have q : tc_gv g = true := by unfold tc_gv; rw [c]; rfl
      rw [tn_b1 q] at h
      exact h
    · refine br_f (fun z => c ((tn_c1 g).mp z)) ?_
      have q : tc_gv g = false := by unfold tc_gv; rw [beq_false_of_ne c, beq_false_of_ne e]; rfl
      rw [tn_b0 q] at h
      exact h
theorem ty_given {post : Int32 → Prop} {ah : Nat → Int32} {g : Nat} (hg : g < 128) (h : post (tn_b (tc_gv g))) : wpY_given post ah (nI g) := by
  refine ty_count hg ?_
  by_cases c : tc_co g = 1
  · refine br_t ((tn_c1 g).mpr c) ?_
    have q : tc_gv g = true := by unfold tc_gv; rw [c]; rfl
    rw [tn_b1 q] at h
    exact h
  · refine br_f (fun z => c ((tn_c1 g).mp z)) ?_
    by_cases e : g = 127
    · refine br_t ((tn_g127 hg).mpr e) ?_
      rw [e] at h
      exact h
    · refine br_f (fun z => e ((tn_g127 hg).mp z)) ?_
      have q : tc_gv g = false := by unfold tc_gv; rw [beq_false_of_ne c, beq_false_of_ne e]; rfl
      rw [tn_b0 q] at h
      exact h
theorem tx_tree1 {post : Int32 → Prop} {t : Nat} (ht : t < 2) (h : post 1) : wpX_isTree post (nI t) := by
  rcases tn_t2 ht with e | e
  · rw [e]; exact br_t rfl h
  · rw [e]; exact br_f (by decide) (br_t rfl h)
theorem tx_tree0 {post : Int32 → Prop} {x : Int32} (n : x ≠ 0 ∧ x ≠ 1) (h : post 0) : wpX_isTree post x := br_f n.1 (br_f n.2 h)
theorem ty_tree1 {post : Int32 → Prop} {ah : Nat → Int32} {t : Nat} (ht : t < 2) (h : post 1) : wpY_tree post ah (nI t) := by
  rcases tn_t2 ht with e | e
  · rw [e]; exact br_t rfl h
  · rw [e]; exact br_f (by decide) (br_t rfl h)
theorem ty_tree0 {post : Int32 → Prop} {ah : Nat → Int32} {x : Int32} (n : x ≠ 0 ∧ x ≠ 1) (h : post 0) : wpY_tree post ah x := br_f n.1 (br_f n.2 h)
theorem tx_mem1 {post : Int32 → Prop} {m : Nat} (hm : m < 7) (h : post 1) : wpX_isMember post (nI m) := br_f (nI_pos (by omega)) (br_f (nI_ge (b := 7) hm (by decide)) h)
theorem ty_mem1 {post : Int32 → Prop} {ah : Nat → Int32} {m : Nat} (hm : m < 7) (h : post 1) : wpY_member post ah (nI m) := br_f (nI_pos (by omega)) (br_f (nI_nlt (b := m) (a := 6) (by omega) (by decide)) h)
theorem tx_memn {post : Int32 → Prop} {x : Int32} (n : x < 0 ∨ (¬ x < 0 ∧ 7 ≤ x ∧ 6 < x)) (h : post 0) : wpX_isMember post x := by
  rcases n with n | ⟨n, n', _⟩
  · exact br_t n h
  · exact br_f n (br_t n' h)
theorem ty_memn {post : Int32 → Prop} {ah : Nat → Int32} {x : Int32} (n : x < 0 ∨ (¬ x < 0 ∧ 7 ≤ x ∧ 6 < x)) (h : post 0) : wpY_member post ah x := by
  rcases n with n | ⟨n, _, n'⟩
  · exact br_t n h
  · exact br_f n (br_t n' h)
theorem tn_n0 {g : Nat} (hg : g < 128) : nI g = 0 ↔ g = 0 := nI_eq (b := 0) (by omega) (by decide)
theorem tx_go {post : Int32 → Prop} {g h : Nat} (hg : g < 128) (hh : h < 128) (k : post (tn_b (tc_lb g h))) : wpX_goTogether post (nI g) (nI h) := by
  have a : g &&& h < 128 := tc_anlt hg
  refine nm_r (nx_and g h) ?_
  refine pk_eq (g &&& h) 0 (fun z => ?_) (fun z => pk_eq (g &&& h) g (fun y => ?_) (fun y => pk_eq (g &&& h) h (fun x => ?_) (fun x => ?_)))
  · have q : tc_lb g h = true := by unfold tc_lb; rw [z]; rfl
    rw [tn_b1 q] at k
    exact k
  · have q : tc_lb g h = true := tc_lbi.mpr (Or.inr (Or.inl (tc_andl.mp y)))
    rw [tn_b1 q] at k
    exact k
  · have q : tc_lb g h = true := tc_lbi.mpr (Or.inr (Or.inr (tc_andr.mp x)))
    rw [tn_b1 q] at k
    exact k
  · have q : tc_lb g h = false := by unfold tc_lb; rw [beq_false_of_ne z, beq_false_of_ne y, beq_false_of_ne x]; rfl
    rw [tn_b0 q] at k
    exact k
theorem ty_cross {post : Int32 → Prop} {ah : Nat → Int32} {g h : Nat} (hg : g < 128) (hh : h < 128) (k : post (tn_b (!tc_lb g h))) : wpY_crosses post ah (nI g) (nI h) := by
  have a : g &&& h < 128 := tc_anlt hg
  have a1 : tc_df g h < 128 := tc_dflt hg
  have a2 : tc_df h g < 128 := tc_dflt hh
  refine pk_eq (g &&& h) 0 (fun z => ?_) (fun z => pk_eq (tc_df g h) 0 (fun y => ?_) (fun y => pk_eq (tc_df h g) 0 (fun x => ?_) (fun x => ?_) (tn_df h g)) (tn_df g h)) (nx_and g h)
  · have q : tc_lb g h = true := by unfold tc_lb; rw [z]; rfl
    rw [q] at k
    exact k
  · have q : tc_lb g h = true := tc_lbi.mpr (Or.inr (Or.inl (tc_df0.mp y)))
    rw [q] at k
    exact k
  · have q : tc_lb g h = true := tc_lbi.mpr (Or.inr (Or.inr (tc_df0.mp x)))
    rw [q] at k
    exact k
  · have q : tc_lb g h = false := by
      refine tc_nb (fun w => ?_)
      rcases tc_lbi.mp w with l | l | l
      · exact z (tc_and0.mpr l)
      · exact y (tc_df0.mpr l)
      · exact x (tc_df0.mpr l)
    rw [q] at k
    exact k
end
section
/-! the class: places, groups, joins -/
def tx_L (ac ae : Nat → Int32) (t : Nat) (L : List Nat) : Prop := t < 2 ∧ L.length ≤ 5 ∧ ac t = nI L.length ∧ (∀ k, k < L.length → ae (5 * t + k) = nI (L.getD k 0)) ∧ ∀ g, g ∈ L → g < 128
def tc_jo (s : Nat) : List Nat → Nat → Nat
  | [], b => b
  | g :: l, b => tc_jo s l (if tc_df s g = 0 ∧ tc_co g < tc_co b then g else b)
def tc_jx (L : List Nat) (s : Nat) : Nat := if s = 0 ∨ tc_co s = 1 then s else tc_jo s L 127
def tc_cb (L : List Nat) (a b c : Nat) : Bool := tc_rg.any (fun g => tc_hs L g && (g.testBit a && (g.testBit b && !g.testBit c)))
def tc_sy (L : List Nat) (a b c : Nat) : Nat := if tc_cb L b c a = true then 0 else if tc_cb L a c b = true then 1 else if tc_cb L a b c = true then 2 else 3
theorem tn_gd {L : List Nat} {k : Nat} (hk : k < L.length) : L.getD k 0 ∈ L := by
  rw [List.getD_eq_getElem?_getD, List.getElem?_eq_getElem hk]
  exact List.getElem_mem hk
theorem tn_dr {L : List Nat} {k : Nat} (hk : k < L.length) : L.drop k = L.getD k 0 :: L.drop (k + 1) := by
  rw [List.getD_eq_getElem?_getD, List.getElem?_eq_getElem hk]
  exact List.drop_eq_getElem_cons hk
theorem tn_mg {L : List Nat} {g : Nat} (h : g ∈ L) : ∃ k, k < L.length ∧ L.getD k 0 = g := by
  obtain ⟨k, hk, e⟩ := List.mem_iff_getElem.mp h
  refine ⟨k, hk, ?_⟩
  rw [List.getD_eq_getElem?_getD, List.getElem?_eq_getElem hk]
  exact e
section
variable {ac ae an aN ab am : Nat → Int32} {t : Nat} {L : List Nat}
theorem tx_Lv (T : tx_L ac ae t L) : vp_in (nI t) 2 := vp_in_nI T.1 (by decide)
theorem tx_Lc (T : tx_L ac ae t L) : ac (nI t).toNatClampNeg = nI L.length := by
  have := T.1
  rw [nI_clamp (by omega)]
  exact T.2.2.1
theorem tx_Le (T : tx_L ac ae t L) {k : Nat} (hk : k < L.length) : ae (nI t * 5 + nI k).toNatClampNeg = nI (L.getD k 0) := by
  have := T.1
  have := T.2.1
  rw [tn_ix5, nI_clamp (by omega)]
  exact T.2.2.2.1 k hk
theorem tx_Li (T : tx_L ac ae t L) {k : Nat} (hk : k < L.length) : vp_in (nI t * 5 + nI k) 10 := by
  have := T.1
  have := T.2.1
  rw [tn_ix5]
  exact vp_in_nI (by omega) (by decide)
theorem tx_find1 {post : Int32 → Prop} {x : Int32} (T : tx_L ac ae t L) (hy : ∀ k, k < L.length → nI (L.getD k 0) = x → post (nI k)) (hn : (∀ k, k < L.length → nI (L.getD k 0) ≠ x) → post (-1)) :
    ∀ d k, k + d = L.length → (∀ j, j < k → nI (L.getD j 0) ≠ x) → wX_find_2 post (nI t) x ac ae an aN ab am (d + 1) (nI k) := by
  have l5 := T.2.1
  intro d
  induction d with
  | zero =>
    intro k hk hj
    exact ⟨tx_Lv T, pk_le L.length k (fun _ => hn (fun j h => hj j (by omega))) (fun z => absurd z (by omega)) (tx_Lc T)⟩
  | succ d ih =>
    intro k hk hj
    have hl : k < L.length := by omega
    refine ⟨tx_Lv T, pk_le L.length k (fun z => absurd z (by omega)) (fun _ => ⟨tx_Li T hl, ?_⟩) (tx_Lc T)⟩
    rw [tx_Le T hl]
    refine br_c (fun e => hy k hl e) (fun n => nm_r (nI_1 k) (ih (k + 1) (by omega) (fun j h => ?_)))
    rcases Nat.lt_or_ge j k with z | z
    · exact hj j z
    · rw [show j = k by omega]; exact n
theorem tx_find {post : Int32 → Prop} {x : Int32} (T : tx_L ac ae t L) (hy : ∀ k, k < L.length → nI (L.getD k 0) = x → post (nI k)) (hn : (∀ k, k < L.length → nI (L.getD k 0) ≠ x) → post (-1)) : wpX_find post (ac, ae, an, aN, ab, am) (nI t) x :=
  ⟨L.length + 1, tx_find1 T hy hn L.length 0 (by omega) (fun j h => absurd h (Nat.not_lt_zero j))⟩
theorem tx_finc {post : Int32 → Prop} {g : Nat} (T : tx_L ac ae t L) (hg : g < 128) (hy : ∀ k, k < L.length → L.contains g = true → post (nI k)) (hn : L.contains g = false → post (-1)) : wpX_find post (ac, ae, an, aN, ab, am) (nI t) (nI g) := by
  have q : ∀ k, k < L.length → (nI (L.getD k 0) = nI g ↔ L.getD k 0 = g) := fun k hk => nI_eq (by have := T.2.2.2.2 _ (tn_gd hk); omega) (by omega)
  refine tx_find T (fun k hk e => hy k hk ?_) (fun n => hn (tc_nb (fun z => ?_)))
  · rw [List.contains_iff_mem, ← (q k hk).mp e]
    exact tn_gd hk
  · obtain ⟨k, hk, e⟩ := tn_mg (List.contains_iff_mem.mp z)
    exact n k hk ((q k hk).mpr e)
theorem tx_has {post : Int32 → Prop} {g : Nat} (T : tx_L ac ae t L) (hg : g < 128) (h : post (tn_b (tc_hs L g))) : wpX_hasGroup post (ac, ae, an, aN, ab, am) (nI t) (nI g) := by
  have l5 := T.2.1
  unfold wpX_hasGroup
  dsimp only
  refine tx_every hg (tn_br _ (fun z => tx_finc T hg (fun k hk e => br_f (nI_pos (by omega)) ?_) (fun e => br_t (by decide) ?_)) (fun z => ?_))
  · have q : tc_hs L g = true := by unfold tc_hs; rw [e, Bool.or_true]
    rw [tn_b1 q] at h
    exact h
  · have q : tc_hs L g = false := by unfold tc_hs; rw [e, z]; rfl
    rw [tn_b0 q] at h
    exact h
  · have q : tc_hs L g = true := by unfold tc_hs; rw [z]; rfl
    rw [tn_b1 q] at h
    exact h
theorem tx_can1 {post : Int32 → Prop} {g : Nat} (T : tx_L ac ae t L) (hg : g < 128) : ∀ d k, k + d = L.length → post (tn_b ((L.drop k).all (tc_lb g))) → wX_canAdd_2 post (nI t) (nI g) ac ae an aN ab am (d + 1) (nI k) := by
  have l5 := T.2.1
  intro d
  induction d with
  | zero =>
    intro k hk h
    rw [List.drop_eq_nil_of_le (by omega)] at h
    exact ⟨tx_Lv T, pk_le L.length k (fun _ => h) (fun z => absurd z (by omega)) (tx_Lc T)⟩
  | succ d ih =>
    intro k hk h
    have hl : k < L.length := by omega
    rw [tn_dr hl, List.all_cons] at h
    refine ⟨tx_Lv T, pk_le L.length k (fun z => absurd z (by omega)) (fun _ => ⟨tx_Li T hl, ?_⟩) (tx_Lc T)⟩
    rw [tx_Le T hl]
    refine tx_go hg (T.2.2.2.2 _ (tn_gd hl)) (tn_br _ (fun z => ?_) (fun z => nm_r (nI_1 k) (ih (k + 1) (by omega) ?_)))
    · rw [z] at h; exact h
    · rw [z, Bool.true_and] at h; exact h
theorem tx_can {post : Int32 → Prop} {g : Nat} (T : tx_L ac ae t L) (hg : g < 128) (h : post (tn_b (L.all (tc_lb g)))) : wpX_canAdd post (ac, ae, an, aN, ab, am) (nI t) (nI g) :=
  ⟨L.length + 1, tx_can1 T hg L.length 0 (by omega) h⟩
theorem tx_join1 {post : Int32 → Prop} {s : Nat} (T : tx_L ac ae t L) (hs : s < 128) : ∀ d k b, k + d = L.length → b < 128 → post (nI (tc_jo s (L.drop k) b)) → wX_joinOf_20 post (nI t) (nI s) ac ae an aN ab am (d + 1) (nI b) (nI k) := by
  have l5 := T.2.1
  intro d
  induction d with
  | zero =>
    intro k b hk hb h
    rw [List.drop_eq_nil_of_le (by omega)] at h
    exact ⟨tx_Lv T, pk_le L.length k (fun _ => h) (fun z => absurd z (by omega)) (tx_Lc T)⟩
  | succ d ih =>
    intro k b hk hb h
    have hl : k < L.length := by omega
    have hx : L.getD k 0 < 128 := T.2.2.2.2 _ (tn_gd hl)
    have hd : tc_df s (L.getD k 0) < 128 := tc_dflt hs
    have c1 := tc_co7 (L.getD k 0)
    have c2 := tc_co7 b
    rw [tn_dr hl, tc_jo] at h
    refine ⟨tx_Lv T, pk_le L.length k (fun z => absurd z (by omega)) (fun _ => ⟨tx_Li T hl, nm_r (tx_Le T hl) ?_⟩) (tx_Lc T)⟩
    refine pk_eq (tc_df s (L.getD k 0)) 0 (fun z => tx_ones hx (tx_ones hb (pk_le (tc_co b) (tc_co (L.getD k 0)) (fun y => nm_r (nI_1 k) (ih (k + 1) b (by omega) hb ?_)) (fun y => nm_r (nI_1 k) (ih (k + 1) _ (by omega) hx ?_))))) (fun z => nm_r (nI_1 k) (ih (k + 1) b (by omega) hb ?_)) (tn_df s _)
    · rw [if_neg (fun q => absurd q.2 (by omega))] at h; exact h
    · rw [if_pos ⟨z, y⟩] at h; exact h
    · rw [if_neg (fun q => z q.1)] at h; exact h
theorem tx_joinOf {post : Int32 → Prop} {s : Nat} (T : tx_L ac ae t L) (hs : s < 128) (h : post (nI (tc_jx L s))) : wpX_joinOf post (ac, ae, an, aN, ab, am) (nI t) (nI s) := by
  unfold tc_jx at h
  refine pk_eq s 0 (fun z => ?_) (fun z => tx_ones hs ?_)
  · rw [if_pos (Or.inl z)] at h; exact h
  · by_cases c : tc_co s = 1
    · rw [if_pos (Or.inr c)] at h
      exact br_t ((tn_c1 s).mpr c) h
    · rw [if_neg (fun q => q.elim z c)] at h
      exact br_f (fun q => c ((tn_c1 s).mp q)) ⟨L.length + 1, tx_join1 T hs L.length 0 127 (by omega) (by decide) h⟩
end
/-! the least group that holds a set -/
theorem tc_jol (s : Nat) : ∀ (l : List Nat) (b : Nat), (tc_jo s l b = b ∨ (tc_jo s l b ∈ l ∧ tc_sb s (tc_jo s l b))) ∧ tc_co (tc_jo s l b) ≤ tc_co b ∧ ∀ g, g ∈ l → tc_sb s g → tc_co (tc_jo s l b) ≤ tc_co g
  | [], b => ⟨Or.inl rfl, Nat.le_refl _, fun g h => absurd h List.not_mem_nil⟩
  | g :: l, b => by
    rw [tc_jo]
    by_cases c : tc_df s g = 0 ∧ tc_co g < tc_co b
    · rw [if_pos c]
      obtain ⟨i1, i2, i3⟩ := tc_jol s l g
      refine ⟨Or.inr ?_, by omega, fun x hx sx => ?_⟩
      · rcases i1 with e | ⟨e, f⟩
        · rw [e]; exact ⟨List.mem_cons_self, tc_df0.mp c.1⟩
        · exact ⟨List.mem_cons_of_mem _ e, f⟩
      · rcases List.mem_cons.mp hx with e | e
        · rw [e]; exact i2
        · exact i3 x e sx
    · rw [if_neg c]
      obtain ⟨i1, i2, i3⟩ := tc_jol s l b
      refine ⟨?_, i2, fun x hx sx => ?_⟩
      · rcases i1 with e | ⟨e, f⟩
        · exact Or.inl e
        · exact Or.inr ⟨List.mem_cons_of_mem _ e, f⟩
      · rcases List.mem_cons.mp hx with e | e
        · rw [e] at sx ⊢
          have : ¬ tc_co g < tc_co b := fun q => c ⟨tc_df0.mpr sx, q⟩
          omega
        · exact i3 x e sx
def tc_Lst (H : Nat → Prop) (s J : Nat) : Prop := H J ∧ tc_sb s J ∧ ∀ g, H g → tc_sb s g → tc_co J ≤ tc_co g
theorem tc_Ls1 {H : Nat → Prop} (F : tc_Fm H) {s J J' a : Nat} (sa : s.testBit a = true) (h : tc_Lst H s J) (h' : tc_Lst H s J') : J = J' := by
  rcases tc_lmm (F.2.2.2 J J' h.1 h'.1) (h.2.1 a sa) (h'.2.1 a sa) with x | x
  · exact tc_eqc (F.1 J' h'.1) x (h'.2.2 J h.1 h.2.1)
  · exact (tc_eqc (F.1 J h.1) x (h.2.2 J' h'.1 h'.2.1)).symm
theorem tc_Lcl {H : Nat → Prop} (F : tc_Fm H) {a b c J : Nat} (h : tc_Lst H (2 ^ a ||| 2 ^ b) J) : ¬ J.testBit c = true ↔ tc_cl H a b c := by
  have sa : (2 ^ a ||| 2 ^ b).testBit a = true := tc_bo.mpr (Or.inl (tc_pa a))
  have sb : (2 ^ a ||| 2 ^ b).testBit b = true := tc_bo.mpr (Or.inr (tc_pa b))
  constructor
  · exact fun n => ⟨J, h.1, h.2.1 a sa, h.2.1 b sb, n⟩
  · rintro ⟨x, hx, xa, xb, xc⟩ jc
    have sx : tc_sb (2 ^ a ||| 2 ^ b) x := fun m hm => by
      rcases tc_bo.mp hm with z | z
      · rw [tc_pb z]; exact xa
      · rw [tc_pb z]; exact xb
    rcases tc_lmm (F.2.2.2 J x h.1 hx) (h.2.1 a sa) xa with q | q
    · exact xc (q c jc)
    · rw [tc_eqc (F.1 J h.1) q (h.2.2 x hx sx)] at xc
      exact xc jc
theorem tc_jxl {L : List Nat} (O : tc_OK L) {s : Nat} (hs : s < 128) (h0 : s ≠ 0) : tc_Lst (tc_H L) s (tc_jx L s) := by
  unfold tc_jx
  by_cases c : tc_co s = 1
  · rw [if_pos (Or.inr c)]
    exact ⟨⟨hs, tc_hsi.mpr (Or.inl c)⟩, fun _ z => z, fun g _ hg => tc_com hg⟩
  · rw [if_neg (fun q => q.elim h0 c)]
    obtain ⟨i1, i2, i3⟩ := tc_jol s L 127
    have m127 : tc_H L 127 := ⟨by decide, tc_hsi.mpr (Or.inr (Or.inl rfl))⟩
    refine ⟨?_, ?_, fun g hg sg => ?_⟩
    · rcases i1 with e | ⟨e, _⟩
      · rw [e]; exact m127
      · exact ⟨by have := (O.2.1 _ e).1; omega, tc_hsi.mpr (Or.inr (Or.inr e))⟩
    · rcases i1 with e | ⟨_, e⟩
      · rw [e]; exact tc_s127 hs
      · exact e
    · rcases tc_hsi.mp hg.2 with e | e | e
      · have c2 := tc_com sg
        rw [e] at c2
        have : tc_co s ≠ 0 := fun z => h0 (Nat.eq_of_testBit_eq (fun m => by
          rw [Nat.zero_testBit]
          refine tc_nb (fun w => ?_)
          have := tc_cop (tc_b7 hs w) w
          omega))
        omega
      · rw [e]; exact i2
      · exact i3 g e sg
theorem tc_jyl {L : List Nat} {s : Nat} (hs : s < 128) : tc_Lst (tc_H L) s (tc_jo s (tc_rg.filter (tc_hs L)) 127) ∨ s = 0 := by
  by_cases h0 : s = 0
  · exact Or.inr h0
  refine Or.inl ?_
  obtain ⟨i1, i2, i3⟩ := tc_jol s (tc_rg.filter (tc_hs L)) 127
  refine ⟨?_, ?_, fun g hg sg => ?_⟩
  · rcases i1 with e | ⟨e, _⟩
    · rw [e]; exact ⟨by decide, tc_hsi.mpr (Or.inr (Or.inl rfl))⟩
    · obtain ⟨e1, e2⟩ := List.mem_filter.mp e
      exact ⟨(tc_rgm.mp e1).2, e2⟩
  · rcases i1 with e | ⟨_, e⟩
    · rw [e]; exact tc_s127 hs
    · exact e
  · refine i3 g (List.mem_filter.mpr ⟨tc_rgm.mpr ⟨?_, hg.1⟩, hg.2⟩) sg
    rcases Nat.eq_zero_or_pos g with z | z
    · rw [z] at sg
      exact absurd (Nat.eq_of_testBit_eq (fun m => by
        rw [Nat.zero_testBit]
        exact tc_nb (fun w => tc_0b (sg m w)))) h0
    · exact z
theorem tc_n0 {s : Nat} (h : s ≠ 0) : ∃ a, s.testBit a = true := by
  refine Classical.byContradiction (fun q => h (Nat.eq_of_testBit_eq (fun m => ?_)))
  rw [Nat.zero_testBit]
  exact tc_nb (fun w => q ⟨m, w⟩)
theorem tc_jeq {L : List Nat} (O : tc_OK L) {s : Nat} (hs : s < 128) : tc_jx L s = if s = 0 then 0 else tc_jo s (tc_rg.filter (tc_hs L)) 127 := by
  by_cases h0 : s = 0
  · rw [if_pos h0]
    unfold tc_jx
    rw [if_pos (Or.inl h0)]
    exact h0
  · rw [if_neg h0]
    obtain ⟨a, ha⟩ := tc_n0 h0
    rcases tc_jyl (L := L) hs with q | q
    · exact tc_Ls1 (tc_HF O) ha (tc_jxl O hs h0) q
    · exact absurd q h0
/-! what a tree says of three members -/
theorem tc_cbi {L : List Nat} {a b c : Nat} : tc_cb L a b c = true ↔ tc_cl (tc_H L) a b c := by
  unfold tc_cb
  rw [List.any_eq_true]
  constructor
  · rintro ⟨x, hx, e⟩
    rw [Bool.and_eq_true, Bool.and_eq_true, Bool.and_eq_true, Bool.not_eq_true'] at e
    exact ⟨x, ⟨(tc_rgm.mp hx).2, e.1⟩, e.2.1, e.2.2.1, by rw [e.2.2.2]; decide⟩
  · rintro ⟨x, hx, xa, xb, xc⟩
    refine ⟨x, tc_rgm.mpr ⟨?_, hx.1⟩, ?_⟩
    · exact tc_c1 (tc_cop (tc_b7 hx.1 xa) xa)
    · rw [Bool.and_eq_true, Bool.and_eq_true, Bool.and_eq_true, Bool.not_eq_true']
      exact ⟨hx.2, xa, xb, tc_nb xc⟩
theorem tc_cls {H : Nat → Prop} {a b c : Nat} (h : tc_cl H a b c) : tc_cl H b a c := by
  obtain ⟨x, h1, h2, h3, h4⟩ := h
  exact ⟨x, h1, h3, h2, h4⟩
theorem tc_cx {H : Nat → Prop} (F : tc_Fm H) {a b c : Nat} (h : tc_cl H a b c) (h' : tc_cl H a c b) : False := by
  obtain ⟨x, h1, h2, h3, h4⟩ := h
  obtain ⟨y, k1, k2, k3, k4⟩ := h'
  rcases tc_lmm (F.2.2.2 x y h1 k1) h2 k2 with s | s
  · exact k4 (s b h3)
  · exact h4 (s c k3)
theorem tc_syx {L : List Nat} (O : tc_OK L) (a b c : Nat) : tc_sy L a b c = if tc_cb L a b c = true then 2 else if tc_cb L a c b = true then 1 else if tc_cb L b c a = true then 0 else 3 := by
  have F := tc_HF O
  unfold tc_sy
  by_cases x : tc_cb L b c a = true
  · have y : ¬ tc_cb L a c b = true := fun z => tc_cx F (tc_cls (tc_cbi.mp x)) (tc_cls (tc_cbi.mp z))
    have w : ¬ tc_cb L a b c = true := fun z => tc_cx F (tc_cbi.mp x) (tc_cls (tc_cbi.mp z))
    rw [if_pos x, if_neg w, if_neg y, if_pos x]
  · rw [if_neg x]
    by_cases y : tc_cb L a c b = true
    · have w : ¬ tc_cb L a b c = true := fun z => tc_cx F (tc_cbi.mp y) (tc_cbi.mp z)
      rw [if_pos y, if_neg w, if_pos y]
    · rw [if_neg y, if_neg y, if_neg x]
theorem tx_last {ac ae an aN ab am : Nat → Int32} {t : Nat} {L : List Nat} {post : Int32 → Prop} {a b c : Nat} (T : tx_L ac ae t L) (O : tc_OK L) (ha : a < 7) (hb : b < 7) (hc : c < 7) (h : post (nI (tc_sy L a b c))) : wpX_lastOf post (ac, ae, an, aN, ab, am) (nI t) (nI a) (nI b) (nI c) := by
  have F := tc_HF O
  have key : ∀ x y, x < 7 → y < 7 → 2 ^ x ||| 2 ^ y < 128 ∧ tc_Lst (tc_H L) (2 ^ x ||| 2 ^ y) (tc_jx L (2 ^ x ||| 2 ^ y)) := by
    intro x y hx hy
    have k : 2 ^ x ||| 2 ^ y < 128 := tc_orlt (Nat.pow_lt_pow_right (by decide) hx) (Nat.pow_lt_pow_right (by decide) hy)
    refine ⟨k, tc_jxl O k (fun e => ?_)⟩
    have q : (2 ^ x ||| 2 ^ y).testBit x = true := tc_bo.mpr (Or.inl (tc_pa x))
    rw [e] at q
    exact tc_0b q
  have br : ∀ x y z, x < 7 → y < 7 → z < 7 → ((nI (tc_jx L (2 ^ x ||| 2 ^ y)) >>> (nI z &&& 31)) &&& 1 = 0 ↔ tc_cb L x y z = true) := by
    intro x y z hx hy hz
    obtain ⟨_, l⟩ := key x y hx hy
    rw [tn_bit0 l.1.1 (by omega), tc_cbi, ← tc_Lcl F l]
    cases (tc_jx L (2 ^ x ||| 2 ^ y)).testBit z <;> simp
  rw [tc_syx O] at h
  unfold wpX_lastOf
  dsimp only
  rw [tn_pw (r := a) (by omega), tn_pw (r := b) (by omega), tn_pw (r := c) (by omega), tn_or, tn_or, tn_or]
  refine tx_joinOf T (key a b ha hb).1 (br_c (fun z => ?_) (fun z => tx_joinOf T (key a c ha hc).1 (br_c (fun y => ?_) (fun y => tx_joinOf T (key b c hb hc).1 (br_c (fun x => ?_) (fun x => ?_))))))
  · rw [if_pos ((br a b c ha hb hc).mp z)] at h; exact h
  · rw [if_neg (fun q => z ((br a b c ha hb hc).mpr q)), if_pos ((br a c b ha hc hb).mp y)] at h; exact h
  · rw [if_neg (fun q => z ((br a b c ha hb hc).mpr q)), if_neg (fun q => y ((br a c b ha hc hb).mpr q)), if_pos ((br b c a hb hc ha).mp x)] at h; exact h
  · rw [if_neg (fun q => z ((br a b c ha hb hc).mpr q)), if_neg (fun q => y ((br a c b ha hc hb).mpr q)), if_neg (fun q => x ((br b c a hb hc ha).mpr q))] at h; exact h
end
section
/-! the reference: cells, what fits, what is closer -/
def ty_H (ah : Nat → Int32) (t : Nat) (L : List Nat) : Prop := t < 2 ∧ ∀ g, 1 ≤ g → g < 128 → ah (128 * t + g) = tn_b (tc_hs L g)
def tc_ft (L : List Nat) (q x : Nat) : Bool := !(tc_hs L x && !tc_lb x q)
def tc_fit (L : List Nat) (q : Nat) : Bool := tc_rg.all (tc_ft L q)
theorem tn_128 {g d : Nat} (h : g + d = 128) : ((128 : Int32) ≤ nI g ↔ d = 0) := by
  have := nI_leI (a := 128) (b := g) (by decide) (by omega)
  constructor
  · intro z
    have := this.mp z
    omega
  · intro z
    exact this.mpr (by omega)
theorem tn_rs (g d : Nat) : List.range' g (d + 1) = g :: List.range' (g + 1) d := List.range'_succ
section
variable {ah : Nat → Int32} {t : Nat} {L : List Nat}
theorem ty_Hi (T : ty_H ah t L) {g : Nat} (h2 : g < 128) : vp_in (128 * nI t + nI g) 256 := by
  have := T.1
  rw [tn_ix128]
  exact vp_in_nI (by omega) (by decide)
theorem ty_He (T : ty_H ah t L) {g : Nat} (h1 : 1 ≤ g) (h2 : g < 128) : ah (128 * nI t + nI g).toNatClampNeg = tn_b (tc_hs L g) := by
  have := T.1
  rw [tn_ix128, nI_clamp (by omega)]
  exact T.2 g h1 h2
theorem ty_fit1 {post : Int32 → Prop} {q : Nat} (T : ty_H ah t L) (hq : q < 128) : ∀ d g b, g + d = 128 → 1 ≤ g → post (tn_b (b && (List.range' g d).all (tc_ft L q))) → wY_fits_5 post (nI t) (nI q) ah (d + 1) (tn_b b) (nI g) := by
  intro d
  induction d with
  | zero =>
    intro g b hg h1 h
    rw [show (List.range' g 0).all (tc_ft L q) = true from rfl, Bool.and_true] at h
    exact br_t ((tn_128 hg).mpr rfl) ⟨tn_nar b, h⟩
  | succ d ih =>
    intro g b hg h1 h
    rw [tn_rs, List.all_cons] at h
    refine br_f (fun z => by have := (tn_128 hg).mp z; omega) (tn_br b (fun z => nm_r (nI_1 g) ?_) (fun z => ⟨ty_Hi T (by omega), ?_⟩))
    · rw [z, Bool.false_and] at h
      exact ih (g + 1) false (by omega) (by omega) (by rw [Bool.false_and]; exact h)
    · rw [z, Bool.true_and] at h
      rw [ty_He T h1 (by omega)]
      refine tn_br _ (fun y => nm_r (nI_1 g) (ih (g + 1) true (by omega) (by omega) ?_)) (fun y => ty_cross (by omega) hq (tn_br _ (fun x => nm_r (nI_1 g) (ih (g + 1) true (by omega) (by omega) ?_)) (fun x => nm_r (nI_1 g) (ih (g + 1) false (by omega) (by omega) ?_))))
      · have e : tc_ft L q g = true := by unfold tc_ft; rw [y]; rfl
        rw [e] at h; exact h
      · have e : tc_ft L q g = true := by unfold tc_ft; rw [x, Bool.and_false]; rfl
        rw [e] at h; exact h
      · have e : tc_ft L q g = false := by unfold tc_ft; rw [x, y]; rfl
        rw [e] at h; exact h
theorem ty_fits {post : Int32 → Prop} {q : Nat} (T : ty_H ah t L) (hq : q < 128) (h : post (tn_b (tc_fit L q))) : wpY_fits post ah (nI t) (nI q) :=
  ⟨128, ty_fit1 T hq 127 1 true (by decide) (by decide) h⟩
theorem ty_cl1 {post : Int32 → Prop} {a b c : Nat} (T : ty_H ah t L) (ha : a < 7) (hb : b < 7) (hc : c < 7) : ∀ d g f, g + d = 128 → 1 ≤ g → post (tn_b (f || (List.range' g d).any (fun g => tc_hs L g && (g.testBit a && (g.testBit b && !g.testBit c))))) → wY_closer_6 post (nI t) (nI a) (nI b) (nI c) ah (d + 1) (tn_b f) (nI g) := by
  intro d
  induction d with
  | zero =>
    intro g f hg h1 h
    rw [show (List.range' g 0).any (fun g => tc_hs L g && (g.testBit a && (g.testBit b && !g.testBit c))) = false from rfl, Bool.or_false] at h
    exact br_t ((tn_128 hg).mpr rfl) ⟨tn_nar f, h⟩
  | succ d ih =>
    intro g f hg h1 h
    have g8 : g < 128 := by omega
    rw [tn_rs, List.any_cons] at h
    refine br_f (fun z => by have := (tn_128 hg).mp z; omega) (tn_br f (fun z => ⟨ty_Hi T g8, ?_⟩) (fun z => nm_r (nI_1 g) ?_))
    · rw [z, Bool.false_or] at h
      rw [ty_He T h1 g8]
      refine tn_br _ (fun y => nm_r (nI_1 g) (ih (g + 1) false (by omega) (by omega) ?_)) (fun y => br_c (fun x => br_c (fun w => br_c (fun v => nm_r (nI_1 g) (ih (g + 1) true (by omega) (by omega) ?_)) (fun v => nm_r (nI_1 g) (ih (g + 1) false (by omega) (by omega) ?_))) (fun w => nm_r (nI_1 g) (ih (g + 1) false (by omega) (by omega) ?_))) (fun x => nm_r (nI_1 g) (ih (g + 1) false (by omega) (by omega) ?_)))
      · rw [y, Bool.false_and] at h; exact h
      · rw [y, (tn_bit1 g8 (by omega)).mp x, (tn_bit1 g8 (by omega)).mp w, (tn_bit0 g8 (by omega)).mp v] at h; exact h
      · have v' : g.testBit c = true := by
          cases e : g.testBit c with
          | true => rfl
          | false => exact absurd ((tn_bit0 g8 (by omega)).mpr e) v
        rw [y, (tn_bit1 g8 (by omega)).mp x, (tn_bit1 g8 (by omega)).mp w, v'] at h; exact h
      · have w' : g.testBit b = false := tc_nb (fun e => w ((tn_bit1 g8 (by omega)).mpr e))
        rw [y, (tn_bit1 g8 (by omega)).mp x, w'] at h; exact h
      · have x' : g.testBit a = false := tc_nb (fun e => x ((tn_bit1 g8 (by omega)).mpr e))
        rw [y, x'] at h; exact h
    · rw [z, Bool.true_or] at h
      exact ih (g + 1) true (by omega) (by omega) (by rw [Bool.true_or]; exact h)
theorem ty_closer {post : Int32 → Prop} {a b c : Nat} (T : ty_H ah t L) (ha : a < 7) (hb : b < 7) (hc : c < 7) (h : post (tn_b (tc_cb L a b c))) : wpY_closer post ah (nI t) (nI a) (nI b) (nI c) :=
  ⟨128, ty_cl1 T ha hb hc 127 1 false (by decide) (by decide) h⟩
theorem ty_says {post : Int32 → Prop} {a b c : Nat} (T : ty_H ah t L) (ha : a < 7) (hb : b < 7) (hc : c < 7) (n1 : a ≠ b) (n2 : a ≠ c) (n3 : b ≠ c) (h : post (nI (tc_sy L a b c))) : wpY_says post ah (nI t) (nI a) (nI b) (nI c) := by
  have q : ∀ {x y : Nat}, x < 7 → y < 7 → x ≠ y → ¬ nI x = nI y := fun hx hy n e => n ((nI_eq (by omega) (by omega)).mp e)
  unfold tc_sy at h
  unfold wpY_says
  refine ty_tree1 T.1 (br_f (by decide) (ty_mem1 ha (br_f (by decide) (ty_mem1 hb (br_f (by decide) (ty_mem1 hc (br_f (by decide) (br_f (q ha hb n1) (br_f (q ha hc n2) (br_f (q hb hc n3) ?_))))))))))
  refine ty_closer T hb hc ha (tn_br _ (fun x => ty_closer T ha hc hb (tn_br _ (fun y => ty_closer T ha hb hc (tn_br _ (fun z => ?_) (fun z => ?_))) (fun y => ?_))) (fun x => ?_))
  · rw [x, y, z] at h; exact h
  · rw [x, y, z] at h; exact h
  · rw [x, y] at h; exact h
  · rw [x] at h; exact h
end
/-! the three members of a set of three -/
def ty_ab (s : Nat) : Nat → Nat → Int32 → Int32 → Int32 → Int32 × Int32 × Int32
  | 0, _, a, b, c => (a, b, c)
  | d + 1, m, a, b, c => if s.testBit m = true then ty_ab s d (m + 1) b c (nI m) else ty_ab s d (m + 1) a b c
def tc_ix (s : Nat) : Nat := 49 * (ty_ab s 7 0 (-1) (-1) (-1)).1.toNatClampNeg + 7 * (ty_ab s 7 0 (-1) (-1) (-1)).2.1.toNatClampNeg + (ty_ab s 7 0 (-1) (-1) (-1)).2.2.toNatClampNeg
def tc_tri (i : Nat) : Bool := decide (i / 49 < i / 7 % 7) && decide (i / 7 % 7 < i % 7)
def tc_mk (i : Nat) : Nat := 2 ^ (i / 49) ||| 2 ^ (i / 7 % 7) ||| 2 ^ (i % 7)
theorem tc_tb1 : ∀ s, s < 128 → tc_co s = 3 → tc_ix s < 343 ∧ tc_tri (tc_ix s) = true ∧ tc_mk (tc_ix s) = s ∧ ty_ab s 7 0 (-1) (-1) (-1) = (nI (tc_ix s / 49), nI (tc_ix s / 7 % 7), nI (tc_ix s % 7)) := by decide +kernel
theorem tc_tb2 : ∀ i, i < 343 → tc_tri i = true → tc_mk i < 128 ∧ tc_co (tc_mk i) = 3 ∧ tc_ix (tc_mk i) = i := by decide +kernel
def tc_ss (L : List Nat) (s : Nat) : Nat := tc_sy L (tc_ix s / 49) (tc_ix s / 7 % 7) (tc_ix s % 7)
theorem ty_ab1 {post : Int32 → Prop} {ah : Nat → Int32} {x1 : Int32} {s : Nat} (hs : s < 128) : ∀ d m a b c, m + d = 7 → wpY_says (fun r => post r) ah x1 (ty_ab s d m a b c).1 (ty_ab s d m a b c).2.1 (ty_ab s d m a b c).2.2 → wY_about_11 post x1 (nI s) ah (d + 1) a b c (nI m) := by
  intro d
  induction d with
  | zero =>
    intro m a b c hm h
    exact br_t (nI_le (a := 7) (by omega) (by omega)) h
  | succ d ih =>
    intro m a b c hm h
    rw [ty_ab] at h
    refine br_f (nI_ge (b := 7) (by omega) (by decide)) (br_c (fun z => nm_r (nI_1 m) (ih (m + 1) _ _ _ (by omega) ?_)) (fun z => nm_r (nI_1 m) (ih (m + 1) _ _ _ (by omega) ?_)))
    · rw [if_pos ((tn_bit1 hs (by omega)).mp z)] at h; exact h
    · rw [if_neg (fun e => z ((tn_bit1 hs (by omega)).mpr e))] at h; exact h
theorem ty_about {post : Int32 → Prop} {ah : Nat → Int32} {t s : Nat} {L : List Nat} (T : ty_H ah t L) (hs : s < 128) (h3 : tc_co s = 3) (h : post (nI (tc_ss L s))) : wpY_about post ah (nI t) (nI s) := by
  obtain ⟨i1, i2, i3, i4⟩ := tc_tb1 s hs h3
  refine ⟨8, ty_ab1 hs 7 0 (-1) (-1) (-1) (by decide) ?_⟩
  rw [i4]
  unfold tc_tri at i2
  rw [Bool.and_eq_true, decide_eq_true_eq, decide_eq_true_eq] at i2
  exact ty_says T (by omega) (by omega) (by omega) (by omega) (by omega) (by omega) h
end
section
/-! the reference: its loops over all sets -/
def ty_f1 (p : Nat → Bool) (g : Nat) : Nat := if p g = true then 1 else 0
theorem ty_f10 {p : Nat → Bool} {g : Nat} (h : p g = false) : ty_f1 p g = 0 := by unfold ty_f1; rw [h]; rfl
theorem ty_f11 {p : Nat → Bool} {g : Nat} (h : p g = true) : ty_f1 p g = 1 := by unfold ty_f1; rw [h]; rfl
theorem tn_s0 {post : Int32 → Prop} {p : Nat → Bool} {g c S : Nat} (e : p g = false) (h : post (nI (c + (ty_f1 p g + S)))) : post (nI (c + S)) := by
  rw [ty_f10 e, Nat.zero_add] at h; exact h
theorem tn_s1 {post : Int32 → Prop} {p : Nat → Bool} {g c S : Nat} (e : p g = true) (h : post (nI (c + (ty_f1 p g + S)))) : post (nI (c + 1 + S)) := by
  rw [ty_f11 e, ← Nat.add_assoc] at h; exact h
section
variable {ah : Nat → Int32} {t : Nat} {L : List Nat} {post : Int32 → Prop}
theorem ty_gr1 (T : ty_H ah t L) : ∀ d g c, g + d = 128 → 1 ≤ g → post (nI (c + tc_sm (ty_f1 (tc_hs L)) (List.range' g d))) → wY_groups_4 post (nI t) ah (d + 1) (nI c) (nI g) := by
  intro d
  induction d with
  | zero =>
    intro g c hg h1 h
    exact br_t ((tn_128 hg).mpr rfl) (ty_tree1 T.1 (br_f (by decide) h))
  | succ d ih =>
    intro g c hg h1 h
    rw [tn_rs, tc_sm] at h
    refine br_f (fun z => by have := (tn_128 hg).mp z; omega) (ty_tree1 T.1 (br_f (by decide) ⟨ty_Hi T (by omega), ?_⟩))
    rw [ty_He T h1 (by omega)]
    exact tn_br _ (fun y => nm_r (nI_1 g) (ih (g + 1) c (by omega) (by omega) (tn_s0 y h))) (fun y => nm_r (nI_1 c) (nm_r (nI_1 g) (ih (g + 1) (c + 1) (by omega) (by omega) (tn_s1 y h))))
theorem ty_groups (T : ty_H ah t L) (h : post (nI (tc_sm (ty_f1 (tc_hs L)) tc_rg))) : wpY_groups post ah (nI t) :=
  ⟨128, ty_gr1 T 127 1 0 (by decide) (by decide) (by rw [Nat.zero_add]; exact h)⟩
theorem ty_groups0 {x : Int32} (n : x ≠ 0 ∧ x ≠ 1) (h : post (-1)) : wpY_groups post ah x :=
  ⟨1, br_f (by decide) (ty_tree0 n (br_t rfl (ty_tree0 n (br_t rfl h))))⟩
theorem ty_jo1 {s : Nat} (T : ty_H ah t L) (hs : s < 128) : ∀ d g b, g + d = 128 → 1 ≤ g → b < 128 → post (nI (if s = 0 then 0 else tc_jo s ((List.range' g d).filter (tc_hs L)) b)) → wY_join_26 post (nI t) (nI s) ah (d + 1) (nI b) (nI g) := by
  intro d
  induction d with
  | zero =>
    intro g b hg h1 hb h
    refine br_t ((tn_128 hg).mpr rfl) (pk_eq s 0 (fun z => ?_) (fun z => ?_))
    · rw [if_pos z] at h; exact h
    · rw [if_neg z] at h; exact h
  | succ d ih =>
    intro g b hg h1 hb h
    have g8 : g < 128 := by omega
    have hd : tc_df s g < 128 := tc_dflt hs
    have c1 := tc_co7 g
    have c2 := tc_co7 b
    rw [tn_rs] at h
    refine br_f (fun z => by have := (tn_128 hg).mp z; omega) ⟨ty_Hi T g8, ?_⟩
    rw [ty_He T h1 g8]
    refine tn_br _ (fun y => nm_r (nI_1 g) (ih (g + 1) b (by omega) (by omega) hb ?_)) (fun y => pk_eq (tc_df s g) 0 (fun z => ty_count g8 (ty_count hb (pk_le (tc_co b) (tc_co g) (fun x => nm_r (nI_1 g) (ih (g + 1) b (by omega) (by omega) hb ?_)) (fun x => nm_r (nI_1 g) (ih (g + 1) g (by omega) (by omega) g8 ?_))))) (fun z => nm_r (nI_1 g) (ih (g + 1) b (by omega) (by omega) hb ?_)) (tn_df s g))
    · rw [List.filter_cons_of_neg (by rw [y]; decide)] at h; exact h
    · rw [List.filter_cons_of_pos y, tc_jo, if_neg (c := tc_df s g = 0 ∧ tc_co g < tc_co b) (fun q => absurd q.2 (by omega))] at h; exact h
    · rw [List.filter_cons_of_pos y, tc_jo, if_pos (c := tc_df s g = 0 ∧ tc_co g < tc_co b) ⟨z, x⟩] at h; exact h
    · rw [List.filter_cons_of_pos y, tc_jo, if_neg (c := tc_df s g = 0 ∧ tc_co g < tc_co b) (fun q => z q.1)] at h; exact h
theorem ty_join {s : Nat} (T : ty_H ah t L) (hs : s < 128) (h : post (nI (if s = 0 then 0 else tc_jo s (tc_rg.filter (tc_hs L)) 127))) : wpY_join post ah (nI t) (nI s) := by
  unfold wpY_join
  exact ty_tree1 T.1 (br_f (by decide) (br_f (nI_pos (by omega)) (br_t (nI_le (b := 127) (by omega) (by decide)) ⟨128, ty_jo1 T hs 127 1 127 (by decide) (by decide) (by decide) h⟩)))
def ty_pd (L : List Nat) (s : Nat) : Bool := tc_co s == 3 && tc_ss L s != 3
theorem tn_sy (L : List Nat) (a b c : Nat) : tc_sy L a b c ≤ 3 := by
  unfold tc_sy
  split
  · decide
  · split
    · decide
    · split <;> decide
theorem tn_ss (L : List Nat) (s : Nat) : tc_ss L s ≤ 3 := tn_sy _ _ _ _
theorem ty_de1 (T : ty_H ah t L) : ∀ d g c, g + d = 128 → post (nI (c + tc_sm (ty_f1 (ty_pd L)) (List.range' g d))) → wY_decided_4 post (nI t) ah (d + 1) (nI c) (nI g) := by
  intro d
  induction d with
  | zero =>
    intro g c hg h
    exact br_t ((tn_128 hg).mpr rfl) (ty_tree1 T.1 (br_f (by decide) h))
  | succ d ih =>
    intro g c hg h
    have g8 : g < 128 := by omega
    have c1 := tc_co7 g
    have c2 := tn_ss L g
    rw [tn_rs, tc_sm] at h
    refine br_f (fun z => by have := (tn_128 hg).mp z; omega) (ty_tree1 T.1 (br_f (by decide) (ty_count g8 (pk_eq (tc_co g) 3 (fun y => ty_about T g8 y (pk_eq (tc_ss L g) 3 (fun x => nm_r (nI_1 g) (ih (g + 1) c (by omega) (tn_s0 ?_ h))) (fun x => nm_r (nI_1 c) (nm_r (nI_1 g) (ih (g + 1) (c + 1) (by omega) (tn_s1 ?_ h)))))) (fun y => nm_r (nI_1 g) (ih (g + 1) c (by omega) (tn_s0 ?_ h)))))))
    · unfold ty_pd; rw [x, Bool.and_eq_false_iff]; exact Or.inr rfl
    · unfold ty_pd; rw [y, bne_iff_ne.mpr x]; rfl
    · unfold ty_pd; rw [beq_false_of_ne y]; rfl
theorem ty_decided (T : ty_H ah t L) (h : post (nI (tc_sm (ty_f1 (ty_pd L)) (List.range' 0 128)))) : wpY_decided post ah (nI t) :=
  ⟨129, ty_de1 T 128 0 0 (by decide) (by rw [Nat.zero_add]; exact h)⟩
theorem ty_decided0 {x : Int32} (n : x ≠ 0 ∧ x ≠ 1) (h : post (-1)) : wpY_decided post ah x :=
  ⟨1, br_f (by decide) (ty_tree0 n (br_t rfl (ty_tree0 n (br_t rfl h))))⟩
def ty_dp (L : List Nat) (m g : Nat) : Bool := tc_hs L g && g.testBit m
theorem ty_dp1 {m : Nat} (T : ty_H ah t L) (hm : m < 7) : ∀ d g c, g + d = 128 → 1 ≤ g → post (nI (c + tc_sm (ty_f1 (ty_dp L m)) (List.range' g d))) → wY_depth_5 post (nI t) (nI m) ah (d + 1) (nI c) (nI g) := by
  intro d
  induction d with
  | zero =>
    intro g c hg h1 h
    exact br_t ((tn_128 hg).mpr rfl) (ty_tree1 T.1 (br_f (by decide) (ty_mem1 hm (br_f (by decide) h))))
  | succ d ih =>
    intro g c hg h1 h
    have g8 : g < 128 := by omega
    rw [tn_rs, tc_sm] at h
    refine br_f (fun z => by have := (tn_128 hg).mp z; omega) (ty_tree1 T.1 (br_f (by decide) (ty_mem1 hm (br_f (by decide) ⟨ty_Hi T g8, ?_⟩))))
    rw [ty_He T h1 g8]
    refine tn_br _ (fun y => nm_r (nI_1 g) (ih (g + 1) c (by omega) (by omega) (tn_s0 ?_ h))) (fun y => br_c (fun x => nm_r (nI_1 c) (nm_r (nI_1 g) (ih (g + 1) (c + 1) (by omega) (by omega) (tn_s1 ?_ h)))) (fun x => nm_r (nI_1 g) (ih (g + 1) c (by omega) (by omega) (tn_s0 ?_ h))))
    · unfold ty_dp; rw [y]; rfl
    · unfold ty_dp; rw [y, (tn_bit1 g8 (by omega)).mp x]; rfl
    · unfold ty_dp; rw [y, tc_nb (fun e => x ((tn_bit1 g8 (by omega)).mpr e))]; rfl
theorem ty_depth {m : Nat} (T : ty_H ah t L) (hm : m < 7) (h : post (nI (tc_sm (ty_f1 (ty_dp L m)) tc_rg))) : wpY_depth post ah (nI t) (nI m) :=
  ⟨128, ty_dp1 T hm 127 1 0 (by decide) (by decide) (by rw [Nat.zero_add]; exact h)⟩
theorem ty_depth0 {x y : Int32} (n : x ≠ 0 ∧ x ≠ 1) (h : post (-1)) : wpY_depth post ah x y :=
  ⟨1, br_f (by decide) (ty_tree0 n (br_t rfl (ty_tree0 n (br_t rfl h))))⟩
theorem ty_depthm {y : Int32} (ht : t < 2) (n : y < 0 ∨ (¬ y < 0 ∧ 7 ≤ y ∧ 6 < y)) (h : post (-1)) : wpY_depth post ah (nI t) y :=
  ⟨1, br_f (by decide) (ty_tree1 ht (br_f (by decide) (ty_memn n (br_t rfl (ty_tree1 ht (br_f (by decide) (ty_memn n (br_t rfl h))))))))⟩
def ty_rm (L : List Nat) (g : Nat) : Bool := !tc_hs L g && tc_fit L g
theorem ty_rm1 (T : ty_H ah t L) : ∀ d g c, g + d = 128 → 1 ≤ g → post (nI (c + tc_sm (ty_f1 (ty_rm L)) (List.range' g d))) → wY_room_4 post (nI t) ah (d + 1) (nI c) (nI g) := by
  intro d
  induction d with
  | zero =>
    intro g c hg h1 h
    exact br_t ((tn_128 hg).mpr rfl) (ty_tree1 T.1 (br_f (by decide) h))
  | succ d ih =>
    intro g c hg h1 h
    have g8 : g < 128 := by omega
    rw [tn_rs, tc_sm] at h
    refine br_f (fun z => by have := (tn_128 hg).mp z; omega) (ty_tree1 T.1 (br_f (by decide) ⟨ty_Hi T g8, ?_⟩))
    rw [ty_He T h1 g8]
    refine tn_br _ (fun y => ty_fits T g8 (tn_br _ (fun x => nm_r (nI_1 g) (ih (g + 1) c (by omega) (by omega) (tn_s0 ?_ h))) (fun x => nm_r (nI_1 c) (nm_r (nI_1 g) (ih (g + 1) (c + 1) (by omega) (by omega) (tn_s1 ?_ h)))))) (fun y => nm_r (nI_1 g) (ih (g + 1) c (by omega) (by omega) (tn_s0 ?_ h)))
    · unfold ty_rm; rw [y, x]; rfl
    · unfold ty_rm; rw [y, x]; rfl
    · unfold ty_rm; rw [y]; rfl
theorem ty_room (T : ty_H ah t L) (h : post (nI (tc_sm (ty_f1 (ty_rm L)) tc_rg))) : wpY_room post ah (nI t) :=
  ⟨128, ty_rm1 T 127 1 0 (by decide) (by decide) (by rw [Nat.zero_add]; exact h)⟩
theorem ty_room0 {x : Int32} (n : x ≠ 0 ∧ x ≠ 1) (h : post (-1)) : wpY_room post ah x :=
  ⟨1, br_f (by decide) (ty_tree0 n (br_t rfl (ty_tree0 n (br_t rfl h))))⟩
end
/-! both trees -/
theorem tn_bb (a b : Bool) : tn_b a = tn_b b ↔ a = b := by cases a <;> cases b <;> decide
section
variable {ah : Nat → Int32} {K L : List Nat} {post : Int32 → Prop}
theorem ty_i0 {g : Nat} (h2 : g < 128) : vp_in (nI g) 256 := vp_in_nI (by omega) (by decide)
theorem ty_i1 {g : Nat} (h2 : g < 128) : vp_in (128 + nI g) 256 := by
  show vp_in (nI 128 + nI g) 256
  rw [nI_add]
  exact vp_in_nI (by omega) (by decide)
theorem ty_e0 (T : ty_H ah 0 K) {g : Nat} (h1 : 1 ≤ g) (h2 : g < 128) : ah (nI g).toNatClampNeg = tn_b (tc_hs K g) := by
  rw [nI_clamp (by omega)]
  have := T.2 g h1 h2
  rw [Nat.mul_zero, Nat.zero_add] at this
  exact this
theorem ty_e1 (T : ty_H ah 1 L) {g : Nat} (h1 : 1 ≤ g) (h2 : g < 128) : ah (128 + nI g).toNatClampNeg = tn_b (tc_hs L g) := by
  show ah (nI 128 + nI g).toNatClampNeg = _
  rw [nI_add, nI_clamp (by omega)]
  exact T.2 g h1 h2
def ty_pg (K L : List Nat) (g : Nat) : Bool := tc_hs K g != tc_hs L g
theorem ty_gd1 (T : ty_H ah 0 K) (U : ty_H ah 1 L) : ∀ d g c, g + d = 128 → 1 ≤ g → post (nI (c + tc_sm (ty_f1 (ty_pg K L)) (List.range' g d))) → wY_groupDistance_4 post ah (d + 1) (nI c) (nI g) := by
  intro d
  induction d with
  | zero =>
    intro g c hg h1 h
    exact br_t ((tn_128 hg).mpr rfl) h
  | succ d ih =>
    intro g c hg h1 h
    have g8 : g < 128 := by omega
    rw [tn_rs, tc_sm] at h
    refine br_f (fun z => by have := (tn_128 hg).mp z; omega) ⟨ty_i0 g8, ty_i1 g8, ?_⟩
    rw [ty_e0 T h1 g8, ty_e1 U h1 g8]
    refine br_c (fun y => nm_r (nI_1 g) (ih (g + 1) c (by omega) (by omega) (tn_s0 ?_ h))) (fun y => nm_r (nI_1 c) (nm_r (nI_1 g) (ih (g + 1) (c + 1) (by omega) (by omega) (tn_s1 ?_ h))))
    · unfold ty_pg; rw [(tn_bb _ _).mp y]; cases tc_hs L g <;> rfl
    · unfold ty_pg; exact bne_iff_ne.mpr (fun e => y ((tn_bb _ _).mpr e))
theorem ty_groupD (T : ty_H ah 0 K) (U : ty_H ah 1 L) (h : post (nI (tc_sm (ty_f1 (ty_pg K L)) tc_rg))) : wpY_groupDistance post ah :=
  ⟨128, ty_gd1 T U 127 1 0 (by decide) (by decide) (by rw [Nat.zero_add]; exact h)⟩
def ty_pc (K L : List Nat) (g : Nat) : Bool := tc_hs K g && tc_hs L g
theorem ty_co1 (T : ty_H ah 0 K) (U : ty_H ah 1 L) : ∀ d g c, g + d = 128 → 1 ≤ g → post (nI (c + tc_sm (ty_f1 (ty_pc K L)) (List.range' g d))) → wY_common_4 post ah (d + 1) (nI c) (nI g) := by
  intro d
  induction d with
  | zero =>
    intro g c hg h1 h
    exact br_t ((tn_128 hg).mpr rfl) h
  | succ d ih =>
    intro g c hg h1 h
    have g8 : g < 128 := by omega
    rw [tn_rs, tc_sm] at h
    refine br_f (fun z => by have := (tn_128 hg).mp z; omega) ⟨ty_i0 g8, ?_⟩
    rw [ty_e0 T h1 g8]
    refine tn_br _ (fun y => nm_r (nI_1 g) (ih (g + 1) c (by omega) (by omega) (tn_s0 ?_ h))) (fun y => ⟨ty_i1 g8, ?_⟩)
    · unfold ty_pc; rw [y]; rfl
    · rw [ty_e1 U h1 g8]
      refine tn_br _ (fun x => nm_r (nI_1 g) (ih (g + 1) c (by omega) (by omega) (tn_s0 ?_ h))) (fun x => nm_r (nI_1 c) (nm_r (nI_1 g) (ih (g + 1) (c + 1) (by omega) (by omega) (tn_s1 ?_ h))))
      · unfold ty_pc; rw [y, x]; rfl
      · unfold ty_pc; rw [y, x]; rfl
theorem ty_common (T : ty_H ah 0 K) (U : ty_H ah 1 L) (h : post (nI (tc_sm (ty_f1 (ty_pc K L)) tc_rg))) : wpY_common post ah :=
  ⟨128, ty_co1 T U 127 1 0 (by decide) (by decide) (by rw [Nat.zero_add]; exact h)⟩
def ty_pt (K L : List Nat) (s : Nat) : Bool := tc_co s == 3 && tc_ss K s != tc_ss L s
theorem ty_ptt {K L : List Nat} {s : Nat} (y : tc_co s = 3) (x : tc_ss K s ≠ tc_ss L s) : ty_pt K L s = true := by
  unfold ty_pt; rw [y, bne_iff_ne.mpr x]; rfl
theorem ty_ptf {K L : List Nat} {s : Nat} (x : tc_ss K s = tc_ss L s) : ty_pt K L s = false := by
  unfold ty_pt; rw [x, Bool.and_eq_false_iff]; exact Or.inr (by rw [bne_self_eq_false])
theorem ty_ptn {K L : List Nat} {s : Nat} (y : tc_co s ≠ 3) : ty_pt K L s = false := by
  unfold ty_pt; rw [beq_false_of_ne y]; rfl
theorem ty_td1 (T : ty_H ah 0 K) (U : ty_H ah 1 L) : ∀ d g c, g + d = 128 → post (nI (c + tc_sm (ty_f1 (ty_pt K L)) (List.range' g d))) → wY_tripleDistance_4 post ah (d + 1) (nI c) (nI g) := by
  intro d
  induction d with
  | zero =>
    intro g c hg h
    exact br_t ((tn_128 hg).mpr rfl) h
  | succ d ih =>
    intro g c hg h
    have g8 : g < 128 := by omega
    have c1 := tc_co7 g
    have c2 := tn_ss K g
    have c3 := tn_ss L g
    rw [tn_rs, tc_sm] at h
    exact br_f (fun z => by have := (tn_128 hg).mp z; omega) (ty_count g8 (pk_eq (tc_co g) 3 (fun y => ty_about T g8 y (ty_about U g8 y (pk_eq (tc_ss K g) (tc_ss L g) (fun x => nm_r (nI_1 g) (ih (g + 1) c (by omega) (tn_s0 (ty_ptf x) h))) (fun x => nm_r (nI_1 c) (nm_r (nI_1 g) (ih (g + 1) (c + 1) (by omega) (tn_s1 (ty_ptt y x) h))))))) (fun y => nm_r (nI_1 g) (ih (g + 1) c (by omega) (tn_s0 (ty_ptn y) h)))))
theorem ty_tripleD (T : ty_H ah 0 K) (U : ty_H ah 1 L) (h : post (nI (tc_sm (ty_f1 (ty_pt K L)) (List.range' 0 128)))) : wpY_tripleDistance post ah :=
  ⟨129, ty_td1 T U 128 0 0 (by decide) (by rw [Nat.zero_add]; exact h)⟩
def ty_pa (K L : List Nat) (q s : Nat) : Bool := !(tc_df s q == 0 && ty_pt K L s)
def tc_ab (K L : List Nat) (q : Nat) : Bool := (List.range' 0 128).all (ty_pa K L q)
theorem ty_ag1 {q : Nat} (T : ty_H ah 0 K) (U : ty_H ah 1 L) (hq : q < 128) : ∀ d g b, g + d = 128 → post (tn_b (b && (List.range' g d).all (ty_pa K L q))) → wY_agree_18 post (nI q) ah (d + 1) (tn_b b) (nI g) := by
  intro d
  induction d with
  | zero =>
    intro g b hg h
    rw [show (List.range' g 0).all (ty_pa K L q) = true from rfl, Bool.and_true] at h
    exact br_t ((tn_128 hg).mpr rfl) ⟨tn_nar b, h⟩
  | succ d ih =>
    intro g b hg h
    have g8 : g < 128 := by omega
    have hd : tc_df g q < 128 := tc_dflt g8
    have c1 := tc_co7 g
    have c2 := tn_ss K g
    have c3 := tn_ss L g
    rw [tn_rs, List.all_cons] at h
    refine br_f (fun z => by have := (tn_128 hg).mp z; omega) (tn_br b (fun z => ⟨tn_nar b, ?_⟩) (fun z => pk_eq (tc_df g q) 0 (fun w => ty_count g8 (pk_eq (tc_co g) 3 (fun y => ty_about T g8 y (ty_about U g8 y (pk_eq (tc_ss K g) (tc_ss L g) (fun x => nm_r (nI_1 g) (ih (g + 1) true (by omega) ?_)) (fun x => nm_r (nI_1 g) (ih (g + 1) false (by omega) ?_))))) (fun y => nm_r (nI_1 g) (ih (g + 1) true (by omega) ?_)))) (fun w => nm_r (nI_1 g) (ih (g + 1) true (by omega) ?_)) (tn_df g q)))
    · rw [z, Bool.false_and] at h
      rw [z]
      exact h
    · have e : ty_pa K L q g = true := by unfold ty_pa; rw [ty_ptf x, Bool.and_false]; rfl
      rw [z, e] at h; exact h
    · have e : ty_pa K L q g = false := by unfold ty_pa; rw [ty_ptt y x, w]; rfl
      rw [z, e] at h; exact h
    · have e : ty_pa K L q g = true := by unfold ty_pa; rw [ty_ptn y, Bool.and_false]; rfl
      rw [z, e] at h; exact h
    · have e : ty_pa K L q g = true := by unfold ty_pa; rw [beq_false_of_ne w]; rfl
      rw [z, e] at h; exact h
theorem ty_agree {q : Nat} (T : ty_H ah 0 K) (U : ty_H ah 1 L) (hq : q < 128) (h : post (tn_b (tc_ab K L q))) : wpY_agree post ah (nI q) :=
  br_f (nI_pos (by omega)) (br_f (nI_nlt (b := q) (a := 127) (by omega) (by decide)) ⟨129, ty_ag1 T U hq 128 0 true (by decide) h⟩)
theorem ty_agreen {x : Int32} (n : x < 0 ∨ (¬ x < 0 ∧ 127 < x)) (h : post 0) : wpY_agree post ah x := by
  have k : wY_agree_18 post x ah 1 0 0 := br_f (by decide) (br_t rfl ⟨rfl, h⟩)
  rcases n with n | ⟨n, n'⟩
  · exact br_t n ⟨1, k⟩
  · exact br_f n (br_t n' ⟨1, k⟩)
def tc_am (p : Nat → Bool) : List Nat → Nat → Nat
  | [], m => m
  | s :: l, m => tc_am p l (if m < tc_co s ∧ p s = true then tc_co s else m)
theorem ty_am1 (T : ty_H ah 0 K) (U : ty_H ah 1 L) : ∀ d g m, g + d = 128 → m ≤ 7 → post (nI (tc_am (tc_ab K L) (List.range' g d) m)) → wY_agreement_4 post ah (d + 1) (nI m) (nI g) := by
  intro d
  induction d with
  | zero =>
    intro g m hg hm h
    exact br_t ((tn_128 hg).mpr rfl) h
  | succ d ih =>
    intro g m hg hm h
    have g8 : g < 128 := by omega
    have c1 := tc_co7 g
    rw [tn_rs, tc_am] at h
    refine br_f (fun z => by have := (tn_128 hg).mp z; omega) (ty_count g8 (pk_le (tc_co g) m (fun y => nm_r (nI_1 g) (ih (g + 1) m (by omega) hm ?_)) (fun y => ty_agree T U g8 (tn_br _ (fun x => nm_r (nI_1 g) (ih (g + 1) m (by omega) hm ?_)) (fun x => nm_r (nI_1 g) (ih (g + 1) (tc_co g) (by omega) c1 ?_))))))
    · rw [if_neg (fun q => absurd q.1 (by omega))] at h; exact h
    · rw [if_neg (fun q => by rw [x] at q; exact absurd q.2 (by decide))] at h; exact h
    · rw [if_pos ⟨y, x⟩] at h; exact h
theorem ty_agreement (T : ty_H ah 0 K) (U : ty_H ah 1 L) (h : post (nI (tc_am (tc_ab K L) (List.range' 0 128) 0))) : wpY_agreement post ah :=
  ⟨129, ty_am1 T U 128 0 0 (by decide) (by decide) h⟩
def tc_fs (p : Nat → Bool) (m e : Nat) : List Nat → Nat
  | [] => e
  | s :: l => if tc_co s = m ∧ p s = true then s else tc_fs p m e l
theorem ty_as1 (T : ty_H ah 0 K) (U : ty_H ah 1 L) {m : Nat} (hm : m ≤ 7) : ∀ d g, g + d = 128 → post (nI (tc_fs (tc_ab K L) m 0 (List.range' g d))) → wY_agreeingSet_7 post (nI m) ah (d + 1) (nI g) := by
  intro d
  induction d with
  | zero =>
    intro g hg h
    exact br_t ((tn_128 hg).mpr rfl) h
  | succ d ih =>
    intro g hg h
    have g8 : g < 128 := by omega
    have c1 := tc_co7 g
    rw [tn_rs, tc_fs] at h
    refine br_f (fun z => by have := (tn_128 hg).mp z; omega) (ty_count g8 (pk_eq (tc_co g) m (fun y => ty_agree T U g8 (tn_br _ (fun x => nm_r (nI_1 g) (ih (g + 1) (by omega) ?_)) (fun x => ?_))) (fun y => nm_r (nI_1 g) (ih (g + 1) (by omega) ?_))))
    · rw [if_neg (fun q => by rw [x] at q; exact absurd q.2 (by decide))] at h; exact h
    · rw [if_pos ⟨y, x⟩] at h; exact h
    · rw [if_neg (fun q => y q.1)] at h; exact h
theorem tn_am7 (p : Nat → Bool) : ∀ (l : List Nat) (m : Nat), m ≤ 7 → tc_am p l m ≤ 7
  | [], _, h => h
  | s :: l, m, h => by
    rw [tc_am]
    refine tn_am7 p l _ ?_
    split
    · exact tc_co7 s
    · exact h
theorem ty_aset (T : ty_H ah 0 K) (U : ty_H ah 1 L) (h : post (nI (tc_fs (tc_ab K L) (tc_am (tc_ab K L) (List.range' 0 128) 0) 0 (List.range' 0 128)))) : wpY_agreeingSet post ah := by
  unfold wpY_agreeingSet
  exact ty_agreement T U ⟨129, ty_as1 T U (tn_am7 _ _ 0 (by decide)) 128 0 (by decide) h⟩
def ty_pw (K L : List Nat) (g : Nat) : Bool := !tc_hs L g || tc_fit K g
theorem ty_to1 (T : ty_H ah 0 K) (U : ty_H ah 1 L) : ∀ d g b, g + d = 128 → 1 ≤ g → post (tn_b (b && (List.range' g d).all (ty_pw K L))) → wY_together_4 post ah (d + 1) (tn_b b) (nI g) := by
  intro d
  induction d with
  | zero =>
    intro g b hg h1 h
    rw [show (List.range' g 0).all (ty_pw K L) = true from rfl, Bool.and_true] at h
    exact br_t ((tn_128 hg).mpr rfl) ⟨tn_nar b, h⟩
  | succ d ih =>
    intro g b hg h1 h
    have g8 : g < 128 := by omega
    rw [tn_rs, List.all_cons] at h
    refine br_f (fun z => by have := (tn_128 hg).mp z; omega) (tn_br b (fun z => nm_r (nI_1 g) ?_) (fun z => ⟨ty_i1 g8, ?_⟩))
    · rw [z, Bool.false_and] at h
      exact ih (g + 1) false (by omega) (by omega) (by rw [Bool.false_and]; exact h)
    · rw [z, Bool.true_and] at h
      rw [ty_e1 U h1 g8]
      refine tn_br _ (fun y => nm_r (nI_1 g) (ih (g + 1) true (by omega) (by omega) ?_)) (fun y => ty_fits T g8 (tn_br _ (fun x => nm_r (nI_1 g) (ih (g + 1) false (by omega) (by omega) ?_)) (fun x => nm_r (nI_1 g) (ih (g + 1) true (by omega) (by omega) ?_))))
      · have e : ty_pw K L g = true := by unfold ty_pw; rw [y]; rfl
        rw [e] at h; exact h
      · have e : ty_pw K L g = false := by unfold ty_pw; rw [x, y]; rfl
        rw [e] at h; exact h
      · have e : ty_pw K L g = true := by unfold ty_pw; rw [x, Bool.or_true]
        rw [e] at h; exact h
theorem ty_together (T : ty_H ah 0 K) (U : ty_H ah 1 L) (h : post (tn_b (tc_rg.all (ty_pw K L)))) : wpY_together post ah :=
  ⟨128, ty_to1 T U 127 1 true (by decide) (by decide) h⟩
end
end
section
/-! the class: its loops over triples, groups and lists -/
theorem tn_da {i : Nat} (h : i < 343) : nI i / 49 = nI (i / 49) := pk_div (d := 49) (by omega) (by decide) (by decide)
theorem tn_dc {i : Nat} (h : i < 343) : nI i - nI i / 7 * 7 = nI (i % 7) := pk_rem (d := 7) (by omega) (by decide) (by decide)
theorem tn_db {i : Nat} (h : i < 343) : (nI i / 7) - (nI i / 7) / 7 * 7 = nI (i / 7 % 7) := by
  rw [show nI i / 7 = nI (i / 7) from pk_div (d := 7) (by omega) (by decide) (by decide)]
  exact pk_rem (d := 7) (by omega) (by decide) (by decide)
theorem tn_343 {i d : Nat} (h : i + d = 343) : ((343 : Int32) ≤ nI i ↔ d = 0) := by
  have := nI_leI (a := 343) (b := i) (by decide) (by omega)
  constructor
  · intro z
    have := this.mp z
    omega
  · intro z
    exact this.mpr (by omega)
theorem tn_z (c : Nat) : nI c + 0 = nI c := Int32.add_zero _
theorem tn_wi {q a b c : Nat} (hq : q < 128) (ha : a < 7) (hb : b < 7) (hc : c < 7) : ((((nI q >>> (nI a &&& 31)) &&& (nI q >>> (nI b &&& 31))) &&& (nI q >>> (nI c &&& 31))) &&& 1) = 0 ↔ (q.testBit a && q.testBit b && q.testBit c) = false := by
  rw [pk_shrN (by omega) _ a (s_l a (by omega)), pk_shrN (by omega) _ b (s_l b (by omega)), pk_shrN (by omega) _ c (s_l c (by omega))]
  show (((nI _ &&& nI _) &&& nI _) &&& nI 1) = 0 ↔ _
  rw [nx_and, nx_and, nx_and]
  have e : ((q / 2 ^ a &&& q / 2 ^ b) &&& q / 2 ^ c) &&& 1 = (q.testBit a && q.testBit b && q.testBit c).toNat := by
    rw [Nat.and_one_is_mod]
    have k := Nat.toNat_testBit ((q / 2 ^ a &&& q / 2 ^ b) &&& q / 2 ^ c) 0
    rw [Nat.pow_zero, Nat.div_one, Nat.testBit_and, Nat.testBit_and, Nat.testBit_div_two_pow, Nat.testBit_div_two_pow, Nat.testBit_div_two_pow, Nat.zero_add, Nat.zero_add, Nat.zero_add] at k
    exact k.symm
  rw [e]
  cases (q.testBit a && q.testBit b && q.testBit c)
  · exact ⟨fun _ => rfl, fun _ => rfl⟩
  · exact ⟨fun z => absurd z (by decide), fun z => by cases z⟩
def tx_pd (L : List Nat) (i : Nat) : Bool := tc_tri i && tc_sy L (i / 49) (i / 7 % 7) (i % 7) != 3
def tx_w3 (q i : Nat) : Bool := q.testBit (i / 49) && q.testBit (i / 7 % 7) && q.testBit (i % 7)
def tx_pc (K L : List Nat) (q i : Nat) : Bool := tx_w3 q i && (tc_tri i && tc_sy K (i / 49) (i / 7 % 7) (i % 7) != tc_sy L (i / 49) (i / 7 % 7) (i % 7))
theorem tc_tria {i : Nat} (h : i / 7 % 7 ≤ i / 49) : tc_tri i = false := by
  unfold tc_tri
  rw [decide_eq_false (by omega)]; rfl
theorem tc_trib {i : Nat} (h : i % 7 ≤ i / 7 % 7) : tc_tri i = false := by
  unfold tc_tri
  rw [decide_eq_false (p := i / 7 % 7 < i % 7) (by omega), Bool.and_false]
theorem tc_trit {i : Nat} (h : i / 49 < i / 7 % 7) (h' : i / 7 % 7 < i % 7) : tc_tri i = true := by
  unfold tc_tri
  rw [decide_eq_true h, decide_eq_true h']; rfl
section
variable {ac ae an aN ab am : Nat → Int32} {t : Nat} {L : List Nat} {post : Int32 → Prop}
theorem tx_de1 (T : tx_L ac ae t L) (O : tc_OK L) : ∀ d i c, i + d = 343 → post (nI (c + tc_sm (ty_f1 (tx_pd L)) (List.range' i d))) → wX_decided_13 post (nI t) ac ae an aN ab am (d + 1) (nI c) (nI i) := by
  intro d
  induction d with
  | zero =>
    intro i c hi h
    exact br_t ((tn_343 hi).mpr rfl) h
  | succ d ih =>
    intro i c hi h
    have i3 : i < 343 := by omega
    have c2 := tn_sy L (i / 49) (i / 7 % 7) (i % 7)
    rw [tn_rs, tc_sm] at h
    refine br_f (fun z => by have := (tn_343 hi).mp z; omega) ⟨by decide, nm_r (tn_da i3) ⟨by decide, by decide, nm_r (tn_db i3) ⟨by decide, nm_r (tn_dc i3) ?_⟩⟩⟩
    refine pk_le (i / 7 % 7) (i / 49) (fun z => nm_r (tn_z c) (nm_r (nI_1 i) (ih (i + 1) c (by omega) (tn_s0 ?_ h)))) (fun z => pk_le (i % 7) (i / 7 % 7) (fun y => nm_r (tn_z c) (nm_r (nI_1 i) (ih (i + 1) c (by omega) (tn_s0 ?_ h)))) (fun y => tx_last T O (by omega) (by omega) (by omega) (pk_eq (tc_sy L (i / 49) (i / 7 % 7) (i % 7)) 3 (fun x => nm_r (tn_z c) (nm_r (nI_1 i) (ih (i + 1) c (by omega) (tn_s0 ?_ h)))) (fun x => nm_r (nI_1 c) (nm_r (nI_1 i) (ih (i + 1) (c + 1) (by omega) (tn_s1 ?_ h)))))))
    · unfold tx_pd; rw [tc_tria z]; rfl
    · unfold tx_pd; rw [tc_trib y]; rfl
    · unfold tx_pd; rw [x, Bool.and_eq_false_iff]; exact Or.inr rfl
    · unfold tx_pd; rw [tc_trit z y, bne_iff_ne.mpr x]; rfl
theorem tx_decided (T : tx_L ac ae t L) (O : tc_OK L) (h : post (nI (tc_sm (ty_f1 (tx_pd L)) (List.range' 0 343)))) : wpX_decided post (ac, ae, an, aN, ab, am) (nI t) := by
  unfold wpX_decided
  dsimp only
  exact tx_tree1 T.1 (br_f (by decide) ⟨344, tx_de1 T O 343 0 0 (by decide) (by rw [Nat.zero_add]; exact h)⟩)
def tx_fb (m e : Nat) : Nat := (e.testBit m).toNat
theorem tx_dp1 {m : Nat} (T : tx_L ac ae t L) (hm : m < 7) : ∀ d k c, k + d = L.length → post (nI (c + tc_sm (tx_fb m) (L.drop k))) → wX_depth_21 post (nI t) (nI m) ac ae an aN ab am (d + 1) (nI c) (nI k) := by
  have l5 := T.2.1
  intro d
  induction d with
  | zero =>
    intro k c hk h
    rw [List.drop_eq_nil_of_le (by omega)] at h
    exact ⟨tx_Lv T, pk_le L.length k (fun _ => h) (fun z => absurd z (by omega)) (tx_Lc T)⟩
  | succ d ih =>
    intro k c hk h
    have hl : k < L.length := by omega
    rw [tn_dr hl, tc_sm, ← Nat.add_assoc] at h
    refine ⟨tx_Lv T, pk_le L.length k (fun z => absurd z (by omega)) (fun _ => ⟨tx_Li T hl, nm_r ?_ (nm_r (nI_1 k) (ih (k + 1) _ (by omega) h))⟩) (tx_Lc T)⟩
    rw [tx_Le T hl, tn_bit (T.2.2.2.2 _ (tn_gd hl)) (by omega), nI_add]
    rfl
theorem tx_depth {m : Nat} (T : tx_L ac ae t L) (hm : m < 7) (h : post (nI (2 + tc_sm (tx_fb m) L))) : wpX_depth post (ac, ae, an, aN, ab, am) (nI t) (nI m) := by
  unfold wpX_depth
  dsimp only
  exact tx_tree1 T.1 (br_f (by decide) (tx_mem1 hm (br_f (by decide) ⟨L.length + 1, tx_dp1 T hm L.length 0 2 (by omega) h⟩)))
def tx_rm (L : List Nat) (g : Nat) : Bool := !tc_hs L g && L.all (tc_lb g)
theorem tn_127 {g d : Nat} (h : g + d = 128) : ((127 : Int32) < nI g ↔ d = 0) := by
  have := nI_ltI (a := 127) (b := g) (by decide) (by omega)
  constructor
  · intro z
    have := this.mp z
    omega
  · intro z
    exact this.mpr (by omega)
theorem tx_rm1 (T : tx_L ac ae t L) : ∀ d g c, g + d = 128 → post (nI (c + tc_sm (ty_f1 (tx_rm L)) (List.range' g d))) → wX_room_13 post (nI t) ac ae an aN ab am (d + 1) (nI c) (nI g) := by
  intro d
  induction d with
  | zero =>
    intro g c hg h
    exact br_t ((tn_127 hg).mpr rfl) h
  | succ d ih =>
    intro g c hg h
    have g8 : g < 128 := by omega
    rw [tn_rs, tc_sm] at h
    refine br_f (fun z => by have := (tn_127 hg).mp z; omega) (tx_has T g8 (tn_br _ (fun y => tx_can T g8 (tn_br _ (fun x => nm_r (tn_z c) (nm_r (nI_1 g) (ih (g + 1) c (by omega) (tn_s0 ?_ h)))) (fun x => nm_r (nI_1 c) (nm_r (nI_1 g) (ih (g + 1) (c + 1) (by omega) (tn_s1 ?_ h)))))) (fun y => nm_r (tn_z c) (nm_r (nI_1 g) (ih (g + 1) c (by omega) (tn_s0 ?_ h))))))
    · unfold tx_rm; rw [y, x]; rfl
    · unfold tx_rm; rw [y, x]; rfl
    · unfold tx_rm; rw [y]; rfl
theorem tx_room (T : tx_L ac ae t L) (h : post (nI (tc_sm (ty_f1 (tx_rm L)) tc_rg))) : wpX_room post (ac, ae, an, aN, ab, am) (nI t) := by
  unfold wpX_room
  dsimp only
  exact tx_tree1 T.1 (br_f (by decide) ⟨128, tx_rm1 T 127 1 0 (by decide) (by rw [Nat.zero_add]; exact h)⟩)
end
/-! both trees -/
section
variable {ac ae an aN ab am : Nat → Int32} {K L : List Nat} {post : Int32 → Prop}
theorem tx_cf1 {q : Nat} (T : tx_L ac ae 0 K) (O : tc_OK K) (U : tx_L ac ae 1 L) (P : tc_OK L) (hq : q < 128) : ∀ d i c, i + d = 343 → post (nI (c + tc_sm (ty_f1 (tx_pc K L q)) (List.range' i d))) → wX_conflicts_4 post (nI q) ac ae an aN ab am (d + 1) (nI c) (nI i) := by
  intro d
  induction d with
  | zero =>
    intro i c hi h
    exact br_t ((tn_343 hi).mpr rfl) h
  | succ d ih =>
    intro i c hi h
    have i3 : i < 343 := by omega
    have c2 := tn_sy K (i / 49) (i / 7 % 7) (i % 7)
    have c3 := tn_sy L (i / 49) (i / 7 % 7) (i % 7)
    rw [tn_rs, tc_sm] at h
    refine br_f (fun z => by have := (tn_343 hi).mp z; omega) ⟨by decide, nm_r (tn_da i3) ⟨by decide, by decide, nm_r (tn_db i3) ⟨by decide, nm_r (tn_dc i3) ?_⟩⟩⟩
    have w := tn_wi (q := q) (a := i / 49) (b := i / 7 % 7) (c := i % 7) hq (by omega) (by omega) (by omega)
    refine br_c (fun v => ?_) (fun v => ?_)
    · unfold wX_conflicts_56
      refine br_t rfl (nm_r (nI_1 i) (ih (i + 1) c (by omega) (tn_s0 ?_ h)))
      unfold tx_pc tx_w3
      rw [w.mp v]; rfl
    · have v' : tx_w3 q i = true := by
        cases e : tx_w3 q i with
        | true => rfl
        | false => exact absurd (w.mpr e) v
      unfold wX_conflicts_56
      refine br_f (by decide) (pk_le (i / 7 % 7) (i / 49) (fun z => nm_r (nI_1 i) (ih (i + 1) c (by omega) (tn_s0 ?_ h))) (fun z => pk_le (i % 7) (i / 7 % 7) (fun y => nm_r (nI_1 i) (ih (i + 1) c (by omega) (tn_s0 ?_ h))) (fun y => tx_last T O (by omega) (by omega) (by omega) (tx_last U P (by omega) (by omega) (by omega) (pk_eq (tc_sy K (i / 49) (i / 7 % 7) (i % 7)) (tc_sy L (i / 49) (i / 7 % 7) (i % 7)) (fun x => nm_r (tn_z c) (nm_r (nI_1 i) (ih (i + 1) c (by omega) (tn_s0 ?_ h)))) (fun x => nm_r (nI_1 c) (nm_r (nI_1 i) (ih (i + 1) (c + 1) (by omega) (tn_s1 ?_ h)))))))))
      · unfold tx_pc; rw [tc_tria z, v']; rfl
      · unfold tx_pc; rw [tc_trib y, v']; rfl
      · unfold tx_pc; rw [x, bne_self_eq_false, Bool.and_false, Bool.and_false]
      · unfold tx_pc; rw [v', tc_trit z y, bne_iff_ne.mpr x]; rfl
theorem tx_conf {q : Nat} (T : tx_L ac ae 0 K) (O : tc_OK K) (U : tx_L ac ae 1 L) (P : tc_OK L) (hq : q < 128) (h : post (nI (tc_sm (ty_f1 (tx_pc K L q)) (List.range' 0 343)))) : wpX_conflicts post (ac, ae, an, aN, ab, am) (nI q) :=
  ⟨344, tx_cf1 T O U P hq 343 0 0 (by decide) (by rw [Nat.zero_add]; exact h)⟩
theorem tx_e0 (T : tx_L ac ae 0 K) {k : Nat} (hk : k < K.length) : ae (nI k).toNatClampNeg = nI (K.getD k 0) := by
  have := T.2.1
  rw [nI_clamp (by omega)]
  have e := T.2.2.2.1 k hk
  rw [Nat.mul_zero, Nat.zero_add] at e
  exact e
theorem tx_co1 (T : tx_L ac ae 0 K) (U : tx_L ac ae 1 L) : ∀ d k c, k + d = K.length → post (nI (c + tc_sm (ty_f1 L.contains) (K.drop k))) → wX_common_5 post ac ae an aN ab am (d + 1) (nI c) (nI k) := by
  have l5 := T.2.1
  have l5' := U.2.1
  intro d
  induction d with
  | zero =>
    intro k c hk h
    rw [List.drop_eq_nil_of_le (by omega)] at h
    exact pk_le K.length k (fun _ => h) (fun z => absurd z (by omega)) T.2.2.1
  | succ d ih =>
    intro k c hk h
    have hl : k < K.length := by omega
    rw [tn_dr hl, tc_sm] at h
    refine pk_le K.length k (fun z => absurd z (by omega)) (fun _ => ⟨vp_in_nI (by omega) (by decide), ?_⟩) T.2.2.1
    rw [tx_e0 T hl]
    exact tx_finc U (T.2.2.2.2 _ (tn_gd hl)) (fun j hj e => br_f (nI_pos (by omega)) (nm_r (nI_1 c) (nm_r (nI_1 k) (ih (k + 1) (c + 1) (by omega) (tn_s1 e h))))) (fun e => br_t (by decide) (nm_r (tn_z c) (nm_r (nI_1 k) (ih (k + 1) c (by omega) (tn_s0 e h)))))
theorem tx_common (T : tx_L ac ae 0 K) (U : tx_L ac ae 1 L) (h : post (nI (8 + tc_sm (ty_f1 L.contains) K))) : wpX_common post (ac, ae, an, aN, ab, am) :=
  ⟨K.length + 1, tx_co1 T U K.length 0 8 (by omega) h⟩
theorem tx_groupD (T : tx_L ac ae 0 K) (U : tx_L ac ae 1 L) {D : Nat} (e : K.length + L.length = D + 2 * tc_sm (ty_f1 L.contains) K) (h : post (nI D)) : wpX_groupDistance post (ac, ae, an, aN, ab, am) := by
  unfold wpX_groupDistance
  dsimp only
  refine tx_common T U (nm_r (e' := nI (tc_sm (ty_f1 L.contains) K)) ?_ ?_)
  · show nI (8 + tc_sm (ty_f1 L.contains) K) - nI 7 - nI 1 = _
    rw [pk_sub (by omega), pk_sub (by omega)]
    exact congrArg nI (by omega)
  · rw [T.2.2.1, U.2.2.1, show (2 : Int32) * nI (tc_sm (ty_f1 L.contains) K) = nI (2 * tc_sm (ty_f1 L.contains) K) from pk_mul 2 _, nI_add, pk_sub (by omega), show K.length + L.length - 2 * tc_sm (ty_f1 L.contains) K = D by omega]
    exact h
theorem tx_to1 (T : tx_L ac ae 0 K) (U : tx_L ac ae 1 L) : ∀ d k, k + d = K.length → post (tn_b ((K.drop k).all (fun e => L.all (tc_lb e)))) → wX_together_2 post ac ae an aN ab am (d + 1) (nI k) := by
  have l5 := T.2.1
  intro d
  induction d with
  | zero =>
    intro k hk h
    rw [List.drop_eq_nil_of_le (by omega)] at h
    exact pk_le K.length k (fun _ => h) (fun z => absurd z (by omega)) T.2.2.1
  | succ d ih =>
    intro k hk h
    have hl : k < K.length := by omega
    rw [tn_dr hl, List.all_cons] at h
    refine pk_le K.length k (fun z => absurd z (by omega)) (fun _ => ⟨vp_in_nI (by omega) (by decide), ?_⟩) T.2.2.1
    rw [tx_e0 T hl]
    refine tx_can U (T.2.2.2.2 _ (tn_gd hl)) (tn_br _ (fun z => ?_) (fun z => nm_r (nI_1 k) (ih (k + 1) (by omega) ?_)))
    · rw [z] at h; exact h
    · rw [z, Bool.true_and] at h; exact h
theorem tx_together (T : tx_L ac ae 0 K) (U : tx_L ac ae 1 L) (h : post (tn_b (K.all (fun e => L.all (tc_lb e))))) : wpX_together post (ac, ae, an, aN, ab, am) :=
  ⟨K.length + 1, tx_to1 T U K.length 0 (by omega) h⟩
end
end
section
/-! the groups of a tree, those with fewer members first -/
def tc_pz (L : List Nat) (z g : Nat) : Bool := tc_co g == z && tc_hs L g
def tc_fl (L : List Nat) (z d : Nat) : List Nat := (List.range' z d).flatMap (fun z => tc_rg.filter (tc_pz L z))
def tc_nl (L : List Nat) : List Nat := tc_fl L 1 7
def tc_N (L : List Nat) (k : Nat) : Nat := (tc_nl L).getD k 0
def tc_R (x y : Nat) : Prop := tc_co x < tc_co y ∨ (tc_co x = tc_co y ∧ x < y)
theorem tc_pzi {L : List Nat} {z g : Nat} : tc_pz L z g = true ↔ tc_co g = z ∧ tc_hs L g = true := by
  unfold tc_pz
  rw [Bool.and_eq_true, beq_iff_eq]
theorem tc_nlp (L : List Nat) : (tc_nl L).Pairwise tc_R := by
  unfold tc_nl tc_fl
  refine List.pairwise_flatMap.mpr ⟨fun z _ => ?_, ?_⟩
  · have q : (tc_rg.filter (tc_pz L z)).Pairwise (· < ·) := List.Pairwise.filter _ (by unfold tc_rg; exact List.pairwise_lt_range')
    refine List.Pairwise.imp_of_mem (fun {a b} ha hb h => ?_) q
    have ea := (tc_pzi.mp (List.mem_filter.mp ha).2).1
    have eb := (tc_pzi.mp (List.mem_filter.mp hb).2).1
    exact Or.inr ⟨by omega, h⟩
  · have q : (List.range' 1 7).Pairwise (· < ·) := List.pairwise_lt_range'
    refine List.Pairwise.imp (fun {a b} h x hx y hy => ?_) q
    have ea := (tc_pzi.mp (List.mem_filter.mp hx).2).1
    have eb := (tc_pzi.mp (List.mem_filter.mp hy).2).1
    exact Or.inl (by omega)
theorem tc_nlm {L : List Nat} (O : tc_OK L) {g : Nat} : g ∈ tc_nl L ↔ tc_H L g := by
  unfold tc_nl tc_fl
  rw [List.mem_flatMap]
  constructor
  · rintro ⟨z, hz, h⟩
    obtain ⟨h1, h2⟩ := List.mem_filter.mp h
    exact ⟨(tc_rgm.mp h1).2, (tc_pzi.mp h2).2⟩
  · intro h
    have c := tc_Hc O h
    have c7 := tc_co7 g
    exact ⟨tc_co g, List.mem_range'_1.mpr ⟨c, by omega⟩, List.mem_filter.mpr ⟨tc_rgm.mpr ⟨tc_c1 c, h.1⟩, tc_pzi.mpr ⟨rfl, h.2⟩⟩⟩
theorem tc_nln (L : List Nat) : (tc_nl L).Nodup := (tc_nlp L).imp (fun {a b} h e => by
  rw [e] at h
  rcases h with h | h
  · omega
  · omega)
theorem tc_nll {L : List Nat} (O : tc_OK L) : (tc_nl L).length = 8 + L.length := by
  have p : (tc_nl L).Perm (tc_rg.filter (tc_hs L)) := (List.perm_ext_iff_of_nodup (tc_nln L) (tc_rgn.filter _)).mpr (fun g => by
    rw [tc_nlm O, List.mem_filter, tc_rgm]
    exact ⟨fun h => ⟨⟨tc_c1 (tc_Hc O h), h.1⟩, h.2⟩, fun h => ⟨h.1.2, h.2⟩⟩)
  rw [p.length_eq, (tc_perm O).length_eq, List.length_append]
  rfl
theorem tc_nl13 {L : List Nat} (O : tc_OK L) : (tc_nl L).length ≤ 13 := by
  have := tc_nll O
  have := tc_len5 O
  omega
/-- numbers and groups of a tree -/
def tc_ND (H : Nat → Prop) (N : Nat → Nat) (n : Nat) : Prop := (∀ k, k < n → H (N k)) ∧ (∀ g, H g → ∃ k, k < n ∧ N k = g) ∧ (∀ i j, i < n → j < n → N i = N j → i = j) ∧ ∀ i j, i < j → j < n → tc_co (N i) ≤ tc_co (N j)
theorem tc_Nr {L : List Nat} {i j : Nat} (h : i < j) (hj : j < (tc_nl L).length) : tc_R (tc_N L i) (tc_N L j) := by
  have q := List.pairwise_iff_getElem.mp (tc_nlp L) i j (by omega) hj h
  unfold tc_N
  rw [List.getD_eq_getElem?_getD, List.getD_eq_getElem?_getD, List.getElem?_eq_getElem hj, List.getElem?_eq_getElem (show i < (tc_nl L).length by omega)]
  exact q
theorem tc_Rn {x y : Nat} (h : tc_R x y) : x ≠ y := fun e => by
  rw [e] at h
  rcases h with h | h <;> omega
theorem tc_NDL {L : List Nat} (O : tc_OK L) : tc_ND (tc_H L) (tc_N L) (tc_nl L).length := by
  refine ⟨fun k hk => (tc_nlm O).mp (tn_gd hk), fun g hg => tn_mg ((tc_nlm O).mpr hg), fun i j hi hj e => ?_, fun i j h hj => ?_⟩
  · rcases Nat.lt_or_ge i j with z | z
    · exact absurd e (tc_Rn (tc_Nr z hj))
    · rcases Nat.lt_or_ge j i with y | y
      · exact absurd e.symm (tc_Rn (tc_Nr y hi))
      · omega
  · rcases tc_Nr h hj with z | z <;> omega
theorem tc_Nl {L : List Nat} (O : tc_OK L) : tc_N L ((tc_nl L).length - 1) = 127 := by
  obtain ⟨k, hk, e⟩ := (tc_NDL O).2.1 127 ⟨by decide, tc_hsi.mpr (Or.inr (Or.inl rfl))⟩
  rcases Nat.lt_or_ge k ((tc_nl L).length - 1) with z | z
  · have r := tc_Nr z (show (tc_nl L).length - 1 < (tc_nl L).length by omega)
    have h := (tc_NDL O).1 ((tc_nl L).length - 1) (by omega)
    rw [e] at r
    have c := tc_co7 (tc_N L ((tc_nl L).length - 1))
    have c' : tc_co 127 = 7 := by decide
    have h8 := h.1
    rcases r with r | r <;> omega
  · rw [show (tc_nl L).length - 1 = k by omega]
    exact e
/-- a part comes ahead of its whole -/
theorem tc_ND1 {H : Nat → Prop} {N : Nat → Nat} {n k i : Nat} (F : tc_Fm H) (D : tc_ND H N n) (hk : k < n) (hi : i < n) (h : tc_pt H (N k) (N i)) : i < k := by
  rcases Nat.lt_or_ge i k with z | z
  · exact z
  · have c := tc_lts (F.1 _ (D.1 k hk)) h.2.2.1 h.2.1
    rcases Nat.lt_or_ge k i with y | y
    · have := D.2.2.2 k i y hi
      omega
    · rw [show k = i by omega] at c
      omega
/-! writing a list into an array -/
def tx_wl (a : Nat → Int32) (p : Nat) : List Nat → Nat → Int32
  | [] => a
  | x :: l => tx_wl (upd a p (nI x)) (p + 1) l
theorem tx_wla : ∀ (l l' : List Nat) (a : Nat → Int32) (p : Nat), tx_wl a p (l ++ l') = tx_wl (tx_wl a p l) (p + l.length) l'
  | [], l', a, p => rfl
  | x :: l, l', a, p => by
    rw [List.cons_append, tx_wl, tx_wla l l', tx_wl, List.length_cons, show p + 1 + l.length = p + (l.length + 1) by omega]
theorem tx_wlo : ∀ (l : List Nat) (a : Nat → Int32) (p q : Nat), (q < p ∨ p + l.length ≤ q) → tx_wl a p l q = a q
  | [], a, p, q, _ => rfl
  | x :: l, a, p, q, h => by
    rw [List.length_cons] at h
    rw [tx_wl, tx_wlo l _ _ _ (by omega), pk_un (by omega)]
theorem tx_wli : ∀ (l : List Nat) (a : Nat → Int32) (p k : Nat), k < l.length → tx_wl a p l (p + k) = nI (l.getD k 0)
  | [], a, p, k, h => absurd h (Nat.not_lt_zero k)
  | x :: l, a, p, 0, h => by
    rw [tx_wl, tx_wlo l _ _ _ (Or.inl (by omega)), Nat.add_zero, pk_us, List.getD_cons_zero]
  | x :: l, a, p, k + 1, h => by
    rw [tx_wl, show p + (k + 1) = p + 1 + k by omega, tx_wli l _ _ k (Nat.lt_of_succ_lt_succ h), List.getD_cons_succ]
/-! the class lists the groups of a tree -/
section
variable {ac ae aN ab am : Nat → Int32} {t : Nat} {L : List Nat}
theorem tx_ls1 {post : SX → Prop} {J : Int32 → Int32 → (Nat → Int32) → (Nat → Int32) → (Nat → Int32) → (Nat → Int32) → (Nat → Int32) → (Nat → Int32) → Prop} {z : Nat} (T : tx_L ac ae t L) (hz : z ≤ 7) : ∀ d g n an, g + d = 128 → n + ((List.range' g d).filter (tc_pz L z)).length ≤ 13 →
    J (nI (n + ((List.range' g d).filter (tc_pz L z)).length)) (nI (z + 1)) ac ae (tx_wl an (13 * t + n) ((List.range' g d).filter (tc_pz L z))) aN ab am →
    wX_list_13 post J (nI t) (nI z) (d + 1) (nI n) (nI g) ac ae an aN ab am := by
  have ht := T.1
  intro d
  induction d with
  | zero =>
    intro g n an hg hn h
    exact br_t ((tn_127 hg).mpr rfl) (nm_r (nI_1 z) h)
  | succ d ih =>
    intro g n an hg hn h
    have g8 : g < 128 := by omega
    have c7 := tc_co7 g
    rw [tn_rs] at h hn
    refine br_f (fun z => by have := (tn_127 hg).mp z; omega) (tx_ones g8 (pk_eq (tc_co g) z (fun y => tx_has T g8 (tn_br _ (fun x => nm_r (nI_1 g) ?_) (fun x => ?_))) (fun y => nm_r (nI_1 g) ?_)))
    · have e : ¬ tc_pz L z g = true := fun q => by have := (tc_pzi.mp q).2; rw [x] at this; cases this
      rw [List.filter_cons_of_neg e] at h hn
      exact ih (g + 1) n an (by omega) hn h
    · have e : tc_pz L z g = true := tc_pzi.mpr ⟨y, x⟩
      rw [List.filter_cons_of_pos e] at h hn
      rw [List.length_cons] at h hn
      rw [tx_wl] at h
      refine ⟨?_, nm_r (e' := upd an (13 * t + n) (nI g)) ?_ (nm_r (nI_1 n) (nm_r (nI_1 g) (ih (g + 1) (n + 1) _ (by omega) (by omega) ?_)))⟩
      · rw [tn_ix13]
        exact vp_in_nI (by omega) (by decide)
      · rw [tn_ix13, nI_clamp (by omega), tn_by g8]
      · rw [show n + 1 + (List.filter (tc_pz L z) (List.range' (g + 1) d)).length = n + ((List.filter (tc_pz L z) (List.range' (g + 1) d)).length + 1) by omega]
        exact h
    · have e : ¬ tc_pz L z g = true := fun q => y (tc_pzi.mp q).1
      rw [List.filter_cons_of_neg e] at h hn
      exact ih (g + 1) n an (by omega) hn h
theorem tc_fls (L : List Nat) (z d : Nat) : tc_fl L z (d + 1) = tc_rg.filter (tc_pz L z) ++ tc_fl L (z + 1) d := by
  unfold tc_fl
  rw [tn_rs, List.flatMap_cons]
theorem tx_ls2 {post : SX → Prop} (T : tx_L ac ae t L) : ∀ d z n an, z + d = 8 → n + (tc_fl L z d).length ≤ 13 →
    post (ac, ae, tx_wl an (13 * t + n) (tc_fl L z d), upd aN t (nI (n + (tc_fl L z d).length)), ab, am) → wX_list_4 post (nI t) (d + 1) (nI n) (nI z) ac ae an aN ab am := by
  have ht := T.1
  intro d
  induction d with
  | zero =>
    intro z n an hz hn h
    refine br_t (nI_lt (a := 7) (by omega) (by omega)) ⟨tx_Lv T, nm_r (e' := upd aN t (nI n)) ?_ h⟩
    have hn' : n ≤ 13 := by omega
    rw [nI_clamp (by omega), tn_by (by omega)]
  | succ d ih =>
    intro z n an hz hn h
    rw [tc_fls] at h hn
    rw [List.length_append] at h hn
    rw [tx_wla, ← Nat.add_assoc] at h
    refine br_f (nI_nlt (b := z) (a := 7) (by omega) (by decide)) ⟨128, tx_ls1 T (by omega) 127 1 n an (by decide) (by show n + (tc_rg.filter (tc_pz L z)).length ≤ 13; omega) ?_⟩
    refine ih (z + 1) (n + (tc_rg.filter (tc_pz L z)).length) _ (by omega) (by omega) ?_
    rw [← Nat.add_assoc]
    exact h
theorem tx_list {post : SX → Prop} {an : Nat → Int32} (T : tx_L ac ae t L) (hn : (tc_nl L).length ≤ 13) (h : post (ac, ae, tx_wl an (13 * t) (tc_nl L), upd aN t (nI (tc_nl L).length), ab, am)) : wpX_list post (ac, ae, an, aN, ab, am) (nI t) := by
  refine ⟨8, tx_ls2 T 7 1 0 an (by decide) (by rw [Nat.zero_add]; exact hn) ?_⟩
  rw [Nat.zero_add]
  exact h
end
/-! the numbered groups in the class's state, and which one is a part of which -/
def tx_N (an aN : Nat → Int32) (t : Nat) (N : Nat → Nat) (n : Nat) : Prop := t < 2 ∧ n ≤ 13 ∧ aN t = nI n ∧ (∀ k, k < n → an (13 * t + k) = nI (N k)) ∧ ∀ k, k < n → N k < 128
section
variable {ac ae an aN ab am : Nat → Int32} {t n : Nat} {N : Nat → Nat} {H : Nat → Prop}
theorem tx_Ni (T : tx_N an aN t N n) {k : Nat} (hk : k < n) : vp_in (nI t * 13 + nI k) 26 := by
  have := T.1
  have := T.2.1
  rw [tn_ix13]
  exact vp_in_nI (by omega) (by decide)
theorem tx_Ne (T : tx_N an aN t N n) {k : Nat} (hk : k < n) : an (nI t * 13 + nI k).toNatClampNeg = nI (N k) := by
  have := T.1
  have := T.2.1
  rw [tn_ix13, nI_clamp (by omega)]
  exact T.2.2.2.1 k hk
theorem tx_Nc (T : tx_N an aN t N n) : aN (nI t).toNatClampNeg = nI n := by
  have := T.1
  rw [nI_clamp (by omega)]
  exact T.2.2.1
theorem tx_pt1 {post : Int32 → Prop} {k l : Nat} (T : tx_N an aN t N n) (D : tc_ND H N n) (hk : k < n) (hl : l < n) (kl : k ≠ l) (s : tc_sb (N l) (N k)) (hy : tc_pt H (N k) (N l) → post 1) (hn : ¬ tc_pt H (N k) (N l) → post 0) :
    ∀ d i, i + d = n → (∀ j, j < i → j ≠ k → j ≠ l → tc_sb (N l) (N j) → tc_sb (N j) (N k) → False) → wX_isPart_46 post (nI t) (nI k) (nI l) (nI (N k)) (nI (N l)) ac ae an aN ab am (d + 1) (nI i) := by
  have n13 := T.2.1
  have ht := T.1
  intro d
  induction d with
  | zero =>
    intro i hi hj
    refine ⟨vp_in_nI ht (by decide), pk_le n i (fun _ => hy ⟨D.1 l hl, fun e => kl (D.2.2.1 k l hk hl e.symm), s, fun x hx xk xl s1 s2 => ?_⟩) (fun z => absurd z (by omega)) (tx_Nc T)⟩
    obtain ⟨j, hjn, e⟩ := D.2.1 x hx
    rw [← e] at xk xl s1 s2
    exact hj j (by omega) (fun q => xk (by rw [q])) (fun q => xl (by rw [q])) s1 s2
  | succ d ih =>
    intro i hi hj
    have hin : i < n := by omega
    have d1 : tc_df (N l) (N i) < 128 := tc_dflt (T.2.2.2.2 l hl)
    have d2 : tc_df (N i) (N k) < 128 := tc_dflt (T.2.2.2.2 i hin)
    have nx : (i ≠ k → i ≠ l → tc_sb (N l) (N i) → tc_sb (N i) (N k) → False) → ∀ j, j < i + 1 → j ≠ k → j ≠ l → tc_sb (N l) (N j) → tc_sb (N j) (N k) → False := by
      intro q j hji
      rcases Nat.lt_or_ge j i with z | z
      · exact hj j z
      · rw [show j = i by omega]; exact q
    refine ⟨vp_in_nI ht (by decide), pk_le n i (fun z => absurd z (by omega)) (fun _ => ⟨tx_Ni T hin, nm_r (tx_Ne T hin) ?_⟩) (tx_Nc T)⟩
    refine pk_eq i k (fun z => nm_r (nI_1 i) (ih (i + 1) (by omega) (nx (fun q => absurd z q)))) (fun z => pk_eq i l (fun y => nm_r (nI_1 i) (ih (i + 1) (by omega) (nx (fun _ q => absurd y q)))) (fun y => pk_eq (tc_df (N l) (N i)) 0 (fun x => pk_eq (tc_df (N i) (N k)) 0 (fun w => hn (fun p => ?_)) (fun w => nm_r (nI_1 i) (ih (i + 1) (by omega) (nx (fun _ _ _ q => w (tc_df0.mpr q))))) (tn_df _ _)) (fun x => nm_r (nI_1 i) (ih (i + 1) (by omega) (nx (fun _ _ q _ => x (tc_df0.mpr q))))) (tn_df _ _)))
    exact p.2.2.2 (N i) (D.1 i hin) (fun e => z (D.2.2.1 i k hin hk e)) (fun e => y (D.2.2.1 i l hin hl e)) (tc_df0.mp x) (tc_df0.mp w)
theorem tx_part {post : Int32 → Prop} {k l : Nat} (T : tx_N an aN t N n) (D : tc_ND H N n) (hk : k < n) (hl : l < n) (hy : tc_pt H (N k) (N l) → post 1) (hn : ¬ tc_pt H (N k) (N l) → post 0) : wpX_isPart post (ac, ae, an, aN, ab, am) (nI t) (nI k) (nI l) := by
  have n13 := T.2.1
  have d1 : tc_df (N l) (N k) < 128 := tc_dflt (T.2.2.2.2 l hl)
  refine ⟨tx_Ni T hk, nm_r (tx_Ne T hk) ⟨tx_Ni T hl, nm_r (tx_Ne T hl) (pk_eq k l (fun z => hn (fun p => ?_)) (fun z => pk_eq (tc_df (N l) (N k)) 0 (fun y => ⟨n + 1, tx_pt1 T D hk hl z (tc_df0.mp y) hy hn n 0 (by omega) (fun j q => absurd q (Nat.not_lt_zero j))⟩) (fun y => hn (fun p => y (tc_df0.mpr p.2.2.1))) (tn_df _ _)))⟩⟩
  rw [z] at p
  exact p.2.1 rfl
end
end
section
/-! the class works out the largest agreement below every two groups -/
noncomputable def tc_bp (P : Prop) : Bool := @decide P (Classical.propDecidable P)
theorem tc_bpi {P : Prop} : tc_bp P = true ↔ P := by
  unfold tc_bp
  exact @decide_eq_true_iff P (Classical.propDecidable P)
theorem tc_bpf {P : Prop} (h : ¬ P) : ¬ tc_bp P = true := fun z => h (tc_bpi.mp z)
noncomputable def tc_pl (K : Nat → Prop) (N : Nat → Nat) (l j : Nat) : Bool := tc_bp (tc_pt K (N l) (N j))
theorem tc_plt {K : Nat → Prop} {N : Nat → Nat} {l j : Nat} (p : tc_pt K (N l) (N j)) : tc_pl K N l j = true := tc_bpi.mpr p
theorem tc_plf {K : Nat → Prop} {N : Nat → Nat} {l j : Nat} (p : ¬ tc_pt K (N l) (N j)) : ¬ tc_pl K N l j = true := tc_bpf p
theorem tc_dfle (s g : Nat) : tc_df s g ≤ s := by
  rw [← tc_andr.mpr (fun m hm => (tc_bd.mp hm).1 : tc_sb (tc_df s g) s)]
  exact Nat.and_le_left
section
variable {ac ae an aN ab : Nat → Int32} {n : Nat} {N : Nat → Nat} {K : Nat → Prop}
theorem tx_im1 {post : SX → Prop} {am : Nat → Int32} {i l s : Nat} {M B : Nat → Nat} (T : tx_N an aN 1 N n) (D : tc_ND K N n) (hl : l < n) (hi : i < 13) (hs : s < 128) (hM : ∀ q, q ≤ s → am q = nI (M q)) (hM7 : ∀ q, M q ≤ 7) (hB : ∀ j, j < l → ab (13 * i + j) = nI (B j)) (hB7 : ∀ j, B j ≤ 7) :
    ∀ d j r v, j + d = l → r ≤ j → v ≤ 14 → post (ac, ae, an, aN, ab, upd am s (nI (tc_im M s (((List.range' j d).filter (tc_pl K N l)).map B) r v))) → wX_improve_14 post (nI i) (nI l) (nI s) ac ae an aN ab am (d + 1) (nI r) (nI v) (nI j) := by
  have n13 := T.2.1
  intro d
  induction d with
  | zero =>
    intro j r v hj hr hv h
    refine pk_le l j (fun _ => ⟨vp_in_nI hs (by decide), nm_r (e' := upd am s (nI v)) ?_ h⟩) (fun z => absurd z (by omega))
    rw [nI_clamp (by omega), tn_by (by omega)]
  | succ d ih =>
    intro j r v hj hr hv h
    have hd := tc_dfle s (2 ^ r)
    rw [tn_rs] at h
    refine pk_le l j (fun z => absurd z (by omega)) (fun _ => tx_part (t := 1) T D hl (by omega) (fun p => ?_) (fun p => ?_))
    · rw [List.filter_cons_of_pos (p := tc_pl K N l) (tc_plt p), List.map_cons, tc_im] at h
      refine br_f (by decide) (br_c (fun z => nm_r (nI_1 r) (nm_r (nI_1 j) (ih (j + 1) (r + 1) v (by omega) (by omega) hv ?_))) (fun z => ?_))
      · rw [if_neg (by rw [(tn_bit0 hs (by omega)).mp z]; decide)] at h
        exact h
      · have b : s.testBit r = true := by
          cases e : s.testBit r with
          | true => rfl
          | false => exact absurd ((tn_bit0 hs (by omega)).mpr e) z
        have m7 := hM7 (tc_df s (2 ^ r))
        have b7 := hB7 j
        rw [if_pos b] at h
        have e1 : nI s &&& (((1 : Int32) <<< (nI r &&& 31)) ^^^ (-1)) = nI (tc_df s (2 ^ r)) := by rw [tn_pw (by omega), tn_df]
        rw [e1]
        refine ⟨vp_in_nI (by omega) (by decide), ?_, nm_r (e' := nI (M (tc_df s (2 ^ r)) + B j)) ?_ ?_⟩
        · rw [tn_ix13]
          exact vp_in_nI (by omega) (by decide)
        · rw [nI_clamp (by omega), hM _ hd, tn_ix13, nI_clamp (by omega), hB j (by omega), nI_add]
        · refine pk_le (M (tc_df s (2 ^ r)) + B j) v (fun y => nm_r (nI_1 r) (nm_r (nI_1 j) (ih (j + 1) (r + 1) v (by omega) (by omega) hv ?_))) (fun y => nm_r (nI_1 r) (nm_r (nI_1 j) (ih (j + 1) (r + 1) _ (by omega) (by omega) (by omega) ?_)))
          · rw [if_pos y] at h; exact h
          · rw [if_neg (by omega)] at h; exact h
    · rw [List.filter_cons_of_neg (p := tc_pl K N l) (tc_plf p)] at h
      exact br_t rfl (nm_r (nI_1 j) (ih (j + 1) r v (by omega) (by omega) hv h))
theorem tx_improve {post : SX → Prop} {am : Nat → Int32} {i l s : Nat} {M B : Nat → Nat} (T : tx_N an aN 1 N n) (D : tc_ND K N n) (hl : l < n) (hi : i < 13) (hs : s < 128) (hM : ∀ q, q ≤ s → am q = nI (M q)) (hM7 : ∀ q, M q ≤ 7) (hB : ∀ j, j < l → ab (13 * i + j) = nI (B j)) (hB7 : ∀ j, B j ≤ 7)
    (h : post (ac, ae, an, aN, ab, upd am s (nI (tc_im M s (((List.range' 0 l).filter (tc_pl K N l)).map B) 0 (M s))))) : wpX_improve post (ac, ae, an, aN, ab, am) (nI i) (nI l) (nI s) := by
  have m7 := hM7 s
  refine ⟨vp_in_nI hs (by decide), nm_r (e' := nI (M s)) ?_ ⟨l + 1, tx_im1 T D hl hi hs hM hM7 hB hB7 l 0 0 (M s) (by omega) (by omega) (by omega) h⟩⟩
  rw [nI_clamp (by omega)]
  exact hM s (Nat.le_refl s)
def tn_dn : Nat → Int32
  | 0 => -1
  | d + 1 => nI d
theorem tn_dns (d : Nat) : nI d + (-1) = tn_dn d := by
  cases d with
  | zero => decide
  | succ d => exact pk_m1 d
theorem tx_md {post : Int32 → SX → Prop} {J : Int32 → (Nat → Int32) → (Nat → Int32) → (Nat → Int32) → (Nat → Int32) → (Nat → Int32) → (Nat → Int32) → Prop} {k l i : Nat} {M B : Nat → Nat} (T : tx_N an aN 1 N n) (D : tc_ND K N n) (hl : l < n) (hi : i < 13) (hM7 : ∀ q, M q ≤ 7) (hB : ∀ j, j < l → ab (13 * i + j) = nI (B j)) (hB7 : ∀ j, B j ≤ 7)
    (hJ : ∀ am : Nat → Int32, (∀ q, q < 128 → am q = nI (tc_im M q (((List.range' 0 l).filter (tc_pl K N l)).map B) 0 (M q))) → J (nI (i + 1)) ac ae an aN ab am) :
    ∀ d (am : Nat → Int32), d ≤ 128 → (∀ q, q < 128 → am q = nI (if q < d then M q else tc_im M q (((List.range' 0 l).filter (tc_pl K N l)).map B) 0 (M q))) → wX_matchParts_43 post J (nI k) (nI l) (nI i) (d + 1) (tn_dn d) ac ae an aN ab am := by
  intro d
  induction d with
  | zero =>
    intro am hd h
    exact br_t (by decide) (nm_r (nI_1 i) (hJ am (fun q hq => by rw [h q hq, if_neg (Nat.not_lt_zero q)])))
  | succ d ih =>
    intro am hd h
    refine br_f (nI_pos (by omega)) (tx_improve (M := M) (B := B) T D hl hi (by omega) (fun q hq => ?_) hM7 hB hB7 ?_)
    · rw [h q (by omega), if_pos (by omega)]
    · refine nm_r (tn_dns d) (ih _ (by omega) (fun q hq => ?_))
      by_cases e : q = d
      · rw [e, pk_us, if_neg (Nat.lt_irrefl d)]
      · rw [pk_un e, h q hq]
        by_cases z : q < d
        · rw [if_pos z, if_pos (by omega)]
        · rw [if_neg z, if_neg (by omega)]
theorem tc_ginj {Q : List Nat} (h : Q.Nodup) {r r' : Nat} (hr : r < Q.length) (hr' : r' < Q.length) (e : Q.getD r 0 = Q.getD r' 0) : r = r' := by
  rw [List.getD_eq_getElem?_getD, List.getD_eq_getElem?_getD, List.getElem?_eq_getElem hr, List.getElem?_eq_getElem hr'] at e
  have p := List.pairwise_iff_getElem.mp h
  rcases Nat.lt_or_ge r r' with z | z
  · exact absurd e (p r r' hr hr' z)
  · rcases Nat.lt_or_ge r' r with y | y
    · exact absurd e.symm (p r' r hr' hr y)
    · omega
/-- the parts of the group with number l, as they are counted -/
noncomputable def tc_Q (K : Nat → Prop) (N : Nat → Nat) (l : Nat) : List Nat := ((List.range' 0 l).filter (tc_pl K N l)).map N
theorem tc_Qm {l q : Nat} (h : q ∈ tc_Q K N l) : tc_pt K (N l) q := by
  obtain ⟨j, hj, e⟩ := List.mem_map.mp h
  have p := tc_bpi.mp ((List.mem_filter.mp hj).2 : tc_pl K N l j = true)
  rw [e] at p
  exact p
theorem tc_Qc (E : tc_Fm K) (D : tc_ND K N n) {l q : Nat} (hl : l < n) (h : tc_pt K (N l) q) : q ∈ tc_Q K N l := by
  obtain ⟨j, hj, e⟩ := D.2.1 q h.1
  refine List.mem_map.mpr ⟨j, List.mem_filter.mpr ⟨List.mem_range'_1.mpr ⟨Nat.zero_le j, ?_⟩, ?_⟩, e⟩
  · have := tc_ND1 E D hl hj (by rw [e]; exact h)
    omega
  · refine tc_bpi.mpr ?_
    rw [e]
    exact h
theorem tc_Qn (D : tc_ND K N n) {l : Nat} (hl : l < n) : (tc_Q K N l).Nodup := by
  have q : ((List.range' 0 l).filter (tc_pl K N l)).Pairwise (· < ·) := List.Pairwise.filter _ List.pairwise_lt_range'
  refine List.pairwise_map.mpr (List.Pairwise.imp_of_mem (fun {a b} ha hb h e => ?_) q)
  have ha' := (List.mem_range'_1.mp (List.mem_filter.mp ha).1).2
  have hb' := (List.mem_range'_1.mp (List.mem_filter.mp hb).1).2
  have := D.2.2.1 a b (by omega) (by omega) e
  omega
theorem tc_Q7 (E : tc_Fm K) (D : tc_ND K N n) (hc : ∀ g, K g → 1 ≤ tc_co g) {l : Nat} (hl : l < n) : (tc_Q K N l).length ≤ 7 := by
  obtain ⟨U, h, _⟩ := tc_q7 E (tc_Q K N l) (tc_Qn D hl) (fun q hq => tc_Qm hq) (fun q hq => hc q (tc_Qm hq).1)
  have := tc_co7 U
  omega
end
/-! the largest among some -/
def tc_fm (B : Nat → Nat) : List Nat → Nat → Nat
  | [], v => v
  | j :: l, v => tc_fm B l (if B j ≤ v then v else B j)
theorem tc_fmp (B : Nat → Nat) : ∀ (l : List Nat) (v : Nat), v ≤ tc_fm B l v ∧ (∀ j, j ∈ l → B j ≤ tc_fm B l v) ∧ (tc_fm B l v = v ∨ ∃ j, j ∈ l ∧ tc_fm B l v = B j)
  | [], v => ⟨Nat.le_refl v, fun j h => absurd h List.not_mem_nil, Or.inl rfl⟩
  | j :: l, v => by
    rw [tc_fm]
    by_cases z : B j ≤ v
    · rw [if_pos z]
      obtain ⟨i1, i2, i3⟩ := tc_fmp B l v
      refine ⟨i1, fun x hx => ?_, ?_⟩
      · rcases List.mem_cons.mp hx with e | e
        · rw [e]; omega
        · exact i2 x e
      · rcases i3 with e | ⟨x, hx, e⟩
        · exact Or.inl e
        · exact Or.inr ⟨x, List.mem_cons_of_mem _ hx, e⟩
    · rw [if_neg z]
      obtain ⟨i1, i2, i3⟩ := tc_fmp B l (B j)
      refine ⟨by omega, fun x hx => ?_, Or.inr ?_⟩
      · rcases List.mem_cons.mp hx with e | e
        · rw [e]; exact i1
        · exact i2 x e
      · rcases i3 with e | ⟨x, hx, e⟩
        · exact ⟨j, List.mem_cons_self, e⟩
        · exact ⟨x, List.mem_cons_of_mem _ hx, e⟩
theorem tc_mab {H K : Nat → Prop} {g h : Nat} (hg : g < 128) (hh : h < 128) (c : tc_co g = 1 ∨ tc_co h = 1) : tc_ma H K g h = if g &&& h = 0 then 0 else 1 := by
  have key : ∀ x y, x < 128 → tc_co x = 1 → (∀ m, (x &&& y).testBit m = true → m = Nat.log2 x) := by
    intro x y hx cx m hm
    have e := (tc_one x hx cx).2
    have hm' := (tc_ba.mp hm).1
    rw [e] at hm'
    exact tc_pb hm'
  have o : ∃ a, ∀ m, (g &&& h).testBit m = true → m = a := by
    rcases c with c | c
    · exact ⟨_, key g h hg c⟩
    · exact ⟨_, fun m hm => key h g hh c m (by rw [Nat.and_comm]; exact hm)⟩
  obtain ⟨a, ha⟩ := o
  rw [tc_ma1 hg a ha]
  by_cases z : g &&& h = 0
  · rw [if_pos z, z]; rfl
  · rw [if_neg z]
    obtain ⟨m, hm⟩ := tc_n0 z
    have c1 := tc_cop (tc_b7 (tc_anlt hg) hm) hm
    have c2 : tc_co (g &&& h) ≤ tc_co (2 ^ a) := tc_com (fun x hx => by rw [ha x hx]; exact tc_pa a)
    rw [tc_cp a (by rw [← ha m hm]; exact tc_b7 (tc_anlt hg) hm)] at c2
    omega
section
variable {ac ae an aN : Nat → Int32} {n0 n1 : Nat} {N0 N1 : Nat → Nat} {H K : Nat → Prop}
/-- both trees are listed -/
def tx_B (an aN : Nat → Int32) (H K : Nat → Prop) (N0 N1 : Nat → Nat) (n0 n1 : Nat) : Prop := tx_N an aN 0 N0 n0 ∧ tx_N an aN 1 N1 n1 ∧ tc_ND H N0 n0 ∧ tc_ND K N1 n1 ∧ tc_Fm H ∧ tc_Fm K ∧ ∀ g, K g → 1 ≤ tc_co g
theorem tx_mp1 {ab : Nat → Int32} {post : Int32 → SX → Prop} {k l : Nat} (X : tx_B an aN H K N0 N1 n0 n1) (hk : k < n0) (hl : l < n1) (g2 : 2 ≤ tc_co (N0 k)) (h2 : 2 ≤ tc_co (N1 l)) (hB : ∀ i j, i < k → j < l → ab (13 * i + j) = nI (tc_ma H K (N0 i) (N1 j)))
    (h : ∀ am : Nat → Int32, post (nI (tc_mg H K N0 (N0 k) (N1 l) (tc_Q K N1 l) k 127)) (ac, ae, an, aN, ab, am)) :
    ∀ d i (am : Nat → Int32), i + d = k → (∀ q, q < 128 → am q = nI (tc_mg H K N0 (N0 k) (N1 l) (tc_Q K N1 l) i q)) → wX_matchParts_24 post (nI k) (nI l) (d + 1) (nI i) ac ae an aN ab am := by
  obtain ⟨T0, T1, D0, D1, F, E, hc⟩ := X
  have n13 := T0.2.1
  intro d
  induction d with
  | zero =>
    intro i am hi hm
    refine pk_le k i (fun _ => ?_) (fun z => absurd z (by omega))
    have e := hm 127 (by decide)
    rw [show i = k by omega] at e
    have q := h am
    rw [← e] at q
    exact q
  | succ d ih =>
    intro i am hi hm
    refine pk_le k i (fun z => absurd z (by omega)) (fun _ => tx_part (t := 0) T0 D0 hk (by omega) (fun p => br_f (by decide) ⟨129, ?_⟩) (fun p => br_t rfl (nm_r (nI_1 i) (ih (i + 1) am (by omega) (fun q hq => ?_)))))
    · refine tx_md (M := tc_mg H K N0 (N0 k) (N1 l) (tc_Q K N1 l) i) (B := fun j => tc_ma H K (N0 i) (N1 j)) T1 D1 hl (by omega) (fun q => tc_mg7 i q) (fun j hj => hB i j (by omega) hj) (fun j => tc_ma7 _ _) (fun am' hm' => ih (i + 1) am' (by omega) (fun q hq => ?_)) 128 am (by omega) (fun q hq => ?_)
      · rw [hm' q hq, tc_stm F E (D0.1 k hk) (D1.1 l hl) g2 h2 (fun j hj e => by have := D0.2.2.1 j i (by omega) (by omega) e; omega) p (fun r hr => tc_Qm (tn_gd hr)) (fun r r' hr hr' e => tc_ginj (tc_Qn D1 hl) hr hr' e)]
        have e : (tc_Q K N1 l).map (tc_ma H K (N0 i)) = ((List.range' 0 l).filter (tc_pl K N1 l)).map (fun j => tc_ma H K (N0 i) (N1 j)) := by
          unfold tc_Q
          rw [List.map_map]
          rfl
        rw [e]
      · rw [if_pos hq]
        exact hm q hq
    · rw [tc_mgn p]
      exact hm q hq
theorem tx_mp0 {ab : Nat → Int32} {post : Int32 → SX → Prop} {k l : Nat} (X : tx_B an aN H K N0 N1 n0 n1) (hk : k < n0) (hl : l < n1) (g2 : 2 ≤ tc_co (N0 k)) (h2 : 2 ≤ tc_co (N1 l)) (hB : ∀ i j, i < k → j < l → ab (13 * i + j) = nI (tc_ma H K (N0 i) (N1 j)))
    (h : ∀ am : Nat → Int32, post (nI (tc_mg H K N0 (N0 k) (N1 l) (tc_Q K N1 l) k 127)) (ac, ae, an, aN, ab, am)) :
    ∀ d i (am : Nat → Int32), i + d = 128 → (∀ q, q < i → am q = 0) → wX_matchParts_2 post (nI k) (nI l) (d + 1) (nI i) ac ae an aN ab am := by
  intro d
  induction d with
  | zero =>
    intro i am hi hm
    refine br_t ((tn_128 hi).mpr rfl) ⟨k + 1, tx_mp1 X hk hl g2 h2 hB h k 0 am (by omega) (fun q hq => ?_)⟩
    rw [hm q (by omega), tc_mg0]
    rfl
  | succ d ih =>
    intro i am hi hm
    refine br_f (fun z => by have := (tn_128 hi).mp z; omega) ⟨vp_in_nI (by omega) (by decide), nm_r (e' := upd am i 0) ?_ (nm_r (nI_1 i) (ih (i + 1) _ (by omega) (fun q hq => ?_)))⟩
    · rw [nI_clamp (by omega), show vp_nar .byte 0 = 0 from tn_by' (v := 0) (by decide)]
    · by_cases e : q = i
      · rw [e, pk_us]
      · rw [pk_un e]
        exact hm q (by omega)
theorem tx_match {ab am : Nat → Int32} {post : Int32 → SX → Prop} {k l : Nat} (X : tx_B an aN H K N0 N1 n0 n1) (hk : k < n0) (hl : l < n1) (g2 : 2 ≤ tc_co (N0 k)) (h2 : 2 ≤ tc_co (N1 l)) (hB : ∀ i j, i < k → j < l → ab (13 * i + j) = nI (tc_ma H K (N0 i) (N1 j)))
    (h : ∀ am : Nat → Int32, post (nI (tc_mg H K N0 (N0 k) (N1 l) (tc_Q K N1 l) k 127)) (ac, ae, an, aN, ab, am)) : wpX_matchParts post (ac, ae, an, aN, ab, am) (nI k) (nI l) :=
  ⟨129, tx_mp0 X hk hl g2 h2 hB h 128 0 am (by decide) (fun q hq => absurd hq (Nat.not_lt_zero q))⟩
theorem tx_b2 {ab am : Nat → Int32} {post : Int32 → SX → Prop} {k l : Nat} {B : Nat → Nat} (T1 : tx_N an aN 1 N1 n1) (D1 : tc_ND K N1 n1) (hk : k < 13) (hl : l < n1) (hB : ∀ j, j < l → ab (13 * k + j) = nI (B j)) (hB7 : ∀ j, B j ≤ 7) :
    ∀ d j v, j + d = l → v ≤ 7 → post (nI (tc_fm B ((List.range' j d).filter (tc_pl K N1 l)) v)) (ac, ae, an, aN, ab, am) → wX_below_121 post (nI k) (nI l) ac ae an aN ab am (d + 1) (nI v) (nI j) := by
  have n13 := T1.2.1
  intro d
  induction d with
  | zero =>
    intro j v hj hv h
    exact pk_le l j (fun _ => h) (fun z => absurd z (by omega))
  | succ d ih =>
    intro j v hj hv h
    have b7 := hB7 j
    have i1 : vp_in (nI k * 13 + nI j) 169 := by rw [tn_ix13]; exact vp_in_nI (by omega) (by decide)
    have e1 : ab (nI k * 13 + nI j).toNatClampNeg = nI (B j) := by rw [tn_ix13, nI_clamp (by omega)]; exact hB j (by omega)
    rw [tn_rs] at h
    refine pk_le l j (fun z => absurd z (by omega)) (fun _ => tx_part (t := 1) T1 D1 hl (by omega) (fun p => ?_) (fun p => ?_))
    · rw [List.filter_cons_of_pos (p := tc_pl K N1 l) (tc_plt p), tc_fm] at h
      refine br_f (by decide) ⟨i1, ?_⟩
      rw [e1]
      refine pk_le (B j) v (fun y => nm_r (nI_1 j) (ih (j + 1) v (by omega) hv ?_)) (fun y => ⟨i1, nm_e (nm_r (nI_1 j) (ih (j + 1) (B j) (by omega) b7 ?_))⟩)
      · rw [if_pos y] at h; exact h
      · rw [if_neg (by omega)] at h; exact h
    · rw [List.filter_cons_of_neg (p := tc_pl K N1 l) (tc_plf p)] at h
      exact br_t rfl (nm_r (nI_1 j) (ih (j + 1) v (by omega) hv h))
theorem tx_b1 {ab am : Nat → Int32} {post : Int32 → SX → Prop} {k l : Nat} {B B' : Nat → Nat} (T0 : tx_N an aN 0 N0 n0) (D0 : tc_ND H N0 n0) (T1 : tx_N an aN 1 N1 n1) (D1 : tc_ND K N1 n1) (hk : k < n0) (hl : l < n1) (hB : ∀ i, i < k → ab (13 * i + l) = nI (B i)) (hB7 : ∀ j, B j ≤ 7) (hB' : ∀ j, j < l → ab (13 * k + j) = nI (B' j)) (hB7' : ∀ j, B' j ≤ 7) :
    ∀ d i v, i + d = k → v ≤ 7 → post (nI (tc_fm B' ((List.range' 0 l).filter (tc_pl K N1 l)) (tc_fm B ((List.range' i d).filter (tc_pl H N0 k)) v))) (ac, ae, an, aN, ab, am) → wX_below_59 post (nI k) (nI l) ac ae an aN ab am (d + 1) (nI v) (nI i) := by
  have n13 := T0.2.1
  have n13' := T1.2.1
  intro d
  induction d with
  | zero =>
    intro i v hi hv h
    exact pk_le k i (fun _ => ⟨l + 1, tx_b2 T1 D1 (by omega) hl hB' hB7' l 0 v (by omega) hv h⟩) (fun z => absurd z (by omega))
  | succ d ih =>
    intro i v hi hv h
    have b7 := hB7 i
    have i1 : vp_in (nI i * 13 + nI l) 169 := by rw [tn_ix13]; exact vp_in_nI (by omega) (by decide)
    have e1 : ab (nI i * 13 + nI l).toNatClampNeg = nI (B i) := by rw [tn_ix13, nI_clamp (by omega)]; exact hB i (by omega)
    rw [tn_rs] at h
    refine pk_le k i (fun z => absurd z (by omega)) (fun _ => tx_part (t := 0) T0 D0 hk (by omega) (fun p => ?_) (fun p => ?_))
    · rw [List.filter_cons_of_pos (p := tc_pl H N0 k) (tc_plt p)] at h
      rw [tc_fm] at h
      refine br_f (by decide) ⟨i1, ?_⟩
      rw [e1]
      refine pk_le (B i) v (fun y => nm_r (nI_1 i) (ih (i + 1) v (by omega) hv ?_)) (fun y => ⟨i1, nm_e (nm_r (nI_1 i) (ih (i + 1) (B i) (by omega) b7 ?_))⟩)
      · rw [if_pos y] at h; exact h
      · rw [if_neg (by omega)] at h; exact h
    · rw [List.filter_cons_of_neg (p := tc_pl H N0 k) (tc_plf p)] at h
      exact br_t rfl (nm_r (nI_1 i) (ih (i + 1) v (by omega) hv h))
/-- what the class takes is the largest agreement -/
theorem tc_bv (F : tc_Fm H) (E : tc_Fm K) (hc : ∀ g, K g → 1 ≤ tc_co g) (D0 : tc_ND H N0 n0) (D1 : tc_ND K N1 n1) {k l : Nat} (hk : k < n0) (hl : l < n1) (g2 : 2 ≤ tc_co (N0 k)) (h2 : 2 ≤ tc_co (N1 l)) :
    tc_fm (fun j => tc_ma H K (N0 k) (N1 j)) ((List.range' 0 l).filter (tc_pl K N1 l)) (tc_fm (fun i => tc_ma H K (N0 i) (N1 l)) ((List.range' 0 k).filter (tc_pl H N0 k)) (tc_mg H K N0 (N0 k) (N1 l) (tc_Q K N1 l) k 127)) = tc_ma H K (N0 k) (N1 l) := by
  obtain ⟨a1, a2, a3⟩ := tc_fmp (fun i => tc_ma H K (N0 i) (N1 l)) ((List.range' 0 k).filter (tc_pl H N0 k)) (tc_mg H K N0 (N0 k) (N1 l) (tc_Q K N1 l) k 127)
  obtain ⟨b1, b2, b3⟩ := tc_fmp (fun j => tc_ma H K (N0 k) (N1 j)) ((List.range' 0 l).filter (tc_pl K N1 l)) (tc_fm (fun i => tc_ma H K (N0 i) (N1 l)) ((List.range' 0 k).filter (tc_pl H N0 k)) (tc_mg H K N0 (N0 k) (N1 l) (tc_Q K N1 l) k 127))
  refine (tc_below (N := N0) (Q := tc_Q K N1 l) (k := k) F E (D0.1 k hk) (D1.1 l hl) g2 h2 (fun p hp => ?_) (fun q hq => tn_mg (tc_Qc E D1 hl hq)) (fun r hr => tc_Qm (tn_gd hr)) (tc_Q7 E D1 hc hl) ?_ (Nat.le_trans a1 b1) (fun p hp => ?_) (fun q hq => ?_)).symm
  · obtain ⟨i, hi, e⟩ := D0.2.1 p hp.1
    exact ⟨i, tc_ND1 F D0 hk hi (by rw [e]; exact hp), e⟩
  · rcases b3 with e | ⟨j, hj, e⟩
    · rcases a3 with e' | ⟨i, hi, e'⟩
      · exact Or.inl (e.trans e')
      · exact Or.inr (Or.inl ⟨N0 i, tc_bpi.mp ((List.mem_filter.mp hi).2 : tc_pl H N0 k i = true), e.trans e'⟩)
    · exact Or.inr (Or.inr ⟨N1 j, tc_bpi.mp ((List.mem_filter.mp hj).2 : tc_pl K N1 l j = true), e⟩)
  · obtain ⟨i, hi, e⟩ := D0.2.1 p hp.1
    have hp' : tc_pt H (N0 k) (N0 i) := by rw [e]; exact hp
    have q := a2 i (List.mem_filter.mpr ⟨List.mem_range'_1.mpr ⟨Nat.zero_le i, by have := tc_ND1 F D0 hk hi hp'; omega⟩, tc_bpi.mpr hp'⟩)
    rw [← e]
    exact Nat.le_trans q b1
  · obtain ⟨j, hj, e⟩ := D1.2.1 q hq.1
    have hq' : tc_pt K (N1 l) (N1 j) := by rw [e]; exact hq
    have p := b2 j (List.mem_filter.mpr ⟨List.mem_range'_1.mpr ⟨Nat.zero_le j, by have := tc_ND1 E D1 hl hj hq'; omega⟩, tc_bpi.mpr hq'⟩)
    rw [← e]
    exact p
theorem tx_b35 {ab am : Nat → Int32} {post : Int32 → SX → Prop} {g h : Nat} (hg : g < 128) (hh : h < 128) (c : tc_co g = 1 ∨ tc_co h = 1) (q : post (nI (tc_ma H K g h)) (ac, ae, an, aN, ab, am)) : wX_below_35 post (nI g) (nI h) ac ae an aN ab am := by
  have a : g &&& h < 128 := tc_anlt hg
  rw [tc_mab hg hh c] at q
  refine pk_eq (g &&& h) 0 (fun z => ?_) (fun z => ?_) (nx_and g h)
  · rw [if_pos z] at q; exact q
  · rw [if_neg z] at q; exact q
theorem tx_below {ab am : Nat → Int32} {post : Int32 → SX → Prop} {k l : Nat} (X : tx_B an aN H K N0 N1 n0 n1) (hk : k < n0) (hl : l < n1) (hB : ∀ i j, (i < k ∧ j < n1) ∨ (i = k ∧ j < l) → ab (13 * i + j) = nI (tc_ma H K (N0 i) (N1 j)))
    (hH : ∀ g, H g → 1 ≤ tc_co g) (h : ∀ am : Nat → Int32, post (nI (tc_ma H K (N0 k) (N1 l))) (ac, ae, an, aN, ab, am)) : wpX_below post (ac, ae, an, aN, ab, am) (nI k) (nI l) := by
  obtain ⟨T0, T1, D0, D1, F, E, hc⟩ := X
  have n13 := T0.2.1
  have n13' := T1.2.1
  have g8 := T0.2.2.2.2 k hk
  have h8 := T1.2.2.2.2 l hl
  have e0 : an (nI k).toNatClampNeg = nI (N0 k) := by
    rw [nI_clamp (by omega)]
    have := T0.2.2.2.1 k hk
    rw [Nat.mul_zero, Nat.zero_add] at this
    exact this
  have i1 : vp_in (13 + nI l) 26 := by
    show vp_in (nI 13 + nI l) 26
    rw [nI_add]
    exact vp_in_nI (by omega) (by decide)
  have e1 : an (13 + nI l).toNatClampNeg = nI (N1 l) := by
    show an (nI 13 + nI l).toNatClampNeg = _
    rw [nI_add, nI_clamp (by omega)]
    exact T1.2.2.2.1 l hl
  refine ⟨vp_in_nI (by omega) (by decide), nm_r e0 ⟨i1, nm_r e1 (tx_ones g8 ?_)⟩⟩
  by_cases c : tc_co (N0 k) = 1
  · exact br_t ((tn_c1 _).mpr c) (tx_b35 g8 h8 (Or.inl c) (h am))
  · refine br_f (fun q => c ((tn_c1 _).mp q)) (tx_ones h8 ?_)
    by_cases c' : tc_co (N1 l) = 1
    · exact br_t ((tn_c1 _).mpr c') (tx_b35 g8 h8 (Or.inr c') (h am))
    · have g2 : 2 ≤ tc_co (N0 k) := by have := hH _ (D0.1 k hk); omega
      have h2 : 2 ≤ tc_co (N1 l) := by have := hc _ (D1.1 l hl); omega
      refine br_f (fun q => c' ((tn_c1 _).mp q)) (tx_match ⟨T0, T1, D0, D1, F, E, hc⟩ hk hl g2 h2 (fun i j hi hj => hB i j (Or.inl ⟨hi, by omega⟩)) (fun am' => ⟨k + 1, ?_⟩))
      refine tx_b1 (B := fun i => tc_ma H K (N0 i) (N1 l)) (B' := fun j => tc_ma H K (N0 k) (N1 j)) T0 D0 T1 D1 hk hl (fun i hi => hB i l (Or.inl ⟨hi, hl⟩)) (fun i => tc_ma7 _ _) (fun j hj => hB k j (Or.inr ⟨rfl, hj⟩)) (fun j => tc_ma7 _ _) k 0 _ (by omega) (tc_mg7 _ _) ?_
      rw [tc_bv F E hc D0 D1 hk hl g2 h2]
      exact h am'
theorem tx_so1 {post : Int32 → SX → Prop} {J : Int32 → (Nat → Int32) → (Nat → Int32) → (Nat → Int32) → (Nat → Int32) → (Nat → Int32) → (Nat → Int32) → Prop} {k : Nat} (X : tx_B an aN H K N0 N1 n0 n1) (hk : k < n0) (hH : ∀ g, H g → 1 ≤ tc_co g)
    (hJ : ∀ ab am : Nat → Int32, (∀ i j, i < k + 1 ∧ j < n1 → ab (13 * i + j) = nI (tc_ma H K (N0 i) (N1 j))) → J (nI (k + 1)) ac ae an aN ab am) :
    ∀ d l (ab am : Nat → Int32), l + d = n1 → (∀ i j, (i < k ∧ j < n1) ∨ (i = k ∧ j < l) → ab (13 * i + j) = nI (tc_ma H K (N0 i) (N1 j))) → wX_solve_24 post J (nI k) (d + 1) (nI l) ac ae an aN ab am := by
  have n13 := X.1.2.1
  have n13' := X.2.1.2.1
  have e1 : aN 1 = nI n1 := X.2.1.2.2.1
  intro d
  induction d with
  | zero =>
    intro l ab am hl hb
    exact pk_le n1 l (fun _ => nm_r (nI_1 k) (hJ ab am (fun i j h => hb i j (by omega)))) (fun z => absurd z (by omega)) e1
  | succ d ih =>
    intro l ab am hl hb
    refine pk_le n1 l (fun z => absurd z (by omega)) (fun _ => tx_below X hk (by omega) hb hH (fun am' => And.intro ?_ (nm_r (e' := upd ab (13 * k + l) (nI (tc_ma H K (N0 k) (N1 l)))) ?_ (nm_r (nI_1 l) (ih (l + 1) _ am' (by omega) (fun i j h => ?_)))))) e1
    · rw [tn_ix13]
      exact vp_in_nI (by omega) (by decide)
    · have m7 := tc_ma7 (H := H) (K := K) (N0 k) (N1 l)
      rw [tn_ix13, nI_clamp (by omega), tn_by (by omega)]
    · by_cases e : i = k ∧ j = l
      · rw [e.1, e.2, pk_us]
      · rw [pk_un (by omega)]
        exact hb i j (by omega)
theorem tx_so2 {post : Int32 → SX → Prop} (X : tx_B an aN H K N0 N1 n0 n1) (p0 : 1 ≤ n0) (p1 : 1 ≤ n1) (hH : ∀ g, H g → 1 ≤ tc_co g)
    (h : ∀ ab am : Nat → Int32, post (nI (tc_ma H K (N0 (n0 - 1)) (N1 (n1 - 1)))) (ac, ae, an, aN, ab, am)) :
    ∀ d k (ab am : Nat → Int32), k + d = n0 → (∀ i j, i < k ∧ j < n1 → ab (13 * i + j) = nI (tc_ma H K (N0 i) (N1 j))) → wX_solve_12 post (d + 1) (nI k) ac ae an aN ab am := by
  have n13 := X.1.2.1
  have n13' := X.2.1.2.1
  have e0 : aN 0 = nI n0 := X.1.2.2.1
  have e1 : aN 1 = nI n1 := X.2.1.2.2.1
  intro d
  induction d with
  | zero =>
    intro k ab am hk hb
    refine pk_le n0 k (fun _ => ?_) (fun z => absurd z (by omega)) e0
    have e : (((aN 0) - 1) * 13 + (aN 1)) - 1 = nI (13 * (n0 - 1) + (n1 - 1)) := by
      rw [e0, e1]
      show ((nI n0 - nI 1) * nI 13 + nI n1) - nI 1 = _
      rw [pk_sub p0, pk_mul, nI_add, pk_sub (by omega)]
      exact congrArg nI (by omega)
    rw [e]
    refine ⟨vp_in_nI (by omega) (by decide), ?_⟩
    rw [nI_clamp (by omega), hb (n0 - 1) (n1 - 1) (by omega)]
    exact h ab am
  | succ d ih =>
    intro k ab am hk hb
    exact pk_le n0 k (fun z => absurd z (by omega)) (fun _ => ⟨n1 + 1, tx_so1 X (by omega) hH (fun ab' am' hb' => ih (k + 1) ab' am' (by omega) hb') n1 0 ab am (by omega) (fun i j h => hb i j (by omega))⟩) e0
end
theorem tx_solve {ac ae an aN ab am : Nat → Int32} {K L : List Nat} {post : Int32 → SX → Prop} (T : tx_L ac ae 0 K) (O : tc_OK K) (U : tx_L ac ae 1 L) (P : tc_OK L)
    (h : ∀ an aN ab am : Nat → Int32, post (nI (tc_ma (tc_H K) (tc_H L) 127 127)) (ac, ae, an, aN, ab, am)) : wpX_solve post (ac, ae, an, aN, ab, am) := by
  have k13 := tc_nl13 O
  have l13 := tc_nl13 P
  have k8 := tc_nll O
  have l8 := tc_nll P
  unfold wpX_solve
  dsimp only
  refine tx_list (t := 0) T k13 ?_
  dsimp only
  refine tx_list (t := 1) U l13 ?_
  dsimp only
  have X : tx_B (tx_wl (tx_wl an (13 * 0) (tc_nl K)) (13 * 1) (tc_nl L)) (upd (upd aN 0 (nI (tc_nl K).length)) 1 (nI (tc_nl L).length)) (tc_H K) (tc_H L) (tc_N K) (tc_N L) (tc_nl K).length (tc_nl L).length := by
    refine ⟨⟨by decide, k13, rfl, fun k hk => ?_, fun k hk => ((tc_NDL O).1 k hk).1⟩, ⟨by decide, l13, rfl, fun k hk => tx_wli _ _ _ k hk, fun k hk => ((tc_NDL P).1 k hk).1⟩, tc_NDL O, tc_NDL P, tc_HF O, tc_HF P, fun g hg => tc_Hc P hg⟩
    rw [tx_wlo _ _ _ _ (Or.inl (by omega))]
    exact tx_wli _ _ _ k hk
  refine ⟨(tc_nl K).length + 1, tx_so2 X (by omega) (by omega) (fun g hg => tc_Hc O hg) (fun ab' am' => ?_) (tc_nl K).length 0 ab am (by omega) (fun i j hq => absurd hq.1 (Nat.not_lt_zero i))⟩
  rw [tc_Nl O, tc_Nl P]
  exact h _ _ _ _
end
section
/-! what class and reference work out is the same -/
theorem tl_groups {L : List Nat} (O : tc_OK L) : tc_sm (ty_f1 (tc_hs L)) tc_rg = 8 + L.length := by
  have e := tc_smL O (fun _ => 1)
  rw [tc_sm1, tc_sm1] at e
  exact e
theorem tl_dp0 : ∀ m, m < 7 → tc_sm (tx_fb m) tc_gl = 2 := by decide +kernel
theorem tl_depth {L : List Nat} (O : tc_OK L) {m : Nat} (hm : m < 7) : tc_sm (ty_f1 (ty_dp L m)) tc_rg = 2 + tc_sm (tx_fb m) L := by
  have e := tc_smL O (tx_fb m)
  rw [tl_dp0 m hm] at e
  rw [← e]
  refine tc_smc (fun g _ => ?_)
  unfold ty_f1 ty_dp tx_fb
  cases tc_hs L g <;> cases g.testBit m <;> rfl
theorem tl_gl8 (L : List Nat) : tc_sm (ty_f1 (tc_hs L)) tc_gl = 8 := by
  have e : tc_sm (ty_f1 (tc_hs L)) tc_gl = tc_sm (fun _ => 1) tc_gl := tc_smc (fun g hg => ty_f11 (by
    have b : g < 128 := (by decide : ∀ g, g ∈ tc_gl → g < 128) g hg
    unfold tc_hs
    rw [(tc_glm g b).mpr hg]
    rfl))
  rw [e]
  rfl
theorem tc_ng {L : List Nat} (O : tc_OK L) {g : Nat} (h : g ∈ L) : tc_gv g = false := by
  have o := O.2.1 g h
  unfold tc_gv
  rw [beq_false_of_ne (by omega), beq_false_of_ne (by omega)]
  rfl
theorem tl_common {K L : List Nat} (O : tc_OK K) : tc_sm (ty_f1 (ty_pc K L)) tc_rg = 8 + tc_sm (ty_f1 L.contains) K := by
  have e := tc_smL O (ty_f1 (tc_hs L))
  rw [tl_gl8] at e
  have e1 : tc_sm (ty_f1 (tc_hs L)) K = tc_sm (ty_f1 L.contains) K := tc_smc (fun g hg => by
    unfold ty_f1 tc_hs
    rw [tc_ng O hg]
    rfl)
  rw [e1] at e
  rw [← e]
  refine tc_smc (fun g _ => ?_)
  unfold ty_f1 ty_pc
  cases tc_hs K g <;> cases tc_hs L g <;> rfl
theorem tl_gd {K L : List Nat} (O : tc_OK K) (P : tc_OK L) : K.length + L.length = tc_sm (ty_f1 (ty_pg K L)) tc_rg + 2 * tc_sm (ty_f1 L.contains) K := by
  have e : tc_sm (ty_f1 (ty_pg K L)) tc_rg + (tc_sm (ty_f1 (ty_pc K L)) tc_rg + tc_sm (ty_f1 (ty_pc K L)) tc_rg) = tc_sm (ty_f1 (tc_hs K)) tc_rg + tc_sm (ty_f1 (tc_hs L)) tc_rg := by
    rw [← tc_sma, ← tc_sma, ← tc_sma]
    refine tc_smc (fun g _ => ?_)
    unfold ty_f1 ty_pg ty_pc
    cases tc_hs K g <;> cases tc_hs L g <;> rfl
  rw [tl_groups O, tl_groups P, tl_common O] at e
  omega
theorem tl_fit {L : List Nat} (O : tc_OK L) {q : Nat} (hq : q < 128) : tc_fit L q = L.all (tc_lb q) := by
  refine Bool.eq_iff_iff.mpr ?_
  unfold tc_fit
  rw [List.all_eq_true, List.all_eq_true]
  constructor
  · intro h e he
    have o := O.2.1 e he
    have k := h e (tc_rgm.mpr ⟨tc_c1 (by omega), by omega⟩)
    unfold tc_ft at k
    rw [tc_hsi.mpr (Or.inr (Or.inr he)), Bool.true_and, Bool.not_not] at k
    rw [tc_lbs]
    exact k
  · intro h x hx
    unfold tc_ft
    cases z : tc_hs L x with
    | false => rfl
    | true =>
      rw [Bool.true_and, Bool.not_not]
      rcases tc_hsi.mp z with c | c | c
      · exact tc_lbi.mpr (tc_lm1 (tc_rgm.mp hx).2 c)
      · rw [c]; exact tc_lbi.mpr (Or.inr (Or.inr (tc_s127 hq)))
      · rw [tc_lbs]; exact h x c
theorem tl_room {L : List Nat} (O : tc_OK L) : tc_sm (ty_f1 (ty_rm L)) tc_rg = tc_sm (ty_f1 (tx_rm L)) tc_rg := by
  refine tc_smc (fun g hg => ?_)
  unfold ty_f1 ty_rm tx_rm
  rw [tl_fit O (tc_rgm.mp hg).2]
theorem tl_together {K L : List Nat} (O : tc_OK K) (P : tc_OK L) : tc_rg.all (ty_pw K L) = K.all (fun e => L.all (tc_lb e)) := by
  refine Bool.eq_iff_iff.mpr ?_
  rw [List.all_eq_true, List.all_eq_true]
  constructor
  · intro h e he
    rw [List.all_eq_true]
    intro f hf
    have o := P.2.1 f hf
    have k := h f (tc_rgm.mpr ⟨tc_c1 (by omega), by omega⟩)
    unfold ty_pw at k
    rw [tc_hsi.mpr (Or.inr (Or.inr hf)), tl_fit O (by omega), Bool.not_true, Bool.false_or, List.all_eq_true] at k
    rw [tc_lbs]
    exact k e he
  · intro h g hg
    have g8 := (tc_rgm.mp hg).2
    unfold ty_pw
    cases z : tc_hs L g with
    | false => rfl
    | true =>
      rw [Bool.not_true, Bool.false_or, tl_fit O g8, List.all_eq_true]
      intro e he
      rcases tc_hsi.mp z with c | c | c
      · exact tc_lbi.mpr (tc_lm1 g8 c)
      · rw [c]; exact tc_lbi.mpr (Or.inr (Or.inr (tc_s127 (by have := (O.2.1 e he).1; omega))))
      · rw [tc_lbs]
        exact List.all_eq_true.mp (h e he) g c
/-! sums over triples -/
theorem tl_p3 : (((List.range' 0 343).filter tc_tri).map tc_mk).Perm ((List.range' 0 128).filter (fun s => tc_co s == 3)) := by decide +kernel
theorem tl_fc {p q : Nat → Bool} {g h : Nat} (e : p g = q h) : ty_f1 p g = ty_f1 q h := by
  unfold ty_f1
  rw [e]
theorem tl_fi {t G p : Nat → Bool} {m : Nat → Nat} {i : Nat} (e : p i = (t i && G (m i))) : ty_f1 p i = if t i = true then ty_f1 G (m i) else 0 := by
  by_cases z : t i = true
  · rw [if_pos z]
    exact tl_fc (by rw [e, z, Bool.true_and])
  · rw [if_neg z]
    exact ty_f10 (by rw [e, tc_nb z, Bool.false_and])
theorem tl_s3 (G : Nat → Bool) : tc_sm (ty_f1 (fun i => tc_tri i && G (tc_mk i))) (List.range' 0 343) = tc_sm (ty_f1 (fun s => tc_co s == 3 && G s)) (List.range' 0 128) := by
  have e1 : tc_sm (ty_f1 (fun i => tc_tri i && G (tc_mk i))) (List.range' 0 343) = tc_sm (fun i => if tc_tri i = true then ty_f1 G (tc_mk i) else 0) (List.range' 0 343) := tc_smc (fun i _ => tl_fi rfl)
  have e2 : tc_sm (ty_f1 (fun s => tc_co s == 3 && G s)) (List.range' 0 128) = tc_sm (fun s => if (fun s => tc_co s == 3) s = true then ty_f1 G s else 0) (List.range' 0 128) := tc_smc (fun s _ => tl_fi (t := fun s => tc_co s == 3) (m := fun s => s) rfl)
  rw [e1, e2, tc_smf (f := fun i => ty_f1 G (tc_mk i)), tc_smf (f := ty_f1 G) (p := fun s => tc_co s == 3), ← tc_smp tl_p3, tc_smm]
theorem tl_ss {L : List Nat} {i : Nat} (hi : i < 343) (ht : tc_tri i = true) : tc_ss L (tc_mk i) = tc_sy L (i / 49) (i / 7 % 7) (i % 7) := by
  unfold tc_ss
  rw [(tc_tb2 i hi ht).2.2]
theorem tl_decided (L : List Nat) : tc_sm (ty_f1 (ty_pd L)) (List.range' 0 128) = tc_sm (ty_f1 (tx_pd L)) (List.range' 0 343) := by
  have e := tl_s3 (fun s => tc_ss L s != 3)
  refine Eq.trans e.symm (tc_smc (fun i hi => tl_fc ?_))
  have i3 := (List.mem_range'_1.mp hi).2
  unfold tx_pd
  cases t : tc_tri i with
  | false => rfl
  | true => rw [tl_ss (by omega) t]
theorem tl_w127 : ∀ i, i < 343 → tx_w3 127 i = true := by decide +kernel
theorem tl_triple (K L : List Nat) : tc_sm (ty_f1 (ty_pt K L)) (List.range' 0 128) = tc_sm (ty_f1 (tx_pc K L 127)) (List.range' 0 343) := by
  have e := tl_s3 (fun s => tc_ss K s != tc_ss L s)
  refine Eq.trans e.symm (tc_smc (fun i hi => tl_fc ?_))
  have i3 := (List.mem_range'_1.mp hi).2
  unfold tx_pc
  rw [tl_w127 i (by omega)]
  cases t : tc_tri i with
  | false => rfl
  | true => rw [tl_ss (by omega) t, tl_ss (by omega) t]; rfl
/-! agreement of a set -/
theorem tl_w3 {q i : Nat} : tx_w3 q i = true ↔ tc_sb (tc_mk i) q := by
  unfold tx_w3 tc_mk
  rw [Bool.and_eq_true, Bool.and_eq_true]
  constructor
  · rintro ⟨⟨a, b⟩, c⟩ m hm
    rcases tc_bo.mp hm with z | z
    · rcases tc_bo.mp z with y | y
      · rw [tc_pb y]; exact a
      · rw [tc_pb y]; exact b
    · rw [tc_pb z]; exact c
  · intro h
    exact ⟨⟨h _ (tc_bo.mpr (Or.inl (tc_bo.mpr (Or.inl (tc_pa _))))), h _ (tc_bo.mpr (Or.inl (tc_bo.mpr (Or.inr (tc_pa _)))))⟩, h _ (tc_bo.mpr (Or.inr (tc_pa _)))⟩
theorem tl_ab {K L : List Nat} {q : Nat} : tc_ab K L q = true ↔ ∀ s, s < 128 → tc_co s = 3 → tc_sb s q → tc_ss K s = tc_ss L s := by
  unfold tc_ab
  rw [List.all_eq_true]
  constructor
  · intro h s hs c sb
    have k := h s (List.mem_range'_1.mpr ⟨Nat.zero_le s, by omega⟩)
    unfold ty_pa ty_pt at k
    rw [c, tc_df0.mpr sb] at k
    cases z : tc_ss K s != tc_ss L s with
    | false => exact bne_eq_false_iff_eq.mp z
    | true => rw [z] at k; cases k
  · intro h s hs
    have s8 := (List.mem_range'_1.mp hs).2
    unfold ty_pa
    by_cases z : tc_df s q = 0
    · by_cases c : tc_co s = 3
      · rw [ty_ptf (h s (by omega) c (tc_df0.mp z)), Bool.and_false]; rfl
      · rw [ty_ptn c, Bool.and_false]; rfl
    · rw [beq_false_of_ne z]; rfl
theorem tl_cf {K L : List Nat} {q : Nat} : tc_sm (ty_f1 (tx_pc K L q)) (List.range' 0 343) = 0 ↔ tc_ab K L q = true := by
  rw [tc_sm0, tl_ab]
  constructor
  · intro h s hs c sb
    obtain ⟨i1, i2, i3, _⟩ := tc_tb1 s hs c
    have k := h (tc_ix s) (List.mem_range'_1.mpr ⟨Nat.zero_le _, by omega⟩)
    have w : tx_w3 q (tc_ix s) = true := tl_w3.mpr (by rw [i3]; exact sb)
    unfold ty_f1 tx_pc at k
    rw [w, i2, Bool.true_and, Bool.true_and] at k
    unfold tc_ss
    by_cases z : tc_sy K (tc_ix s / 49) (tc_ix s / 7 % 7) (tc_ix s % 7) = tc_sy L (tc_ix s / 49) (tc_ix s / 7 % 7) (tc_ix s % 7)
    · exact z
    · rw [if_pos (bne_iff_ne.mpr z)] at k
      cases k
  · intro h i hi
    have i3 : i < 343 := by have := (List.mem_range'_1.mp hi).2; omega
    refine ty_f10 ?_
    unfold tx_pc
    cases w : tx_w3 q i with
    | false => rfl
    | true =>
      cases t : tc_tri i with
      | false => rfl
      | true =>
        obtain ⟨j1, j2, j3⟩ := tc_tb2 i i3 t
        have k := h (tc_mk i) j1 j2 (tl_w3.mp w)
        rw [tl_ss i3 t, tl_ss i3 t] at k
        rw [k, bne_self_eq_false]
        rfl
theorem tl_sy0 {L : List Nat} {a b c : Nat} : tc_cb L b c a = true ↔ tc_sy L a b c = 0 := by
  unfold tc_sy
  cases tc_cb L b c a <;> cases tc_cb L a c b <;> cases tc_cb L a b c <;> decide
theorem tl_sy1 {L : List Nat} (O : tc_OK L) {a b c : Nat} : tc_cb L a c b = true ↔ tc_sy L a b c = 1 := by
  constructor
  · intro z
    have y : ¬ tc_cb L b c a = true := fun x => tc_cx (tc_HF O) (tc_cls (tc_cbi.mp x)) (tc_cls (tc_cbi.mp z))
    unfold tc_sy
    rw [if_neg y, if_pos z]
  · intro h
    unfold tc_sy at h
    revert h
    cases tc_cb L b c a <;> cases tc_cb L a c b <;> cases tc_cb L a b c <;> decide
theorem tl_sy2 {L : List Nat} (O : tc_OK L) {a b c : Nat} : tc_cb L a b c = true ↔ tc_sy L a b c = 2 := by
  constructor
  · intro z
    rw [tc_syx O, if_pos z]
  · intro h
    unfold tc_sy at h
    revert h
    cases tc_cb L b c a <;> cases tc_cb L a c b <;> cases tc_cb L a b c <;> decide
theorem tl_eq {K L : List Nat} (O : tc_OK K) (P : tc_OK L) {a b c : Nat} (e : tc_sy K a b c = tc_sy L a b c) :
    (tc_cl (tc_H K) a b c ↔ tc_cl (tc_H L) a b c) ∧ (tc_cl (tc_H K) a c b ↔ tc_cl (tc_H L) a c b) ∧ (tc_cl (tc_H K) b c a ↔ tc_cl (tc_H L) b c a) := by
  rw [← tc_cbi, ← tc_cbi, ← tc_cbi, ← tc_cbi, ← tc_cbi, ← tc_cbi, tl_sy2 O, tl_sy2 P, tl_sy1 O, tl_sy1 P, tl_sy0, tl_sy0, e]
  exact ⟨Iff.rfl, Iff.rfl, Iff.rfl⟩
theorem tl_cls {H K : Nat → Prop} {a b c : Nat} (h : tc_cl H a b c ↔ tc_cl K a b c) : tc_cl H b a c ↔ tc_cl K b a c := ⟨fun z => tc_cls (h.mp (tc_cls z)), fun z => tc_cls (h.mpr (tc_cls z))⟩
theorem tl_one {H : Nat → Prop} (F : tc_Fm H) {a c : Nat} (ha : a < 7) : tc_cl H a a c ↔ a ≠ c := by
  constructor
  · rintro ⟨x, _, xa, _, xc⟩ e
    rw [e] at xa
    exact xc xa
  · intro n
    exact ⟨2 ^ a, F.2.2.1 a ha, tc_pa a, tc_pa a, fun z => n (tc_pb z).symm⟩
theorem tl_tri {K L : List Nat} {q : Nat} (h : tc_ab K L q = true) {a b c : Nat} (ab : a < b) (bc : b < c) (c7 : c < 7) (qa : q.testBit a = true) (qb : q.testBit b = true) (qc : q.testBit c = true) : tc_sy K a b c = tc_sy L a b c := by
  have e1 : (49 * a + 7 * b + c) / 49 = a := by omega
  have e2 : (49 * a + 7 * b + c) / 7 % 7 = b := by omega
  have e3 : (49 * a + 7 * b + c) % 7 = c := by omega
  have i3 : 49 * a + 7 * b + c < 343 := by omega
  have t : tc_tri (49 * a + 7 * b + c) = true := tc_trit (by omega) (by omega)
  obtain ⟨j1, j2, j3⟩ := tc_tb2 _ i3 t
  have w : tx_w3 q (49 * a + 7 * b + c) = true := by
    unfold tx_w3
    rw [e1, e2, e3, qa, qb, qc]
    rfl
  have k := tl_ab.mp h _ j1 j2 (tl_w3.mp w)
  rw [tl_ss i3 t, tl_ss i3 t, e1, e2, e3] at k
  exact k
theorem tl_ag {K L : List Nat} (O : tc_OK K) (P : tc_OK L) {q : Nat} (hq : q < 128) : tc_ab K L q = true ↔ tc_ag (tc_H K) (tc_H L) q := by
  constructor
  · intro h a b c qa qb qc
    have a7 := tc_b7 hq qa
    have b7 := tc_b7 hq qb
    have c7 := tc_b7 hq qc
    rcases Nat.lt_trichotomy a b with ab | ab | ab
    · rcases Nat.lt_trichotomy b c with bc | bc | bc
      · exact (tl_eq O P (tl_tri h ab bc c7 qa qb qc)).1
      · rw [bc]
        exact ⟨fun ⟨_, _, _, x, y⟩ => absurd x y, fun ⟨_, _, _, x, y⟩ => absurd x y⟩
      · rcases Nat.lt_trichotomy a c with ac | ac | ac
        · exact (tl_eq O P (tl_tri h ac bc b7 qa qc qb)).2.1
        · rw [ac]
          exact ⟨fun ⟨_, _, x, _, y⟩ => absurd x y, fun ⟨_, _, x, _, y⟩ => absurd x y⟩
        · exact (tl_eq O P (tl_tri h ac ab b7 qc qa qb)).2.2
    · rw [← ab, tl_one (tc_HF O) a7, tl_one (tc_HF P) a7]
    · rcases Nat.lt_trichotomy a c with ac | ac | ac
      · exact tl_cls (tl_eq O P (tl_tri h ab ac c7 qb qa qc)).1
      · rw [ac]
        exact ⟨fun ⟨_, _, x, _, y⟩ => absurd x y, fun ⟨_, _, x, _, y⟩ => absurd x y⟩
      · rcases Nat.lt_trichotomy b c with bc | bc | bc
        · exact tl_cls (tl_eq O P (tl_tri h bc ac a7 qb qc qa)).2.1
        · rw [bc]
          exact ⟨fun ⟨_, _, _, x, y⟩ => absurd x y, fun ⟨_, _, _, x, y⟩ => absurd x y⟩
        · exact tl_cls (tl_eq O P (tl_tri h bc ab a7 qc qb qa)).2.2
  · intro h
    refine tl_ab.mpr (fun s hs c sb => ?_)
    obtain ⟨i1, i2, i3, _⟩ := tc_tb1 s hs c
    have w : tx_w3 q (tc_ix s) = true := tl_w3.mpr (by rw [i3]; exact sb)
    unfold tx_w3 at w
    rw [Bool.and_eq_true, Bool.and_eq_true] at w
    have k : ∀ {x y z : Nat}, q.testBit x = true → q.testBit y = true → q.testBit z = true → tc_cb K x y z = tc_cb L x y z := fun hx hy hz => Bool.eq_iff_iff.mpr (by rw [tc_cbi, tc_cbi]; exact h _ _ _ hx hy hz)
    unfold tc_ss tc_sy
    rw [k w.1.2 w.2 w.1.1, k w.1.1 w.2 w.1.2, k w.1.1 w.1.2 w.2]
/-! the largest agreement -/
theorem tl_am (p : Nat → Bool) : ∀ (l : List Nat) (m : Nat), m ≤ tc_am p l m ∧ (∀ s, s ∈ l → p s = true → tc_co s ≤ tc_am p l m) ∧ (tc_am p l m = m ∨ ∃ s, s ∈ l ∧ p s = true ∧ tc_am p l m = tc_co s)
  | [], m => ⟨Nat.le_refl m, fun s h => absurd h List.not_mem_nil, Or.inl rfl⟩
  | s :: l, m => by
    rw [tc_am]
    by_cases z : m < tc_co s ∧ p s = true
    · rw [if_pos z]
      obtain ⟨i1, i2, i3⟩ := tl_am p l (tc_co s)
      refine ⟨by omega, fun x hx hp => ?_, Or.inr ?_⟩
      · rcases List.mem_cons.mp hx with e | e
        · rw [e]; exact i1
        · exact i2 x e hp
      · rcases i3 with e | ⟨x, hx, hp, e⟩
        · exact ⟨s, List.mem_cons_self, z.2, e⟩
        · exact ⟨x, List.mem_cons_of_mem _ hx, hp, e⟩
    · rw [if_neg z]
      obtain ⟨i1, i2, i3⟩ := tl_am p l m
      refine ⟨i1, fun x hx hp => ?_, ?_⟩
      · rcases List.mem_cons.mp hx with e | e
        · rw [e] at hp ⊢
          have : ¬ m < tc_co s := fun q => z ⟨q, hp⟩
          omega
        · exact i2 x e hp
      · rcases i3 with e | ⟨x, hx, hp, e⟩
        · exact Or.inl e
        · exact Or.inr ⟨x, List.mem_cons_of_mem _ hx, hp, e⟩
theorem tl_ma {K L : List Nat} (O : tc_OK K) (P : tc_OK L) : tc_ma (tc_H K) (tc_H L) 127 127 = tc_am (tc_ab K L) (List.range' 0 128) 0 ∧ ∃ s, s < 128 ∧ tc_co s = tc_am (tc_ab K L) (List.range' 0 128) 0 ∧ tc_ab K L s = true := by
  obtain ⟨i1, i2, i3⟩ := tl_am (tc_ab K L) (List.range' 0 128) 0
  have pz : tc_ab K L 0 = true := (tl_ag O P (by decide)).mpr (fun _ _ _ z => absurd z tc_0b)
  have ex : ∃ s, s < 128 ∧ tc_co s = tc_am (tc_ab K L) (List.range' 0 128) 0 ∧ tc_ab K L s = true := by
    rcases i3 with e | ⟨s, hs, hp, e⟩
    · exact ⟨0, by decide, by rw [e]; rfl, pz⟩
    · have := (List.mem_range'_1.mp hs).2
      exact ⟨s, by omega, e.symm, hp⟩
  refine ⟨tc_mve ⟨?_, fun s h => ?_⟩, ex⟩
  · obtain ⟨s, s8, e, hp⟩ := ex
    exact ⟨s, ⟨s8, (tl_ag O P s8).mp hp, tc_s127 s8, tc_s127 s8⟩, e⟩
  · have s8 := h.1
    exact i2 s (List.mem_range'_1.mpr ⟨Nat.zero_le s, by omega⟩) ((tl_ag O P h.1).mpr h.2.1)
theorem tl_fs (p : Nat → Bool) (m : Nat) : ∀ (l : List Nat), (∃ s, s ∈ l ++ [127] ∧ tc_co s = m ∧ p s = true) → tc_fs p m 0 (l ++ [127]) = tc_fs p m 127 l
  | [], h => by
    obtain ⟨s, hs, e, hp⟩ := h
    rw [List.nil_append] at hs
    rw [List.mem_singleton.mp hs] at e hp
    show (if tc_co 127 = m ∧ p 127 = true then 127 else 0) = 127
    rw [if_pos ⟨e, hp⟩]
  | a :: l, h => by
    rw [List.cons_append, tc_fs, tc_fs]
    by_cases z : tc_co a = m ∧ p a = true
    · rw [if_pos z, if_pos z]
    · rw [if_neg z, if_neg z]
      refine tl_fs p m l ?_
      obtain ⟨s, hs, e, hp⟩ := h
      rw [List.cons_append] at hs
      rcases List.mem_cons.mp hs with q | q
      · rw [q] at e hp
        exact absurd ⟨e, hp⟩ z
      · exact ⟨s, q, e, hp⟩
theorem tl_r128 : List.range' 0 128 = List.range' 0 127 ++ [127] := by decide +kernel
theorem tl_aset {K L : List Nat} (O : tc_OK K) (P : tc_OK L) : tc_fs (tc_ab K L) (tc_am (tc_ab K L) (List.range' 0 128) 0) 0 (List.range' 0 128) = tc_fs (tc_ab K L) (tc_ma (tc_H K) (tc_H L) 127 127) 127 (List.range' 0 127) := by
  obtain ⟨e, s, s8, c, hp⟩ := tl_ma O P
  rw [e]
  generalize tc_am (tc_ab K L) (List.range' 0 128) 0 = m at c
  rw [tl_r128]
  refine tl_fs _ _ _ ⟨s, ?_, c, hp⟩
  rw [← tl_r128]
  exact List.mem_range'_1.mpr ⟨Nat.zero_le s, by omega⟩
end
section
/-! the relation: a list of groups for each tree, in both states -/
def tr_T (ac ae ah : Nat → Int32) (t : Nat) (L : List Nat) : Prop := tc_OK L ∧ ac t = nI L.length ∧ (∀ k, k < L.length → ae (5 * t + k) = nI (L.getD k 0)) ∧ ∀ g, 1 ≤ g → g < 128 → ah (128 * t + g) = tn_b (tc_hs L g)
def tr_R (ac ae ah : Nat → Int32) : Prop := ∃ M : Nat → List Nat, ∀ t, t < 2 → tr_T ac ae ah t (M t)
theorem tr_X {ac ae ah : Nat → Int32} {t : Nat} {L : List Nat} (T : tr_T ac ae ah t L) (ht : t < 2) : tx_L ac ae t L := ⟨ht, tc_len5 T.1, T.2.1, T.2.2.1, fun g hg => by have := (T.1.2.1 g hg).1; omega⟩
theorem tr_Y {ac ae ah : Nat → Int32} {t : Nat} {L : List Nat} (T : tr_T ac ae ah t L) (ht : t < 2) : ty_H ah t L := ⟨ht, T.2.2.2⟩
theorem tr_up {ac ae ah ac' ae' ah' : Nat → Int32} {M : Nat → List Nat} (R : ∀ t, t < 2 → tr_T ac ae ah t (M t)) {t : Nat} {L : List Nat} (T : tr_T ac' ae' ah' t L)
    (hc : ∀ s, s < 2 → s ≠ t → ac' s = ac s) (he : ∀ s k, s < 2 → s ≠ t → k < 5 → ae' (5 * s + k) = ae (5 * s + k)) (hh : ∀ s g, s < 2 → s ≠ t → g < 128 → ah' (128 * s + g) = ah (128 * s + g)) : tr_R ac' ae' ah' := by
  refine ⟨fun s => if s = t then L else M s, fun s hs => ?_⟩
  by_cases e : s = t
  · dsimp only
    rw [if_pos e, e]
    exact T
  · dsimp only
    rw [if_neg e]
    obtain ⟨r1, r2, r3, r4⟩ := R s hs
    have l5 := tc_len5 r1
    refine ⟨r1, (hc s hs e).trans r2, fun k hk => (he s k hs e (by omega)).trans (r3 k hk), fun g h1 h2 => (hh s g hs e h2).trans (r4 g h1 h2)⟩
/-! a group more -/
theorem tr_gal {L : List Nat} {g k : Nat} (h : k < L.length) : (L ++ [g]).getD k 0 = L.getD k 0 := by
  rw [List.getD_eq_getElem?_getD, List.getD_eq_getElem?_getD, List.getElem?_append_left h]
theorem tr_gar {L : List Nat} {g : Nat} : (L ++ [g]).getD L.length 0 = g := by
  rw [List.getD_eq_getElem?_getD, List.getElem?_append_right (Nat.le_refl _), Nat.sub_self]
  rfl
theorem tr_oka {L : List Nat} (O : tc_OK L) {g : Nat} (g8 : g < 128) (g1 : 1 ≤ g) (hl : L.all (tc_lb g) = true) (hn : tc_hs L g = false) : tc_OK (L ++ [g]) := by
  have nz : ¬ (tc_co g = 1 ∨ g = 127 ∨ g ∈ L) := fun z => by
    rw [tc_hsi.mpr z] at hn
    cases hn
  have c : 2 ≤ tc_co g := by
    obtain ⟨m, hm⟩ := tc_n0 (s := g) (by omega)
    have c1 := tc_cop (tc_b7 g8 hm) hm
    have : tc_co g ≠ 1 := fun z => nz (Or.inl z)
    omega
  have l : ∀ e, e ∈ L → tc_lm g e := fun e he => tc_lbi.mp (List.all_eq_true.mp hl e he)
  refine ⟨List.nodup_append.mpr ⟨O.1, List.nodup_cons.mpr ⟨List.not_mem_nil, List.nodup_nil⟩, fun a ha b hb e => ?_⟩, fun x hx => ?_, fun x y hx hy => ?_⟩
  · rw [List.mem_singleton.mp hb] at e
    rw [e] at ha
    exact nz (Or.inr (Or.inr ha))
  · rcases List.mem_append.mp hx with z | z
    · exact O.2.1 x z
    · rw [List.mem_singleton.mp z]
      exact ⟨by have : g ≠ 127 := fun z => nz (Or.inr (Or.inl z)); omega, c⟩
  · rcases List.mem_append.mp hx with z | z <;> rcases List.mem_append.mp hy with w | w
    · exact O.2.2 x y z w
    · rw [List.mem_singleton.mp w]; exact tc_lms (l x z)
    · rw [List.mem_singleton.mp z]; exact l y w
    · rw [List.mem_singleton.mp z, List.mem_singleton.mp w]
      exact Or.inr (Or.inl (fun _ q => q))
theorem tr_add {ac ae ah : Nat → Int32} {M : Nat → List Nat} (R : ∀ t, t < 2 → tr_T ac ae ah t (M t)) {t g : Nat} (ht : t < 2) (g8 : g < 128) (g1 : 1 ≤ g) (hl : (M t).all (tc_lb g) = true) (hn : tc_hs (M t) g = false) :
    tr_R (upd ac t (nI ((M t).length + 1))) (upd ae (5 * t + (M t).length) (nI g)) (upd ah (128 * t + g) 1) := by
  obtain ⟨O, r2, r3, r4⟩ := R t ht
  have O' := tr_oka O g8 g1 hl hn
  have l5 := tc_len5 O'
  rw [List.length_append, List.length_singleton] at l5
  refine tr_up R (t := t) (L := M t ++ [g]) ⟨O', ?_, fun k hk => ?_, fun x h1 h2 => ?_⟩ (fun s hs n => pk_un n) (fun s k hs n hk => pk_un (by omega)) (fun s x hs n hx => pk_un (by omega))
  · rw [pk_us, List.length_append, List.length_singleton]
  · rw [List.length_append, List.length_singleton] at hk
    by_cases e : k = (M t).length
    · rw [e, pk_us, tr_gar]
    · rw [pk_un (by omega), tr_gal (by omega)]
      exact r3 k (by omega)
  · by_cases e : x = g
    · have q : tc_hs (M t ++ [g]) g = true := tc_hsi.mpr (Or.inr (Or.inr (List.mem_append.mpr (Or.inr (List.mem_singleton.mpr rfl)))))
      rw [e, pk_us, tn_b1 q]
    · have q : tc_hs (M t ++ [g]) x = tc_hs (M t) x := Bool.eq_iff_iff.mpr (by
        rw [tc_hsi, tc_hsi, List.mem_append, List.mem_singleton]
        exact ⟨fun z => z.elim Or.inl (fun z => z.elim (fun z => Or.inr (Or.inl z)) (fun z => z.elim (fun z => Or.inr (Or.inr z)) (fun z => absurd z e))), fun z => z.elim Or.inl (fun z => z.elim (fun z => Or.inr (Or.inl z)) (fun z => Or.inr (Or.inr (Or.inl z))))⟩)
      rw [pk_un (by omega), q]
      exact r4 x h1 h2
theorem tr_old {ac ae ah : Nat → Int32} {M : Nat → List Nat} (R : ∀ t, t < 2 → tr_T ac ae ah t (M t)) {t g : Nat} (ht : t < 2) (g8 : g < 128) (hn : tc_hs (M t) g = true) : tr_R ac ae (upd ah (128 * t + g) 1) := by
  obtain ⟨O, r2, r3, r4⟩ := R t ht
  refine tr_up R (t := t) (L := M t) ⟨O, r2, r3, fun x h1 h2 => ?_⟩ (fun s hs n => rfl) (fun s k hs n hk => rfl) (fun s x hs n hx => pk_un (by omega))
  by_cases e : x = g
  · rw [e, pk_us, tn_b1 hn]
  · rw [pk_un (by omega)]
    exact r4 x h1 h2
/-! a group less: the last one takes its place -/
def tr_rl (L : List Nat) (k : Nat) : List Nat := (List.range' 0 (L.length - 1)).map (fun j => if j = k then L.getD (L.length - 1) 0 else L.getD j 0)
theorem tr_rg (n j : Nat) (h : j < n) : (List.range' 0 n).getD j 0 = j := by
  rw [List.getD_eq_getElem?_getD, List.getElem?_range' h]
  simp
theorem tr_rll (L : List Nat) (k : Nat) : (tr_rl L k).length = L.length - 1 := by
  unfold tr_rl
  rw [List.length_map, List.length_range']
theorem tr_rlg (L : List Nat) (k : Nat) {j : Nat} (h : j < L.length - 1) : (tr_rl L k).getD j 0 = if j = k then L.getD (L.length - 1) 0 else L.getD j 0 := by
  unfold tr_rl
  rw [tc_gm (by rw [List.length_range']; exact h), tr_rg _ _ h]
theorem tr_rlm {L : List Nat} (nd : L.Nodup) {k : Nat} (hk : k < L.length) {x : Nat} : x ∈ tr_rl L k ↔ x ∈ L ∧ x ≠ L.getD k 0 := by
  constructor
  · intro h
    obtain ⟨j, hj, e⟩ := tn_mg h
    rw [tr_rll] at hj
    rw [tr_rlg L k hj] at e
    by_cases z : j = k
    · rw [if_pos z] at e
      rw [← e]
      exact ⟨tn_gd (by omega), fun q => by have := tc_ginj nd (by omega) hk q; omega⟩
    · rw [if_neg z] at e
      rw [← e]
      exact ⟨tn_gd (by omega), fun q => z (tc_ginj nd (by omega) hk q)⟩
  · rintro ⟨h, n⟩
    obtain ⟨j, hj, e⟩ := tn_mg h
    have jk : j ≠ k := fun z => n (by rw [← e, z])
    by_cases z : j < L.length - 1
    · rw [← e]
      have q := tr_rlg L k z
      rw [if_neg jk] at q
      rw [← q]
      exact tn_gd (by rw [tr_rll]; exact z)
    · have kl : k < L.length - 1 := by omega
      have q := tr_rlg L k kl
      rw [if_pos rfl, show L.length - 1 = j by omega, e] at q
      rw [← q]
      exact tn_gd (by rw [tr_rll]; exact kl)
theorem tr_okr {L : List Nat} (O : tc_OK L) {k : Nat} (hk : k < L.length) : tc_OK (tr_rl L k) := by
  have m := fun {x} (h : x ∈ tr_rl L k) => ((tr_rlm O.1 hk).mp h).1
  refine ⟨?_, fun x hx => O.2.1 x (m hx), fun x y hx hy => O.2.2 x y (m hx) (m hy)⟩
  have q : (List.range' 0 (L.length - 1)).Pairwise (· < ·) := List.pairwise_lt_range'
  refine List.pairwise_map.mpr (List.Pairwise.imp_of_mem (fun {a b} ha hb h e => ?_) q)
  have ha' := (List.mem_range'_1.mp ha).2
  have hb' := (List.mem_range'_1.mp hb).2
  by_cases z : a = k
  · rw [if_pos z, if_neg (by omega)] at e
    have := tc_ginj O.1 (by omega) (by omega) e
    omega
  · rw [if_neg z] at e
    by_cases w : b = k
    · rw [if_pos w] at e
      have := tc_ginj O.1 (by omega) (by omega) e
      omega
    · rw [if_neg w] at e
      have := tc_ginj O.1 (by omega) (by omega) e
      omega
theorem tr_rem {ac ae ah : Nat → Int32} {M : Nat → List Nat} (R : ∀ t, t < 2 → tr_T ac ae ah t (M t)) {t k : Nat} (ht : t < 2) (hk : k < (M t).length) :
    tr_R (upd ac t (nI ((M t).length - 1))) (upd ae (5 * t + k) (nI ((M t).getD ((M t).length - 1) 0))) (upd ah (128 * t + (M t).getD k 0) 0) := by
  obtain ⟨O, r2, r3, r4⟩ := R t ht
  have O' := tr_okr O hk
  have l5 := tc_len5 O
  have g8 := (O.2.1 _ (tn_gd hk)).1
  refine tr_up R (t := t) (L := tr_rl (M t) k) ⟨O', ?_, fun j hj => ?_, fun x h1 h2 => ?_⟩ (fun s hs n => pk_un n) (fun s k hs n hk => pk_un (by omega)) (fun s x hs n hx => pk_un (by omega))
  · rw [pk_us, tr_rll]
  · rw [tr_rll] at hj
    rw [tr_rlg _ _ hj]
    by_cases e : j = k
    · rw [e, pk_us, if_pos rfl]
    · rw [pk_un (by omega), if_neg e]
      exact r3 j (by omega)
  · by_cases e : x = (M t).getD k 0
    · have q : tc_hs (tr_rl (M t) k) ((M t).getD k 0) = false := tc_nb (fun z => by
        have o := O.2.1 _ (tn_gd hk)
        rcases tc_hsi.mp z with c | c | c
        · omega
        · omega
        · exact ((tr_rlm O.1 hk).mp c).2 rfl)
      rw [e, pk_us, tn_b0 q]
    · have q : tc_hs (tr_rl (M t) k) x = tc_hs (M t) x := Bool.eq_iff_iff.mpr (by
        rw [tc_hsi, tc_hsi, tr_rlm O.1 hk]
        exact ⟨fun z => z.elim Or.inl (fun z => z.elim (fun z => Or.inr (Or.inl z)) (fun z => Or.inr (Or.inr z.1))), fun z => z.elim Or.inl (fun z => z.elim (fun z => Or.inr (Or.inl z)) (fun z => Or.inr (Or.inr ⟨z, e⟩)))⟩)
      rw [pk_un (by omega), q]
      exact r4 x h1 h2
/-! no group but those that every tree has -/
theorem tr_ok0 : tc_OK [] := ⟨List.nodup_nil, fun g h => absurd h List.not_mem_nil, fun g h hg => absurd hg List.not_mem_nil⟩
theorem tr_hs0 (g : Nat) : tc_hs [] g = tc_gv g := by
  unfold tc_hs
  rw [show ([] : List Nat).contains g = false from rfl, Bool.or_false]
theorem tr_clear {ac ae ah ah' : Nat → Int32} {M : Nat → List Nat} (R : ∀ t, t < 2 → tr_T ac ae ah t (M t)) {t : Nat} (ht : t < 2) (h1 : ∀ x, 1 ≤ x → x < 128 → ah' (128 * t + x) = tn_b (tc_gv x)) (h2 : ∀ q, (∀ x, 1 ≤ x → x < 128 → q ≠ 128 * t + x) → ah' q = ah q) : tr_R (upd ac t 0) ae ah' := by
  refine tr_up R (t := t) (L := []) ⟨tr_ok0, ?_, fun j hj => absurd hj (Nat.not_lt_zero j), fun x a b => ?_⟩ (fun s hs n => pk_un n) (fun s k hs n hk => rfl) (fun s x hs n hx => h2 _ (fun y _ _ => by omega))
  · rw [pk_us]; rfl
  · rw [tr_hs0]
    exact h1 x a b
theorem tn_vb (b : Bool) : vp_nar .boolean (tn_b b) = tn_b b := by cases b <;> rfl
theorem ty_cr1 {post : Int32 → SY → Prop} {t : Nat} (ht : t < 2) : ∀ d g (ah : Nat → Int32), g + d = 128 → (∀ ah' : Nat → Int32, (∀ x, g ≤ x → x < 128 → ah' (128 * t + x) = tn_b (tc_gv x)) → (∀ q, (∀ x, g ≤ x → x < 128 → q ≠ 128 * t + x) → ah' q = ah q) → post 1 ah') → wY_clear_2 post (nI t) (d + 1) (nI g) ah := by
  intro d
  induction d with
  | zero =>
    intro g ah hg h
    exact br_t ((tn_128 hg).mpr rfl) (ty_tree1 ht ⟨rfl, h ah (fun x a b => absurd a (by omega)) (fun q _ => rfl)⟩)
  | succ d ih =>
    intro g ah hg h
    have g8 : g < 128 := by omega
    refine br_f (fun z => by have := (tn_128 hg).mp z; omega) (ty_tree1 ht (br_f (by decide) (ty_given g8 ⟨?_, nm_r (e' := upd ah (128 * t + g) (tn_b (tc_gv g))) ?_ (nm_r (nI_1 g) (ih (g + 1) _ (by omega) (fun ah' h1 h2 => h ah' (fun x a b => ?_) (fun q hq => ?_))))⟩)))
    · rw [tn_ix128]
      exact vp_in_nI (by omega) (by decide)
    · rw [tn_ix128, nI_clamp (by omega), tn_vb]
    · by_cases e : x = g
      · rw [e, h2 _ (fun y _ _ => by omega), pk_us]
      · exact h1 x (by omega) b
    · rw [h2 q (fun x a b => hq x (by omega) b), pk_un (hq g (Nat.le_refl g) g8)]
theorem ty_clear {post : Int32 → SY → Prop} {t : Nat} {ah : Nat → Int32} (ht : t < 2) (h : ∀ ah' : Nat → Int32, (∀ x, 1 ≤ x → x < 128 → ah' (128 * t + x) = tn_b (tc_gv x)) → (∀ q, (∀ x, 1 ≤ x → x < 128 → q ≠ 128 * t + x) → ah' q = ah q) → post 1 ah') : wpY_clear post ah (nI t) :=
  ⟨128, ty_cr1 ht 127 1 ah (by decide) h⟩
theorem ty_clear0 {post : Int32 → SY → Prop} {x : Int32} {ah : Nat → Int32} (n : x ≠ 0 ∧ x ≠ 1) (h : post 0 ah) : wpY_clear post ah x :=
  ⟨1, br_f (by decide) (ty_tree0 n (br_t rfl (ty_tree0 n ⟨rfl, h⟩)))⟩
/-! the reference's add and remove -/
theorem tn_lt1 {x : Int32} (h : x < 0) : x < 1 := by
  rw [Int32.lt_iff_toInt_lt] at h ⊢
  have e : (0 : Int32).toInt = 0 := by decide
  have e' : (1 : Int32).toInt = 1 := by decide
  omega
theorem tn_nl1 {x : Int32} (h : 127 < x) : ¬ x < 1 := by
  rw [Int32.lt_iff_toInt_lt] at h ⊢
  have e : (127 : Int32).toInt = 127 := by decide
  have e' : (1 : Int32).toInt = 1 := by decide
  omega
section
variable {ah : Nat → Int32} {t g : Nat} {L : List Nat} {post : Int32 → SY → Prop}
theorem ty_add0 (T : ty_H ah t L) (O : tc_OK L) (g8 : g < 128) (g1 : 1 ≤ g) (z : L.all (tc_lb g) = false) (h : post 0 ah) : wpY_add post ah (nI t) (nI g) := by
  unfold wpY_add
  refine ty_tree1 T.1 (br_f (by decide) (br_f (nI_nlt (b := 1) g1 (by omega)) (br_f (nI_nlt (b := g) (a := 127) (by omega) (by decide)) (ty_fits T g8 ?_))))
  rw [tl_fit O g8, z]
  exact br_t rfl h
theorem ty_add1 (T : ty_H ah t L) (O : tc_OK L) (g8 : g < 128) (g1 : 1 ≤ g) (z : L.all (tc_lb g) = true) (h : post 1 (upd ah (128 * t + g) 1)) : wpY_add post ah (nI t) (nI g) := by
  have ht := T.1
  unfold wpY_add
  refine ty_tree1 T.1 (br_f (by decide) (br_f (nI_nlt (b := 1) g1 (by omega)) (br_f (nI_nlt (b := g) (a := 127) (by omega) (by decide)) (ty_fits T g8 ?_))))
  rw [tl_fit O g8, z]
  refine br_f (by decide) ⟨ty_Hi T g8, nm_r (e' := upd ah (128 * t + g) 1) ?_ h⟩
  rw [tn_ix128, nI_clamp (by omega)]
  rfl
theorem ty_rem1 (T : ty_H ah t L) (O : tc_OK L) (z : g ∈ L) (h : post 1 (upd ah (128 * t + g) 0)) : wpY_remove post ah (nI t) (nI g) := by
  have ht := T.1
  have o := O.2.1 g z
  have g1 : 1 ≤ g := tc_c1 (by omega)
  have g8 : g < 128 := by omega
  unfold wpY_remove
  refine ty_tree1 T.1 (br_f (by decide) (br_f (nI_nlt (b := 1) g1 (by omega)) (br_f (nI_nlt (b := g) (a := 127) (by omega) (by decide)) (ty_given g8 ?_))))
  rw [tc_ng O z]
  refine br_t rfl ⟨ty_Hi T g8, ?_⟩
  rw [ty_He T g1 g8, tc_hsi.mpr (Or.inr (Or.inr z))]
  refine br_f (by decide) ⟨ty_Hi T g8, nm_r (e' := upd ah (128 * t + g) 0) ?_ h⟩
  rw [tn_ix128, nI_clamp (by omega)]
  rfl
theorem ty_rem0 (T : ty_H ah t L) (g8 : g < 128) (g1 : 1 ≤ g) (z : ¬ g ∈ L) (h : post 0 ah) : wpY_remove post ah (nI t) (nI g) := by
  have ht := T.1
  unfold wpY_remove
  refine ty_tree1 T.1 (br_f (by decide) (br_f (nI_nlt (b := 1) g1 (by omega)) (br_f (nI_nlt (b := g) (a := 127) (by omega) (by decide)) (ty_given g8 (tn_br _ (fun y => ⟨ty_Hi T g8, ?_⟩) (fun y => h))))))
  have q : tc_hs L g = false := by
    unfold tc_hs
    rw [y, Bool.false_or]
    exact tc_nb (fun w => z (List.contains_iff_mem.mp w))
  rw [ty_He T g1 g8, q]
  exact br_t rfl h
end
/-! the class's answer of a set -/
theorem tl_b343 (p : Nat → Bool) : tc_sm (ty_f1 p) (List.range' 0 343) ≤ 343 := by
  have h := tc_sml (f := ty_f1 p) (g := fun _ => 1) (l := List.range' 0 343) (fun a _ => by unfold ty_f1; split <;> decide)
  rw [tc_sm1, List.length_range'] at h
  exact h
theorem tx_as1 {ac ae an aN ab am : Nat → Int32} {K L : List Nat} {post : Int32 → SX → Prop} {m : Nat} (T : tx_L ac ae 0 K) (O : tc_OK K) (U : tx_L ac ae 1 L) (P : tc_OK L) (hm : m ≤ 7) :
    ∀ d s, s + d = 127 → post (nI (tc_fs (tc_ab K L) m 127 (List.range' s d))) (ac, ae, an, aN, ab, am) → wX_agreeingSet_7 post (nI m) ac ae an aN ab am (d + 1) (nI s) := by
  intro d
  induction d with
  | zero =>
    intro s hs h
    exact br_t (nI_le (a := 127) (by omega) (by omega)) h
  | succ d ih =>
    intro s hs h
    have s8 : s < 128 := by omega
    have c7 := tc_co7 s
    have b := tl_b343 (tx_pc K L s)
    rw [tn_rs, tc_fs] at h
    refine br_f (nI_ge (b := 127) (by omega) (by decide)) (tx_ones s8 (pk_eq (tc_co s) m (fun y => tx_conf T O U P s8 (pk_eq (tc_sm (ty_f1 (tx_pc K L s)) (List.range' 0 343)) 0 (fun x => ?_) (fun x => nm_r (nI_1 s) (ih (s + 1) (by omega) ?_)))) (fun y => nm_r (nI_1 s) (ih (s + 1) (by omega) ?_))))
    · rw [if_pos ⟨y, tl_cf.mp x⟩] at h; exact h
    · rw [if_neg (fun q => x (tl_cf.mpr q.2))] at h; exact h
    · rw [if_neg (fun q => y q.1)] at h; exact h
end
section
/-- each tree has one list of groups besides the given ones, in both states; the class's scratch arrays don't matter -/
def i_Rel (k : Nat) (u : SX) (v : SY) : Prop := tr_R u.1 u.2.1 v
theorem i_up {k : Nat} {u : SX} {v : SY} (h : i_Rel k u v) : i_Rel (k + 5) u v := h
theorem i_vc0 : wpX_init (fun u => wpY_init (fun v => i_Rel 0 u v)) := by
  unfold wpX_init wpY_init
  refine ty_clear (t := 0) (by decide) (fun a1 h1 h2 => ty_clear (t := 1) (by decide) (fun a2 k1 k2 => ⟨fun _ => [], fun t ht => ⟨tr_ok0, rfl, fun j hj => absurd hj (Nat.not_lt_zero j), fun g g1 g8 => ?_⟩⟩))
  rw [tr_hs0]
  rcases tn_t2 ht with e | e
  · rw [e, k2 _ (fun x _ _ => by omega)]
    exact h1 g g1 g8
  · rw [e]
    exact k1 g g1 g8
theorem i_vc_add {k : Nat} {u : SX} {v : SY} (I : i_Rel k u v) (hk : k + 5 ≤ 2560) (v1 : Int32) (v2 : Int32) : wpX_add (fun r u' => wpY_add (fun r' v' => r' = r ∧ i_Rel (k + 5) u' v') v v1 v2) u v1 v2 := by
  obtain ⟨ac, ae, an, aN, ab, am⟩ := u
  obtain ⟨M, R⟩ := I
  have R : ∀ t, t < 2 → tr_T ac ae v t (M t) := R
  unfold wpX_add
  dsimp only
  rcases tn_tree v1 with ⟨t, ht, rfl⟩ | n
  · have T := R t ht
    have X := tr_X T ht
    have Y := tr_Y T ht
    refine tx_tree1 ht (br_f (by decide) ?_)
    rcases tn_ix v2 with n | ⟨_, n⟩ | ⟨g, g8, rfl⟩
    · exact br_t (tn_lt1 n) (ty_tree1 ht (br_f (by decide) (br_t (tn_lt1 n) ⟨rfl, M, R⟩)))
    · exact br_f (tn_nl1 n) (br_t n (ty_tree1 ht (br_f (by decide) (br_f (tn_nl1 n) (br_t n ⟨rfl, M, R⟩)))))
    · rcases Nat.eq_zero_or_pos g with z | g1
      · rw [z]
        exact br_t (by decide) (ty_tree1 ht (br_f (by decide) (br_t (by decide) ⟨rfl, M, R⟩)))
      · refine br_f (nI_nlt (b := 1) g1 (by omega)) (br_f (nI_nlt (b := g) (a := 127) (by omega) (by decide)) (tx_can X g8 (tn_br _ (fun z => ty_add0 Y T.1 g8 g1 z ⟨rfl, M, R⟩) (fun z => tx_has X g8 (tn_br _ (fun y => ?_) (fun y => ty_add1 Y T.1 g8 g1 z ⟨rfl, tr_old R ht g8 y⟩))))))
        have l5 := tc_len5 (tr_oka T.1 g8 g1 z y)
        rw [List.length_append, List.length_singleton] at l5
        have e1 : nI t * 5 + ac (nI t).toNatClampNeg = nI (5 * t + (M t).length) := by rw [tx_Lc X, tn_ix5]
        refine ⟨tx_Lv X, ?_, nm_r (e' := upd ae (5 * t + (M t).length) (nI g)) ?_ ⟨tx_Lv X, tx_Lv X, nm_r (e' := upd ac t (nI ((M t).length + 1))) ?_ (ty_add1 Y T.1 g8 g1 z ⟨rfl, tr_add R ht g8 g1 z y⟩)⟩⟩
        · rw [e1]
          exact vp_in_nI (by omega) (by decide)
        · rw [e1, nI_clamp (by omega), tn_by g8]
        · rw [tx_Lc X, nI_clamp (by omega), nI_1, tn_by (by omega)]
  · exact tx_tree0 n (br_t rfl (ty_tree0 n (br_t rfl ⟨rfl, M, R⟩)))
theorem tr_remn {ah : Nat → Int32} {t : Nat} {L : List Nat} {x : Int32} {post : Int32 → SY → Prop} (T : ty_H ah t L) (n : ∀ k, k < L.length → nI (L.getD k 0) ≠ x) (h : post 0 ah) : wpY_remove post ah (nI t) x := by
  rcases tn_ix x with n' | ⟨_, n'⟩ | ⟨g, g8, rfl⟩
  · exact ty_tree1 T.1 (br_f (by decide) (br_t (tn_lt1 n') h))
  · exact ty_tree1 T.1 (br_f (by decide) (br_f (tn_nl1 n') (br_t n' h)))
  · rcases Nat.eq_zero_or_pos g with z | g1
    · rw [z]
      exact ty_tree1 T.1 (br_f (by decide) (br_t (by decide) h))
    · refine ty_rem0 T g8 g1 (fun z => ?_) h
      obtain ⟨k, hk, e⟩ := tn_mg z
      exact n k hk (by rw [e])
theorem i_vc_remove {k : Nat} {u : SX} {v : SY} (I : i_Rel k u v) (hk : k + 5 ≤ 2560) (v1 : Int32) (v2 : Int32) : wpX_remove (fun r u' => wpY_remove (fun r' v' => r' = r ∧ i_Rel (k + 5) u' v') v v1 v2) u v1 v2 := by
  obtain ⟨ac, ae, an, aN, ab, am⟩ := u
  obtain ⟨M, R⟩ := I
  have R : ∀ t, t < 2 → tr_T ac ae v t (M t) := R
  unfold wpX_remove
  dsimp only
  rcases tn_tree v1 with ⟨t, ht, rfl⟩ | n
  · have T := R t ht
    have X := tr_X T ht
    have Y := tr_Y T ht
    have l5 := X.2.1
    refine tx_tree1 ht (br_f (by decide) (tx_find X (fun j hj e => ?_) (fun n => ?_)))
    · rw [← e]
      have i1 : vp_in (nI t * 5 + nI ((M t).length - 1)) 10 := tx_Li X (by omega)
      have e0 : upd ac (nI t).toNatClampNeg (vp_nar .byte ((ac (nI t).toNatClampNeg - 1).toInt8.toInt32)) = upd ac t (nI ((M t).length - 1)) := by
        rw [tx_Lc X, nI_clamp (by omega), show nI (M t).length - 1 = nI ((M t).length - 1) from pk_sub (b := 1) (by omega), tn_by (by omega)]
      have e1 : upd ac t (nI ((M t).length - 1)) (nI t).toNatClampNeg = nI ((M t).length - 1) := by rw [nI_clamp (by omega), pk_us]
      unfold wX_remove_17
      refine br_t (nI_pos' (by omega)) ⟨tx_Lv X, tx_Lv X, nm_r e0 ?_⟩
      rw [e1]
      refine ⟨tx_Lv X, i1, tx_Li X hj, nm_r (e' := upd ae (5 * t + j) (nI ((M t).getD ((M t).length - 1) 0))) ?_ (ty_rem1 Y T.1 (tn_gd hj) ⟨rfl, tr_rem R ht hj⟩)⟩
      rw [tx_Le X (k := (M t).length - 1) (by omega), tn_ix5, nI_clamp (by omega), tn_by' (X.2.2.2.2 _ (tn_gd (by omega)))]
    · unfold wX_remove_17
      exact br_f (by decide) (tr_remn Y n ⟨rfl, M, R⟩)
  · refine tx_tree0 n (br_t rfl ?_)
    unfold wX_remove_17
    exact br_f (by decide) (ty_tree0 n (br_t rfl ⟨rfl, M, R⟩))
theorem i_vc_clear {k : Nat} {u : SX} {v : SY} (I : i_Rel k u v) (hk : k + 5 ≤ 2560) (v1 : Int32) : wpX_clear (fun r u' => wpY_clear (fun r' v' => r' = r ∧ i_Rel (k + 5) u' v') v v1) u v1 := by
  obtain ⟨ac, ae, an, aN, ab, am⟩ := u
  obtain ⟨M, R⟩ := I
  have R : ∀ t, t < 2 → tr_T ac ae v t (M t) := R
  unfold wpX_clear
  dsimp only
  rcases tn_tree v1 with ⟨t, ht, rfl⟩ | n
  · refine tx_tree1 ht (br_f (by decide) ⟨vp_in_nI ht (by decide), nm_r (e' := upd ac t 0) ?_ (ty_clear ht (fun ah' h1 h2 => ⟨rfl, tr_clear R ht h1 h2⟩))⟩)
    rw [nI_clamp (by omega), show vp_nar .byte 0 = 0 from tn_by' (v := 0) (by decide)]
  · exact tx_tree0 n (br_t rfl (ty_clear0 n ⟨rfl, M, R⟩))
theorem i_vc_groups {k : Nat} {u : SX} {v : SY} (I : i_Rel k u v) (hk : k + 5 ≤ 2560) (v1 : Int32) : wpX_groups (fun r => wpY_groups (fun r' => r' = r ∧ i_Rel (k + 5) u v) v v1) u v1 := by
  have J : i_Rel (k + 5) u v := I
  obtain ⟨ac, ae, an, aN, ab, am⟩ := u
  obtain ⟨M, R⟩ := I
  have R : ∀ t, t < 2 → tr_T ac ae v t (M t) := R
  unfold wpX_groups
  dsimp only
  rcases tn_tree v1 with ⟨t, ht, rfl⟩ | n
  · have T := R t ht
    have X := tr_X T ht
    refine tx_tree1 ht (br_f (by decide) ⟨tx_Lv X, ty_groups (tr_Y T ht) ⟨?_, J⟩⟩)
    rw [tl_groups T.1, tx_Lc X]
    exact (nI_add 8 _).symm
  · exact tx_tree0 n (br_t rfl (ty_groups0 n ⟨rfl, J⟩))
theorem i_vc_join {k : Nat} {u : SX} {v : SY} (I : i_Rel k u v) (hk : k + 5 ≤ 2560) (v1 : Int32) (v2 : Int32) : wpX_join (fun r => wpY_join (fun r' => r' = r ∧ i_Rel (k + 5) u v) v v1 v2) u v1 v2 := by
  have J : i_Rel (k + 5) u v := I
  obtain ⟨ac, ae, an, aN, ab, am⟩ := u
  obtain ⟨M, R⟩ := I
  have R : ∀ t, t < 2 → tr_T ac ae v t (M t) := R
  unfold wpX_join
  dsimp only
  rcases tn_tree v1 with ⟨t, ht, rfl⟩ | n
  · have T := R t ht
    refine tx_tree1 ht (br_f (by decide) ?_)
    rcases tn_ix v2 with n | ⟨n, n'⟩ | ⟨s, s8, rfl⟩
    · exact br_t n (ty_tree1 ht (br_f (by decide) (br_t n ⟨rfl, J⟩)))
    · exact br_f n (br_t n' (ty_tree1 ht (br_f (by decide) (br_f n (br_f (Int32.not_le.mpr n') ⟨rfl, J⟩)))))
    · refine br_f (nI_pos (by omega)) (br_f (nI_nlt (b := s) (a := 127) (by omega) (by decide)) (tx_joinOf (tr_X T ht) s8 (ty_join (tr_Y T ht) s8 ⟨?_, J⟩)))
      rw [tc_jeq T.1 s8]
  · exact tx_tree0 n (br_t rfl (ty_tree0 n (br_t rfl ⟨rfl, J⟩)))
theorem i_vc_says {k : Nat} {u : SX} {v : SY} (I : i_Rel k u v) (hk : k + 5 ≤ 2560) (v1 : Int32) (v2 : Int32) (v3 : Int32) (v4 : Int32) : wpX_says (fun r => wpY_says (fun r' => r' = r ∧ i_Rel (k + 5) u v) v v1 v2 v3 v4) u v1 v2 v3 v4 := by
  have J : i_Rel (k + 5) u v := I
  obtain ⟨ac, ae, an, aN, ab, am⟩ := u
  obtain ⟨M, R⟩ := I
  have R : ∀ t, t < 2 → tr_T ac ae v t (M t) := R
  unfold wpX_says
  dsimp only
  rcases tn_tree v1 with ⟨t, ht, rfl⟩ | n
  · have T := R t ht
    refine tx_tree1 ht (br_f (by decide) ?_)
    rcases (or_assoc.mpr (tn_ixm v2)) with n | ⟨a, a7, rfl⟩
    · exact tx_memn n (br_t rfl (ty_tree1 ht (br_f (by decide) (ty_memn n (br_t rfl ⟨rfl, J⟩)))))
    refine tx_mem1 a7 (br_f (by decide) ?_)
    rcases (or_assoc.mpr (tn_ixm v3)) with n | ⟨b, b7, rfl⟩
    · exact tx_memn n (br_t rfl (ty_tree1 ht (br_f (by decide) (ty_mem1 a7 (br_f (by decide) (ty_memn n (br_t rfl ⟨rfl, J⟩)))))))
    refine tx_mem1 b7 (br_f (by decide) ?_)
    rcases (or_assoc.mpr (tn_ixm v4)) with n | ⟨c, c7, rfl⟩
    · exact tx_memn n (br_t rfl (ty_tree1 ht (br_f (by decide) (ty_mem1 a7 (br_f (by decide) (ty_mem1 b7 (br_f (by decide) (ty_memn n (br_t rfl ⟨rfl, J⟩)))))))))
    refine tx_mem1 c7 (br_f (by decide) ?_)
    by_cases n1 : nI a = nI b
    · exact br_t n1 (ty_tree1 ht (br_f (by decide) (ty_mem1 a7 (br_f (by decide) (ty_mem1 b7 (br_f (by decide) (ty_mem1 c7 (br_f (by decide) (br_t n1 ⟨rfl, J⟩)))))))))
    by_cases n2 : nI a = nI c
    · exact br_f n1 (br_t n2 (ty_tree1 ht (br_f (by decide) (ty_mem1 a7 (br_f (by decide) (ty_mem1 b7 (br_f (by decide) (ty_mem1 c7 (br_f (by decide) (br_f n1 (br_t n2 ⟨rfl, J⟩)))))))))))
    by_cases n3 : nI b = nI c
    · exact br_f n1 (br_f n2 (br_t n3 (ty_tree1 ht (br_f (by decide) (ty_mem1 a7 (br_f (by decide) (ty_mem1 b7 (br_f (by decide) (ty_mem1 c7 (br_f (by decide) (br_f n1 (br_f n2 (br_t n3 ⟨rfl, J⟩)))))))))))))
    exact br_f n1 (br_f n2 (br_f n3 (tx_last (tr_X T ht) T.1 a7 b7 c7 (ty_says (tr_Y T ht) a7 b7 c7 (fun e => n1 (by rw [e])) (fun e => n2 (by rw [e])) (fun e => n3 (by rw [e])) ⟨rfl, J⟩))))
  · exact tx_tree0 n (br_t rfl (ty_tree0 n (br_t rfl ⟨rfl, J⟩)))
theorem i_vc_decided {k : Nat} {u : SX} {v : SY} (I : i_Rel k u v) (hk : k + 5 ≤ 2560) (v1 : Int32) : wpX_decided (fun r => wpY_decided (fun r' => r' = r ∧ i_Rel (k + 5) u v) v v1) u v1 := by
  have J : i_Rel (k + 5) u v := I
  obtain ⟨ac, ae, an, aN, ab, am⟩ := u
  obtain ⟨M, R⟩ := I
  have R : ∀ t, t < 2 → tr_T ac ae v t (M t) := R
  rcases tn_tree v1 with ⟨t, ht, rfl⟩ | n
  · have T := R t ht
    refine tx_decided (tr_X T ht) T.1 (ty_decided (tr_Y T ht) ⟨?_, J⟩)
    rw [tl_decided]
  · unfold wpX_decided
    dsimp only
    exact tx_tree0 n (br_t rfl (ty_decided0 n ⟨rfl, J⟩))
theorem i_vc_groupDistance {k : Nat} {u : SX} {v : SY} (I : i_Rel k u v) (hk : k + 5 ≤ 2560) : wpX_groupDistance (fun r => wpY_groupDistance (fun r' => r' = r ∧ i_Rel (k + 5) u v) v) u := by
  have J : i_Rel (k + 5) u v := I
  obtain ⟨ac, ae, an, aN, ab, am⟩ := u
  obtain ⟨M, R⟩ := I
  have R : ∀ t, t < 2 → tr_T ac ae v t (M t) := R
  have T := R 0 (by decide)
  have U := R 1 (by decide)
  exact tx_groupD (tr_X T (by decide)) (tr_X U (by decide)) (tl_gd T.1 U.1) (ty_groupD (tr_Y T (by decide)) (tr_Y U (by decide)) ⟨rfl, J⟩)
theorem i_vc_tripleDistance {k : Nat} {u : SX} {v : SY} (I : i_Rel k u v) (hk : k + 5 ≤ 2560) : wpX_tripleDistance (fun r => wpY_tripleDistance (fun r' => r' = r ∧ i_Rel (k + 5) u v) v) u := by
  have J : i_Rel (k + 5) u v := I
  obtain ⟨ac, ae, an, aN, ab, am⟩ := u
  obtain ⟨M, R⟩ := I
  have R : ∀ t, t < 2 → tr_T ac ae v t (M t) := R
  have T := R 0 (by decide)
  have U := R 1 (by decide)
  unfold wpX_tripleDistance
  dsimp only
  refine tx_conf (q := 127) (tr_X T (by decide)) T.1 (tr_X U (by decide)) U.1 (by decide) (ty_tripleD (tr_Y T (by decide)) (tr_Y U (by decide)) ⟨?_, J⟩)
  rw [tl_triple]
theorem i_vc_agreement {k : Nat} {u : SX} {v : SY} (I : i_Rel k u v) (hk : k + 5 ≤ 2560) : wpX_agreement (fun r u' => wpY_agreement (fun r' => r' = r ∧ i_Rel (k + 5) u' v) v) u := by
  obtain ⟨ac, ae, an, aN, ab, am⟩ := u
  obtain ⟨M, R⟩ := I
  have R : ∀ t, t < 2 → tr_T ac ae v t (M t) := R
  have T := R 0 (by decide)
  have U := R 1 (by decide)
  unfold wpX_agreement
  dsimp only
  refine tx_solve (tr_X T (by decide)) T.1 (tr_X U (by decide)) U.1 (fun an' aN' ab' am' => ?_)
  refine ty_agreement (tr_Y T (by decide)) (tr_Y U (by decide)) ⟨?_, M, R⟩
  rw [(tl_ma T.1 U.1).1]
theorem i_vc_agreeingSet {k : Nat} {u : SX} {v : SY} (I : i_Rel k u v) (hk : k + 5 ≤ 2560) : wpX_agreeingSet (fun r u' => wpY_agreeingSet (fun r' => r' = r ∧ i_Rel (k + 5) u' v) v) u := by
  obtain ⟨ac, ae, an, aN, ab, am⟩ := u
  obtain ⟨M, R⟩ := I
  have R : ∀ t, t < 2 → tr_T ac ae v t (M t) := R
  have T := R 0 (by decide)
  have U := R 1 (by decide)
  unfold wpX_agreeingSet
  dsimp only
  refine tx_solve (tr_X T (by decide)) T.1 (tr_X U (by decide)) U.1 (fun an' aN' ab' am' => ?_)
  refine ⟨128, tx_as1 (tr_X T (by decide)) T.1 (tr_X U (by decide)) U.1 (tc_ma7 _ _) 127 0 (by decide) ?_⟩
  refine ty_aset (tr_Y T (by decide)) (tr_Y U (by decide)) ⟨?_, M, R⟩
  rw [tl_aset T.1 U.1]
theorem i_vc_agree {k : Nat} {u : SX} {v : SY} (I : i_Rel k u v) (hk : k + 5 ≤ 2560) (v1 : Int32) : wpX_agree (fun r => wpY_agree (fun r' => r' = r ∧ i_Rel (k + 5) u v) v v1) u v1 := by
  have J : i_Rel (k + 5) u v := I
  obtain ⟨ac, ae, an, aN, ab, am⟩ := u
  obtain ⟨M, R⟩ := I
  have R : ∀ t, t < 2 → tr_T ac ae v t (M t) := R
  have T := R 0 (by decide)
  have U := R 1 (by decide)
  unfold wpX_agree
  dsimp only
  rcases tn_ix v1 with n | ⟨n, n'⟩ | ⟨q, q8, rfl⟩
  · exact br_t n (ty_agreen (Or.inl n) ⟨rfl, J⟩)
  · exact br_f n (br_t n' (ty_agreen (Or.inr ⟨n, n'⟩) ⟨rfl, J⟩))
  · have b := tl_b343 (tx_pc (M 0) (M 1) q)
    refine br_f (nI_pos (by omega)) (br_f (nI_nlt (b := q) (a := 127) (by omega) (by decide)) (tx_conf (tr_X T (by decide)) T.1 (tr_X U (by decide)) U.1 q8 (pk_eq (tc_sm (ty_f1 (tx_pc (M 0) (M 1) q)) (List.range' 0 343)) 0 (fun x => ?_) (fun x => ?_))))
    · refine ty_agree (tr_Y T (by decide)) (tr_Y U (by decide)) q8 ⟨?_, J⟩
      rw [tl_cf.mp x]
      rfl
    · refine ty_agree (tr_Y T (by decide)) (tr_Y U (by decide)) q8 ⟨?_, J⟩
      rw [tc_nb (fun z => x (tl_cf.mpr z))]
      rfl
theorem i_vc_together {k : Nat} {u : SX} {v : SY} (I : i_Rel k u v) (hk : k + 5 ≤ 2560) : wpX_together (fun r => wpY_together (fun r' => r' = r ∧ i_Rel (k + 5) u v) v) u := by
  have J : i_Rel (k + 5) u v := I
  obtain ⟨ac, ae, an, aN, ab, am⟩ := u
  obtain ⟨M, R⟩ := I
  have R : ∀ t, t < 2 → tr_T ac ae v t (M t) := R
  have T := R 0 (by decide)
  have U := R 1 (by decide)
  refine tx_together (tr_X T (by decide)) (tr_X U (by decide)) (ty_together (tr_Y T (by decide)) (tr_Y U (by decide)) ⟨?_, J⟩)
  rw [tl_together T.1 U.1]
theorem i_vc_common {k : Nat} {u : SX} {v : SY} (I : i_Rel k u v) (hk : k + 5 ≤ 2560) : wpX_common (fun r => wpY_common (fun r' => r' = r ∧ i_Rel (k + 5) u v) v) u := by
  have J : i_Rel (k + 5) u v := I
  obtain ⟨ac, ae, an, aN, ab, am⟩ := u
  obtain ⟨M, R⟩ := I
  have R : ∀ t, t < 2 → tr_T ac ae v t (M t) := R
  have T := R 0 (by decide)
  have U := R 1 (by decide)
  refine tx_common (tr_X T (by decide)) (tr_X U (by decide)) (ty_common (tr_Y T (by decide)) (tr_Y U (by decide)) ⟨?_, J⟩)
  rw [tl_common T.1]
theorem i_vc_depth {k : Nat} {u : SX} {v : SY} (I : i_Rel k u v) (hk : k + 5 ≤ 2560) (v1 : Int32) (v2 : Int32) : wpX_depth (fun r => wpY_depth (fun r' => r' = r ∧ i_Rel (k + 5) u v) v v1 v2) u v1 v2 := by
  have J : i_Rel (k + 5) u v := I
  obtain ⟨ac, ae, an, aN, ab, am⟩ := u
  obtain ⟨M, R⟩ := I
  have R : ∀ t, t < 2 → tr_T ac ae v t (M t) := R
  rcases tn_tree v1 with ⟨t, ht, rfl⟩ | n
  · have T := R t ht
    rcases (or_assoc.mpr (tn_ixm v2)) with n | ⟨m, m7, rfl⟩
    · unfold wpX_depth
      dsimp only
      exact tx_tree1 ht (br_f (by decide) (tx_memn n (br_t rfl (ty_depthm ht n ⟨rfl, J⟩))))
    · refine tx_depth (tr_X T ht) m7 (ty_depth (tr_Y T ht) m7 ⟨?_, J⟩)
      rw [tl_depth T.1 m7]
  · unfold wpX_depth
    dsimp only
    exact tx_tree0 n (br_t rfl (ty_depth0 n ⟨rfl, J⟩))
theorem i_vc_room {k : Nat} {u : SX} {v : SY} (I : i_Rel k u v) (hk : k + 5 ≤ 2560) (v1 : Int32) : wpX_room (fun r => wpY_room (fun r' => r' = r ∧ i_Rel (k + 5) u v) v v1) u v1 := by
  have J : i_Rel (k + 5) u v := I
  obtain ⟨ac, ae, an, aN, ab, am⟩ := u
  obtain ⟨M, R⟩ := I
  have R : ∀ t, t < 2 → tr_T ac ae v t (M t) := R
  rcases tn_tree v1 with ⟨t, ht, rfl⟩ | n
  · have T := R t ht
    refine tx_room (tr_X T ht) (ty_room (tr_Y T ht) ⟨?_, J⟩)
    rw [tl_room T.1]
  · unfold wpX_room
    dsimp only
    exact tx_tree0 n (br_t rfl (ty_room0 n ⟨rfl, J⟩))
end
