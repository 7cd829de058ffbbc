section
/-! pure rows to paste: stores, nI and lN arithmetic, masks, shifts, narrowing, branches by naturals (pk_le, pk_lt, pk_eq), loops (lp1 .. lp16: the measure of the state; rp1 ..: recursion), negatives. Take what you need -/
theorem pk_us {f : Nat → Int32} {k : Nat} {x : Int32} : upd f k x k = x := if_pos rfl
theorem pk_un {f : Nat → Int32} {k j : Nat} {x : Int32} (h : j ≠ k) : upd f k x j = f j := if_neg h
theorem pk_uLs {f : Nat → Int64} {k : Nat} {x : Int64} : vp_updL f k x k = x := if_pos rfl
theorem pk_uLn {f : Nat → Int64} {k j : Nat} {x : Int64} (h : j ≠ k) : vp_updL f k x j = f j := if_neg h
theorem pk_sub {a b : Nat} (h : b ≤ a) : nI a - nI b = nI (a - b) := by
  obtain ⟨c, rfl⟩ : ∃ c, a = c + b := ⟨a - b, by omega⟩
  rw [← nI_add, Int32.add_sub_cancel, Nat.add_sub_cancel]
theorem pk_m1 (n : Nat) : nI (n + 1) + (-1) = nI n := by
  rw [← nI_1, Int32.add_assoc, show (1 : Int32) + (-1) = 0 from rfl, Int32.add_zero]
theorem pk_mul (a b : Nat) : nI a * nI b = nI (a * b) := (Int32.ofNat_mul a b).symm
theorem pk_div {a d : Nat} (ha : a < 2 ^ 31) (h0 : 0 < d) (hd : d < 2 ^ 31) : nI a / nI d = nI (a / d) := by
  apply Int32.toInt_inj.mp
  rw [lg_idiv_nonneg (by rw [nI_toInt ha]; omega) (by rw [nI_toInt hd]; omega), nI_toInt ha, nI_toInt hd, nI_toInt (Nat.lt_of_le_of_lt (Nat.div_le_self a d) ha)]
  first | rfl | exact (Int.natCast_ediv _ _).symm
theorem pk_rem {a d : Nat} (ha : a < 2 ^ 31) (h0 : 0 < d) (hd : d < 2 ^ 31) : nI a - nI a / nI d * nI d = nI (a % d) := by
  rw [pk_div ha h0 hd, pk_mul, pk_sub (Nat.div_mul_le_self a d)]
  exact congrArg nI (by have := Nat.div_add_mod' a d; omega)
theorem pk_sub_toInt {a b : Nat} (ha : a < 2 ^ 30) (hb : b < 2 ^ 30) : (nI a - nI b).toInt = (a : Int) - b := by
  rw [Int32.toInt_sub, nI_toInt (by omega), nI_toInt (by omega)]
  exact Int.bmod_eq_of_le (by omega) (by omega)
theorem pk_sneg {a b : Nat} (hb : b < 2 ^ 30) (h : a < b) : nI a - nI b < 0 := by
  rw [Int32.lt_iff_toInt_lt, pk_sub_toInt (by omega) hb, show (0 : Int32).toInt = 0 from by decide]
  omega
theorem pk_ix (x : Int32) {n : Nat} (hn : n < 2 ^ 31) : x < 0 ∨ nI n ≤ x ∨ ∃ j : Nat, j < n ∧ x = nI j := by
  by_cases h : x < 0
  · exact Or.inl h
  · obtain ⟨j, hj, rfl⟩ := nI_of h
    by_cases h2 : j < n
    · exact Or.inr (Or.inr ⟨j, h2, rfl⟩)
    · exact Or.inr (Or.inl (nI_le (by omega) hj))
theorem pk_le {x y : Int32} {A B : Prop} (a b : Nat) (f : a ≤ b → A) (g : b < a → B) (hx : x = nI a := by rfl) (hy : y = nI b := by rfl) (ha : a < 2 ^ 31 := by omega) (hb : b < 2 ^ 31 := by omega) : (x ≤ y → A) ∧ (¬ x ≤ y → B) := by
  subst hx hy
  rw [nI_leI ha hb]
  exact ⟨f, fun z => g (by omega)⟩
theorem pk_lt {x y : Int32} {A B : Prop} (a b : Nat) (f : a < b → A) (g : b ≤ a → B) (hx : x = nI a := by rfl) (hy : y = nI b := by rfl) (ha : a < 2 ^ 31 := by omega) (hb : b < 2 ^ 31 := by omega) : (x < y → A) ∧ (¬ x < y → B) := by
  subst hx hy
  rw [nI_ltI ha hb]
  exact ⟨f, fun z => g (by omega)⟩
theorem pk_eq {x y : Int32} {A B : Prop} (a b : Nat) (f : a = b → A) (g : a ≠ b → B) (hx : x = nI a := by rfl) (hy : y = nI b := by rfl) (ha : a < 2 ^ 31 := by omega) (hb : b < 2 ^ 31 := by omega) : (x = y → A) ∧ (¬ x = y → B) := by
  subst hx hy
  rw [nI_eq ha hb]
  exact ⟨f, g⟩
theorem pk_in {x : Int32} (n N : Nat) (h : n < N) (hx : x = nI n := by rfl) (hN : N < 2 ^ 31 := by omega) : vp_in x N := by
  subst hx
  exact vp_in_nI h hN
theorem pk_cl {x : Int32} (n : Nat) (hx : x = nI n := by rfl) (h : n < 2 ^ 31 := by omega) : x.toNatClampNeg = n := by
  subst hx
  exact nI_clamp h
theorem pk_tn {n : Nat} (h : n < 2 ^ 32) : (nI n).toBitVec.toNat = n := Nat.mod_eq_of_lt h
theorem pk_and (x : Int32) {m : Int32} (k : Nat) (hm : m.toBitVec.toNat = 2 ^ k - 1) : x &&& m = nI (x.toBitVec.toNat % 2 ^ k) := by
  apply Int32.toBitVec_inj.mp
  apply BitVec.eq_of_toNat_eq
  rw [Int32.toBitVec_and, BitVec.toNat_and, hm, Nat.and_two_pow_sub_one_eq_mod]
  show _ = (BitVec.ofNat 32 _).toNat
  rw [BitVec.toNat_ofNat]
  exact (Nat.mod_eq_of_lt (Nat.lt_of_le_of_lt (Nat.mod_le _ _) x.toBitVec.isLt)).symm
theorem pk_andN {n : Nat} (h : n < 2 ^ 32) {m : Int32} (k : Nat) (hm : m.toBitVec.toNat = 2 ^ k - 1) : nI n &&& m = nI (n % 2 ^ k) := by
  rw [pk_and _ k hm, pk_tn h]
theorem pk_andE (x : Int32) {m : Int32} (k : Nat) (hm : m.toBitVec.toNat = 2 ^ k - 1) : ∃ j : Nat, j < 2 ^ k ∧ x &&& m = nI j := ⟨_, Nat.mod_lt _ (Nat.two_pow_pos k), pk_and x k hm⟩
theorem pk_andIn (x : Int32) {m : Int32} (k : Nat) (hm : m.toBitVec.toNat = 2 ^ k - 1) (hk : k ≤ 30) : vp_in (x &&& m) (2 ^ k) := by
  obtain ⟨j, hj, e⟩ := pk_andE x k hm
  rw [e]
  exact vp_in_nI hj (Nat.lt_of_le_of_lt (Nat.pow_le_pow_right (by decide) hk) (by decide))
theorem pk_shl (a s : Int32) (k : Nat) (hs : (s.toBitVec.smod 32).toNat = k) : (a <<< s).toBitVec.toNat = a.toBitVec.toNat * 2 ^ k % 2 ^ 32 := by
  show (a.toBitVec <<< (s.toBitVec.smod 32).toNat).toNat = _
  rw [hs, BitVec.toNat_shiftLeft, Nat.shiftLeft_eq]
theorem pk_shlN {n : Nat} (s : Int32) (k : Nat) (hs : (s.toBitVec.smod 32).toNat = k) (h : n * 2 ^ k < 2 ^ 32) : nI n <<< s = nI (n * 2 ^ k) := by
  apply Int32.toBitVec_inj.mp
  apply BitVec.eq_of_toNat_eq
  have hn : n < 2 ^ 32 := Nat.lt_of_le_of_lt (Nat.le_mul_of_pos_right n (Nat.two_pow_pos k)) h
  rw [pk_shl _ _ k hs, pk_tn hn, pk_tn h, Nat.mod_eq_of_lt h]
theorem pk_shr (a s : Int32) (k : Nat) (hs : (s.toBitVec.smod 32).toNat = k) : (a >>> s).toInt = a.toInt >>> k := by
  show (a.toBitVec.sshiftRight (s.toBitVec.smod 32).toNat).toInt = _
  rw [hs, BitVec.toInt_sshiftRight]
  rfl
theorem pk_shrN {n : Nat} (h : n < 2 ^ 31) (s : Int32) (k : Nat) (hs : (s.toBitVec.smod 32).toNat = k) : nI n >>> s = nI (n / 2 ^ k) := by
  apply Int32.toInt_inj.mp
  have h2 : n / 2 ^ k ≤ n := Nat.div_le_self _ _
  rw [pk_shr _ _ k hs, nI_toInt h, nI_toInt (by omega), Int.shiftRight_eq_div_pow]
  rfl
theorem pk_ushr (x s : Int32) (k : Nat) (hs : ((s.toUInt32 &&& Int32.toUInt32 31).toBitVec % 32).toNat = k) : (x.toUInt32 >>> (s.toUInt32 &&& Int32.toUInt32 31)).toInt32.toBitVec.toNat = x.toBitVec.toNat / 2 ^ k := by
  have e : (x.toUInt32 >>> (s.toUInt32 &&& Int32.toUInt32 31)).toInt32.toBitVec = x.toBitVec >>> k := by
    rw [← hs]
    exact UInt32.toBitVec_shiftRight _ _
  rw [e, BitVec.toNat_ushiftRight, Nat.shiftRight_eq_div_pow]
theorem pk_ushrN {n : Nat} (hn : n < 2 ^ 32) (s : Int32) (k : Nat) (hs : ((s.toUInt32 &&& Int32.toUInt32 31).toBitVec % 32).toNat = k) : ((nI n).toUInt32 >>> (s.toUInt32 &&& Int32.toUInt32 31)).toInt32 = nI (n / 2 ^ k) := by
  apply Int32.toBitVec_inj.mp
  apply BitVec.eq_of_toNat_eq
  rw [pk_ushr _ s k hs, pk_tn hn, pk_tn (Nat.lt_of_le_of_lt (Nat.div_le_self _ _) hn)]
theorem pk_nb (z : Int32) : narrow .byte (.int z.toInt8.toInt32) = .int z.toInt8.toInt32 := congrArg Value.int (by simp)
theorem pk_ns (z : Int32) : narrow .short (.int z.toInt16.toInt32) = .int z.toInt16.toInt32 := congrArg Value.int (by simp)
theorem pk_fb (r : Int32) : fits .byte (.int r.toInt8.toInt32) = true := by
  have ⟨a, b⟩ := lg_i2b_range r
  have h1 : (-128 : Int32).toInt = -128 := by decide
  have h2 : (127 : Int32).toInt = 127 := by decide
  simp only [fits, Bool.and_eq_true, decide_eq_true_eq, Int32.le_iff_toInt_le, h1, h2]
  omega
theorem pk_fs (r : Int32) : fits .short (.int r.toInt16.toInt32) = true := by
  have ⟨a, b⟩ := lg_i2s_range r
  have h1 : (-32768 : Int32).toInt = -32768 := by decide
  have h2 : (32767 : Int32).toInt = 32767 := by decide
  simp only [fits, Bool.and_eq_true, decide_eq_true_eq, Int32.le_iff_toInt_le, h1, h2]
  omega
theorem pk_charN {q : Nat} (hq : q < 65536) : narrow .char (.int (nI q)) = .int (nI q) ∧ fits .char (.int (nI q)) = true := by
  constructor
  · have e : (nI q).toUInt32.toUInt16.toUInt32.toInt32 = nI q := by
      apply Int32.toBitVec_inj.mp
      apply BitVec.eq_of_toNat_eq
      show (nI q).toUInt32.toUInt16.toUInt32.toNat = q % 2 ^ 32
      rw [UInt16.toNat_toUInt32, UInt32.toNat_toUInt16, show (nI q).toUInt32.toNat = q % 2 ^ 32 from rfl]
      omega
    exact congrArg Value.int e
  · have a : (0 : Int32) ≤ nI q := nI_pos' (by omega)
    have b : nI q ≤ 65535 := nI_le (b := 65535) (by omega) (by decide)
    show (decide ((0 : Int32) ≤ nI q) && decide (nI q ≤ 65535)) = true
    rw [decide_eq_true a, decide_eq_true b]
    rfl
theorem pk_char (x : Int32) : (x.toUInt32 % 65536).toInt32 = nI (x.toBitVec.toNat % 65536) := by
  apply Int32.toBitVec_inj.mp
  apply BitVec.eq_of_toNat_eq
  rw [pk_tn (by omega)]
  show (x.toUInt32 % 65536).toNat = _
  rw [UInt32.toNat_mod]
  rfl
theorem pk_nc (x : Int32) : narrow .char (.int (x.toUInt32 % 65536).toInt32) = .int (x.toUInt32 % 65536).toInt32 := by
  rw [pk_char]
  exact (pk_charN (Nat.mod_lt _ (by decide))).1
theorem pk_fc (x : Int32) : fits .char (.int (x.toUInt32 % 65536).toInt32) = true := by
  rw [pk_char]
  exact (pk_charN (Nat.mod_lt _ (by decide))).2
theorem pk_vb (z : Int32) : vp_nar .byte z.toInt8.toInt32 = z.toInt8.toInt32 := by rw [vp_nar_byte]; simp
theorem pk_vs (z : Int32) : vp_nar .short z.toInt16.toInt32 = z.toInt16.toInt32 := by rw [vp_nar_short]; simp
theorem pk_vc (z : Int32) : vp_nar .char (z.toUInt32 % 65536).toInt32 = (z.toUInt32 % 65536).toInt32 := Value.int.inj (pk_nc z)
theorem pk_lT {n : Nat} (h : n < 2 ^ 63) : (lN n).toInt = (n : Int) := lg_ofNat_toInt h
theorem pk_lLT {a b : Nat} (ha : a < 2 ^ 63) (hb : b < 2 ^ 63) : lN a < lN b ↔ a < b := by
  rw [Int64.lt_iff_toInt_lt, pk_lT ha, pk_lT hb]; omega
theorem pk_lLE {a b : Nat} (ha : a < 2 ^ 63) (hb : b < 2 ^ 63) : lN a ≤ lN b ↔ a ≤ b := by
  rw [Int64.le_iff_toInt_le, pk_lT ha, pk_lT hb]; omega
theorem pk_lEQ {a b : Nat} (ha : a < 2 ^ 63) (hb : b < 2 ^ 63) : lN a = lN b ↔ a = b := by
  rw [← Int64.toInt_inj, pk_lT ha, pk_lT hb]; omega
theorem pk_lOf {x : Int64} (h : ¬ x < 0) : ∃ k : Nat, k < 2 ^ 63 ∧ x = lN k := by
  rw [Int64.lt_iff_toInt_lt] at h
  have h0 : (0 : Int64).toInt = 0 := by decide
  have hx := Int64.toInt_lt x
  refine ⟨x.toInt.toNat, by omega, Int64.toInt_inj.mp ?_⟩
  rw [pk_lT (by omega)]
  omega
theorem pk_lDiv {a b : Nat} (ha : a < 2 ^ 63) (h0 : 0 < b) (hb : b < 2 ^ 63) : lN a / lN b = lN (a / b) := by
  apply Int64.toInt_inj.mp
  rw [lg_ldiv_nonneg (by rw [pk_lT ha]; omega) (by rw [pk_lT hb]; omega), pk_lT ha, pk_lT hb, pk_lT (Nat.lt_of_le_of_lt (Nat.div_le_self a b) ha)]
  rfl
theorem pk_lRem {a b : Nat} (ha : a < 2 ^ 63) (h0 : 0 < b) (hb : b < 2 ^ 63) : lN a - lN a / lN b * lN b = lN (a % b) := by
  rw [pk_lDiv ha h0 hb, lN_mul, lN_sub (Nat.div_mul_le_self a b)]
  exact congrArg lN (by have := Nat.div_add_mod' a b; omega)
theorem pk_loop {σ : Type} (W : Nat → Nat → σ → Prop) (I : Nat → σ → Prop) (e i0 : Nat) (s : σ) (hi : i0 ≤ e) (h0 : I i0 s) (hx : ∀ n s, I e s → W (n + 1) e s)
    (hs : ∀ n i s, i < e → I i s → (∀ s', I (i + 1) s' → W n (i + 1) s') → W (n + 1) i s) : ∃ n, W n i0 s :=
  ⟨e + 1, loop_i W I e hx hs (e + 1) i0 s hi (by omega) h0⟩
theorem pk_loopD {σ : Type} (W : Nat → Nat → σ → Prop) (I : Nat → σ → Prop) (hx : ∀ n s, I 0 s → W (n + 1) 0 s)
    (hs : ∀ n i s, I (i + 1) s → (∀ s', I i s' → W n i s') → W (n + 1) (i + 1) s) : ∀ (e : Nat) (s : σ), I e s → W (e + 1) e s := by
  intro e
  induction e with
  | zero => exact fun s h => hx 0 s h
  | succ e ih => exact fun s h => hs (e + 1) e s h (fun s' h' => ih s' h')
theorem lp1 {A1 : Type} (W : Nat → A1 → Prop) (I : A1 → Prop) (μ : A1 → Nat) (hs : ∀ (n : Nat) (a1 : A1), I a1 → (∀ (b1 : A1), I b1 → μ b1 < μ a1 → W n b1) → W (n + 1) a1) (a1 : A1) (h : I a1) : ∃ n, W n a1 :=
  loop_m (σ := A1) (fun n s => W n s) (fun s => I s) (fun s => μ s) (fun n s hI hk => hs n s hI (fun b1 h9 hm => hk b1 h9 hm)) a1 h
theorem lp2 {A1 A2 : Type} (W : Nat → A1 → A2 → Prop) (I : A1 → A2 → Prop) (μ : A1 → A2 → Nat) (hs : ∀ (n : Nat) (a1 : A1) (a2 : A2), I a1 a2 → (∀ (b1 : A1) (b2 : A2), I b1 b2 → μ b1 b2 < μ a1 a2 → W n b1 b2) → W (n + 1) a1 a2) (a1 : A1) (a2 : A2) (h : I a1 a2) : ∃ n, W n a1 a2 :=
  loop_m (σ := A1 × A2) (fun n s => W n s.1 s.2) (fun s => I s.1 s.2) (fun s => μ s.1 s.2) (fun n s hI hk => hs n s.1 s.2 hI (fun b1 b2 h9 hm => hk (b1, b2) h9 hm)) (a1, a2) h
theorem lp3 {A1 A2 A3 : Type} (W : Nat → A1 → A2 → A3 → Prop) (I : A1 → A2 → A3 → Prop) (μ : A1 → A2 → A3 → Nat) (hs : ∀ (n : Nat) (a1 : A1) (a2 : A2) (a3 : A3), I a1 a2 a3 → (∀ (b1 : A1) (b2 : A2) (b3 : A3), I b1 b2 b3 → μ b1 b2 b3 < μ a1 a2 a3 → W n b1 b2 b3) → W (n + 1) a1 a2 a3) (a1 : A1) (a2 : A2) (a3 : A3) (h : I a1 a2 a3) : ∃ n, W n a1 a2 a3 :=
  loop_m (σ := A1 × A2 × A3) (fun n s => W n s.1 s.2.1 s.2.2) (fun s => I s.1 s.2.1 s.2.2) (fun s => μ s.1 s.2.1 s.2.2) (fun n s hI hk => hs n s.1 s.2.1 s.2.2 hI (fun b1 b2 b3 h9 hm => hk (b1, b2, b3) h9 hm)) (a1, a2, a3) h
theorem lp4 {A1 A2 A3 A4 : Type} (W : Nat → A1 → A2 → A3 → A4 → Prop) (I : A1 → A2 → A3 → A4 → Prop) (μ : A1 → A2 → A3 → A4 → Nat) (hs : ∀ (n : Nat) (a1 : A1) (a2 : A2) (a3 : A3) (a4 : A4), I a1 a2 a3 a4 → (∀ (b1 : A1) (b2 : A2) (b3 : A3) (b4 : A4), I b1 b2 b3 b4 → μ b1 b2 b3 b4 < μ a1 a2 a3 a4 → W n b1 b2 b3 b4) → W (n + 1) a1 a2 a3 a4) (a1 : A1) (a2 : A2) (a3 : A3) (a4 : A4) (h : I a1 a2 a3 a4) : ∃ n, W n a1 a2 a3 a4 :=
  loop_m (σ := A1 × A2 × A3 × A4) (fun n s => W n s.1 s.2.1 s.2.2.1 s.2.2.2) (fun s => I s.1 s.2.1 s.2.2.1 s.2.2.2) (fun s => μ s.1 s.2.1 s.2.2.1 s.2.2.2) (fun n s hI hk => hs n s.1 s.2.1 s.2.2.1 s.2.2.2 hI (fun b1 b2 b3 b4 h9 hm => hk (b1, b2, b3, b4) h9 hm)) (a1, a2, a3, a4) h
theorem lp5 {A1 A2 A3 A4 A5 : Type} (W : Nat → A1 → A2 → A3 → A4 → A5 → Prop) (I : A1 → A2 → A3 → A4 → A5 → Prop) (μ : A1 → A2 → A3 → A4 → A5 → Nat) (hs : ∀ (n : Nat) (a1 : A1) (a2 : A2) (a3 : A3) (a4 : A4) (a5 : A5), I a1 a2 a3 a4 a5 → (∀ (b1 : A1) (b2 : A2) (b3 : A3) (b4 : A4) (b5 : A5), I b1 b2 b3 b4 b5 → μ b1 b2 b3 b4 b5 < μ a1 a2 a3 a4 a5 → W n b1 b2 b3 b4 b5) → W (n + 1) a1 a2 a3 a4 a5) (a1 : A1) (a2 : A2) (a3 : A3) (a4 : A4) (a5 : A5) (h : I a1 a2 a3 a4 a5) : ∃ n, W n a1 a2 a3 a4 a5 :=
  loop_m (σ := A1 × A2 × A3 × A4 × A5) (fun n s => W n s.1 s.2.1 s.2.2.1 s.2.2.2.1 s.2.2.2.2) (fun s => I s.1 s.2.1 s.2.2.1 s.2.2.2.1 s.2.2.2.2) (fun s => μ s.1 s.2.1 s.2.2.1 s.2.2.2.1 s.2.2.2.2) (fun n s hI hk => hs n s.1 s.2.1 s.2.2.1 s.2.2.2.1 s.2.2.2.2 hI (fun b1 b2 b3 b4 b5 h9 hm => hk (b1, b2, b3, b4, b5) h9 hm)) (a1, a2, a3, a4, a5) h
theorem lp6 {A1 A2 A3 A4 A5 A6 : Type} (W : Nat → A1 → A2 → A3 → A4 → A5 → A6 → Prop) (I : A1 → A2 → A3 → A4 → A5 → A6 → Prop) (μ : A1 → A2 → A3 → A4 → A5 → A6 → Nat) (hs : ∀ (n : Nat) (a1 : A1) (a2 : A2) (a3 : A3) (a4 : A4) (a5 : A5) (a6 : A6), I a1 a2 a3 a4 a5 a6 → (∀ (b1 : A1) (b2 : A2) (b3 : A3) (b4 : A4) (b5 : A5) (b6 : A6), I b1 b2 b3 b4 b5 b6 → μ b1 b2 b3 b4 b5 b6 < μ a1 a2 a3 a4 a5 a6 → W n b1 b2 b3 b4 b5 b6) → W (n + 1) a1 a2 a3 a4 a5 a6) (a1 : A1) (a2 : A2) (a3 : A3) (a4 : A4) (a5 : A5) (a6 : A6) (h : I a1 a2 a3 a4 a5 a6) : ∃ n, W n a1 a2 a3 a4 a5 a6 :=
  loop_m (σ := A1 × A2 × A3 × A4 × A5 × A6) (fun n s => W n s.1 s.2.1 s.2.2.1 s.2.2.2.1 s.2.2.2.2.1 s.2.2.2.2.2) (fun s => I s.1 s.2.1 s.2.2.1 s.2.2.2.1 s.2.2.2.2.1 s.2.2.2.2.2) (fun s => μ s.1 s.2.1 s.2.2.1 s.2.2.2.1 s.2.2.2.2.1 s.2.2.2.2.2) (fun n s hI hk => hs n s.1 s.2.1 s.2.2.1 s.2.2.2.1 s.2.2.2.2.1 s.2.2.2.2.2 hI (fun b1 b2 b3 b4 b5 b6 h9 hm => hk (b1, b2, b3, b4, b5, b6) h9 hm)) (a1, a2, a3, a4, a5, a6) h
theorem lp7 {A1 A2 A3 A4 A5 A6 A7 : Type} (W : Nat → A1 → A2 → A3 → A4 → A5 → A6 → A7 → Prop) (I : A1 → A2 → A3 → A4 → A5 → A6 → A7 → Prop) (μ : A1 → A2 → A3 → A4 → A5 → A6 → A7 → Nat) (hs : ∀ (n : Nat) (a1 : A1) (a2 : A2) (a3 : A3) (a4 : A4) (a5 : A5) (a6 : A6) (a7 : A7), I a1 a2 a3 a4 a5 a6 a7 → (∀ (b1 : A1) (b2 : A2) (b3 : A3) (b4 : A4) (b5 : A5) (b6 : A6) (b7 : A7), I b1 b2 b3 b4 b5 b6 b7 → μ b1 b2 b3 b4 b5 b6 b7 < μ a1 a2 a3 a4 a5 a6 a7 → W n b1 b2 b3 b4 b5 b6 b7) → W (n + 1) a1 a2 a3 a4 a5 a6 a7) (a1 : A1) (a2 : A2) (a3 : A3) (a4 : A4) (a5 : A5) (a6 : A6) (a7 : A7) (h : I a1 a2 a3 a4 a5 a6 a7) : ∃ n, W n a1 a2 a3 a4 a5 a6 a7 :=
  loop_m (σ := A1 × A2 × A3 × A4 × A5 × A6 × A7) (fun n s => W n s.1 s.2.1 s.2.2.1 s.2.2.2.1 s.2.2.2.2.1 s.2.2.2.2.2.1 s.2.2.2.2.2.2) (fun s => I s.1 s.2.1 s.2.2.1 s.2.2.2.1 s.2.2.2.2.1 s.2.2.2.2.2.1 s.2.2.2.2.2.2) (fun s => μ s.1 s.2.1 s.2.2.1 s.2.2.2.1 s.2.2.2.2.1 s.2.2.2.2.2.1 s.2.2.2.2.2.2) (fun n s hI hk => hs n s.1 s.2.1 s.2.2.1 s.2.2.2.1 s.2.2.2.2.1 s.2.2.2.2.2.1 s.2.2.2.2.2.2 hI (fun b1 b2 b3 b4 b5 b6 b7 h9 hm => hk (b1, b2, b3, b4, b5, b6, b7) h9 hm)) (a1, a2, a3, a4, a5, a6, a7) h
theorem lp8 {A1 A2 A3 A4 A5 A6 A7 A8 : Type} (W : Nat → A1 → A2 → A3 → A4 → A5 → A6 → A7 → A8 → Prop) (I : A1 → A2 → A3 → A4 → A5 → A6 → A7 → A8 → Prop) (μ : A1 → A2 → A3 → A4 → A5 → A6 → A7 → A8 → Nat) (hs : ∀ (n : Nat) (a1 : A1) (a2 : A2) (a3 : A3) (a4 : A4) (a5 : A5) (a6 : A6) (a7 : A7) (a8 : A8), I a1 a2 a3 a4 a5 a6 a7 a8 → (∀ (b1 : A1) (b2 : A2) (b3 : A3) (b4 : A4) (b5 : A5) (b6 : A6) (b7 : A7) (b8 : A8), I b1 b2 b3 b4 b5 b6 b7 b8 → μ b1 b2 b3 b4 b5 b6 b7 b8 < μ a1 a2 a3 a4 a5 a6 a7 a8 → W n b1 b2 b3 b4 b5 b6 b7 b8) → W (n + 1) a1 a2 a3 a4 a5 a6 a7 a8) (a1 : A1) (a2 : A2) (a3 : A3) (a4 : A4) (a5 : A5) (a6 : A6) (a7 : A7) (a8 : A8) (h : I a1 a2 a3 a4 a5 a6 a7 a8) : ∃ n, W n a1 a2 a3 a4 a5 a6 a7 a8 :=
  loop_m (σ := A1 × A2 × A3 × A4 × A5 × A6 × A7 × A8) (fun n s => W n s.1 s.2.1 s.2.2.1 s.2.2.2.1 s.2.2.2.2.1 s.2.2.2.2.2.1 s.2.2.2.2.2.2.1 s.2.2.2.2.2.2.2) (fun s => I s.1 s.2.1 s.2.2.1 s.2.2.2.1 s.2.2.2.2.1 s.2.2.2.2.2.1 s.2.2.2.2.2.2.1 s.2.2.2.2.2.2.2) (fun s => μ s.1 s.2.1 s.2.2.1 s.2.2.2.1 s.2.2.2.2.1 s.2.2.2.2.2.1 s.2.2.2.2.2.2.1 s.2.2.2.2.2.2.2) (fun n s hI hk => hs n s.1 s.2.1 s.2.2.1 s.2.2.2.1 s.2.2.2.2.1 s.2.2.2.2.2.1 s.2.2.2.2.2.2.1 s.2.2.2.2.2.2.2 hI (fun b1 b2 b3 b4 b5 b6 b7 b8 h9 hm => hk (b1, b2, b3, b4, b5, b6, b7, b8) h9 hm)) (a1, a2, a3, a4, a5, a6, a7, a8) h
theorem lp9 {A1 A2 A3 A4 A5 A6 A7 A8 A9 : Type} (W : Nat → A1 → A2 → A3 → A4 → A5 → A6 → A7 → A8 → A9 → Prop) (I : A1 → A2 → A3 → A4 → A5 → A6 → A7 → A8 → A9 → Prop) (μ : A1 → A2 → A3 → A4 → A5 → A6 → A7 → A8 → A9 → Nat) (hs : ∀ (n : Nat) (a1 : A1) (a2 : A2) (a3 : A3) (a4 : A4) (a5 : A5) (a6 : A6) (a7 : A7) (a8 : A8) (a9 : A9), I a1 a2 a3 a4 a5 a6 a7 a8 a9 → (∀ (b1 : A1) (b2 : A2) (b3 : A3) (b4 : A4) (b5 : A5) (b6 : A6) (b7 : A7) (b8 : A8) (b9 : A9), I b1 b2 b3 b4 b5 b6 b7 b8 b9 → μ b1 b2 b3 b4 b5 b6 b7 b8 b9 < μ a1 a2 a3 a4 a5 a6 a7 a8 a9 → W n b1 b2 b3 b4 b5 b6 b7 b8 b9) → W (n + 1) a1 a2 a3 a4 a5 a6 a7 a8 a9) (a1 : A1) (a2 : A2) (a3 : A3) (a4 : A4) (a5 : A5) (a6 : A6) (a7 : A7) (a8 : A8) (a9 : A9) (h : I a1 a2 a3 a4 a5 a6 a7 a8 a9) : ∃ n, W n a1 a2 a3 a4 a5 a6 a7 a8 a9 :=
  loop_m (σ := A1 × A2 × A3 × A4 × A5 × A6 × A7 × A8 × A9) (fun n s => W n s.1 s.2.1 s.2.2.1 s.2.2.2.1 s.2.2.2.2.1 s.2.2.2.2.2.1 s.2.2.2.2.2.2.1 s.2.2.2.2.2.2.2.1 s.2.2.2.2.2.2.2.2) (fun s => I s.1 s.2.1 s.2.2.1 s.2.2.2.1 s.2.2.2.2.1 s.2.2.2.2.2.1 s.2.2.2.2.2.2.1 s.2.2.2.2.2.2.2.1 s.2.2.2.2.2.2.2.2) (fun s => μ s.1 s.2.1 s.2.2.1 s.2.2.2.1 s.2.2.2.2.1 s.2.2.2.2.2.1 s.2.2.2.2.2.2.1 s.2.2.2.2.2.2.2.1 s.2.2.2.2.2.2.2.2) (fun n s hI hk => hs n s.1 s.2.1 s.2.2.1 s.2.2.2.1 s.2.2.2.2.1 s.2.2.2.2.2.1 s.2.2.2.2.2.2.1 s.2.2.2.2.2.2.2.1 s.2.2.2.2.2.2.2.2 hI (fun b1 b2 b3 b4 b5 b6 b7 b8 b9 h9 hm => hk (b1, b2, b3, b4, b5, b6, b7, b8, b9) h9 hm)) (a1, a2, a3, a4, a5, a6, a7, a8, a9) h
theorem lp10 {A1 A2 A3 A4 A5 A6 A7 A8 A9 A10 : Type} (W : Nat → A1 → A2 → A3 → A4 → A5 → A6 → A7 → A8 → A9 → A10 → Prop) (I : A1 → A2 → A3 → A4 → A5 → A6 → A7 → A8 → A9 → A10 → Prop) (μ : A1 → A2 → A3 → A4 → A5 → A6 → A7 → A8 → A9 → A10 → Nat) (hs : ∀ (n : Nat) (a1 : A1) (a2 : A2) (a3 : A3) (a4 : A4) (a5 : A5) (a6 : A6) (a7 : A7) (a8 : A8) (a9 : A9) (a10 : A10), I a1 a2 a3 a4 a5 a6 a7 a8 a9 a10 → (∀ (b1 : A1) (b2 : A2) (b3 : A3) (b4 : A4) (b5 : A5) (b6 : A6) (b7 : A7) (b8 : A8) (b9 : A9) (b10 : A10), I b1 b2 b3 b4 b5 b6 b7 b8 b9 b10 → μ b1 b2 b3 b4 b5 b6 b7 b8 b9 b10 < μ a1 a2 a3 a4 a5 a6 a7 a8 a9 a10 → W n b1 b2 b3 b4 b5 b6 b7 b8 b9 b10) → W (n + 1) a1 a2 a3 a4 a5 a6 a7 a8 a9 a10) (a1 : A1) (a2 : A2) (a3 : A3) (a4 : A4) (a5 : A5) (a6 : A6) (a7 : A7) (a8 : A8) (a9 : A9) (a10 : A10) (h : I a1 a2 a3 a4 a5 a6 a7 a8 a9 a10) : ∃ n, W n a1 a2 a3 a4 a5 a6 a7 a8 a9 a10 :=
  loop_m (σ := A1 × A2 × A3 × A4 × A5 × A6 × A7 × A8 × A9 × A10) (fun n s => W n s.1 s.2.1 s.2.2.1 s.2.2.2.1 s.2.2.2.2.1 s.2.2.2.2.2.1 s.2.2.2.2.2.2.1 s.2.2.2.2.2.2.2.1 s.2.2.2.2.2.2.2.2.1 s.2.2.2.2.2.2.2.2.2) (fun s => I s.1 s.2.1 s.2.2.1 s.2.2.2.1 s.2.2.2.2.1 s.2.2.2.2.2.1 s.2.2.2.2.2.2.1 s.2.2.2.2.2.2.2.1 s.2.2.2.2.2.2.2.2.1 s.2.2.2.2.2.2.2.2.2) (fun s => μ s.1 s.2.1 s.2.2.1 s.2.2.2.1 s.2.2.2.2.1 s.2.2.2.2.2.1 s.2.2.2.2.2.2.1 s.2.2.2.2.2.2.2.1 s.2.2.2.2.2.2.2.2.1 s.2.2.2.2.2.2.2.2.2) (fun n s hI hk => hs n s.1 s.2.1 s.2.2.1 s.2.2.2.1 s.2.2.2.2.1 s.2.2.2.2.2.1 s.2.2.2.2.2.2.1 s.2.2.2.2.2.2.2.1 s.2.2.2.2.2.2.2.2.1 s.2.2.2.2.2.2.2.2.2 hI (fun b1 b2 b3 b4 b5 b6 b7 b8 b9 b10 h9 hm => hk (b1, b2, b3, b4, b5, b6, b7, b8, b9, b10) h9 hm)) (a1, a2, a3, a4, a5, a6, a7, a8, a9, a10) h
theorem lp11 {A1 A2 A3 A4 A5 A6 A7 A8 A9 A10 A11 : Type} (W : Nat → A1 → A2 → A3 → A4 → A5 → A6 → A7 → A8 → A9 → A10 → A11 → Prop) (I : A1 → A2 → A3 → A4 → A5 → A6 → A7 → A8 → A9 → A10 → A11 → Prop) (μ : A1 → A2 → A3 → A4 → A5 → A6 → A7 → A8 → A9 → A10 → A11 → Nat) (hs : ∀ (n : Nat) (a1 : A1) (a2 : A2) (a3 : A3) (a4 : A4) (a5 : A5) (a6 : A6) (a7 : A7) (a8 : A8) (a9 : A9) (a10 : A10) (a11 : A11), I a1 a2 a3 a4 a5 a6 a7 a8 a9 a10 a11 → (∀ (b1 : A1) (b2 : A2) (b3 : A3) (b4 : A4) (b5 : A5) (b6 : A6) (b7 : A7) (b8 : A8) (b9 : A9) (b10 : A10) (b11 : A11), I b1 b2 b3 b4 b5 b6 b7 b8 b9 b10 b11 → μ b1 b2 b3 b4 b5 b6 b7 b8 b9 b10 b11 < μ a1 a2 a3 a4 a5 a6 a7 a8 a9 a10 a11 → W n b1 b2 b3 b4 b5 b6 b7 b8 b9 b10 b11) → W (n + 1) a1 a2 a3 a4 a5 a6 a7 a8 a9 a10 a11) (a1 : A1) (a2 : A2) (a3 : A3) (a4 : A4) (a5 : A5) (a6 : A6) (a7 : A7) (a8 : A8) (a9 : A9) (a10 : A10) (a11 : A11) (h : I a1 a2 a3 a4 a5 a6 a7 a8 a9 a10 a11) : ∃ n, W n a1 a2 a3 a4 a5 a6 a7 a8 a9 a10 a11 :=
  loop_m (σ := A1 × A2 × A3 × A4 × A5 × A6 × A7 × A8 × A9 × A10 × A11) (fun n s => W n s.1 s.2.1 s.2.2.1 s.2.2.2.1 s.2.2.2.2.1 s.2.2.2.2.2.1 s.2.2.2.2.2.2.1 s.2.2.2.2.2.2.2.1 s.2.2.2.2.2.2.2.2.1 s.2.2.2.2.2.2.2.2.2.1 s.2.2.2.2.2.2.2.2.2.2) (fun s => I s.1 s.2.1 s.2.2.1 s.2.2.2.1 s.2.2.2.2.1 s.2.2.2.2.2.1 s.2.2.2.2.2.2.1 s.2.2.2.2.2.2.2.1 s.2.2.2.2.2.2.2.2.1 s.2.2.2.2.2.2.2.2.2.1 s.2.2.2.2.2.2.2.2.2.2) (fun s => μ s.1 s.2.1 s.2.2.1 s.2.2.2.1 s.2.2.2.2.1 s.2.2.2.2.2.1 s.2.2.2.2.2.2.1 s.2.2.2.2.2.2.2.1 s.2.2.2.2.2.2.2.2.1 s.2.2.2.2.2.2.2.2.2.1 s.2.2.2.2.2.2.2.2.2.2) (fun n s hI hk => hs n s.1 s.2.1 s.2.2.1 s.2.2.2.1 s.2.2.2.2.1 s.2.2.2.2.2.1 s.2.2.2.2.2.2.1 s.2.2.2.2.2.2.2.1 s.2.2.2.2.2.2.2.2.1 s.2.2.2.2.2.2.2.2.2.1 s.2.2.2.2.2.2.2.2.2.2 hI (fun b1 b2 b3 b4 b5 b6 b7 b8 b9 b10 b11 h9 hm => hk (b1, b2, b3, b4, b5, b6, b7, b8, b9, b10, b11) h9 hm)) (a1, a2, a3, a4, a5, a6, a7, a8, a9, a10, a11) h
theorem lp12 {A1 A2 A3 A4 A5 A6 A7 A8 A9 A10 A11 A12 : Type} (W : Nat → A1 → A2 → A3 → A4 → A5 → A6 → A7 → A8 → A9 → A10 → A11 → A12 → Prop) (I : A1 → A2 → A3 → A4 → A5 → A6 → A7 → A8 → A9 → A10 → A11 → A12 → Prop) (μ : A1 → A2 → A3 → A4 → A5 → A6 → A7 → A8 → A9 → A10 → A11 → A12 → Nat) (hs : ∀ (n : Nat) (a1 : A1) (a2 : A2) (a3 : A3) (a4 : A4) (a5 : A5) (a6 : A6) (a7 : A7) (a8 : A8) (a9 : A9) (a10 : A10) (a11 : A11) (a12 : A12), I a1 a2 a3 a4 a5 a6 a7 a8 a9 a10 a11 a12 → (∀ (b1 : A1) (b2 : A2) (b3 : A3) (b4 : A4) (b5 : A5) (b6 : A6) (b7 : A7) (b8 : A8) (b9 : A9) (b10 : A10) (b11 : A11) (b12 : A12), I b1 b2 b3 b4 b5 b6 b7 b8 b9 b10 b11 b12 → μ b1 b2 b3 b4 b5 b6 b7 b8 b9 b10 b11 b12 < μ a1 a2 a3 a4 a5 a6 a7 a8 a9 a10 a11 a12 → W n b1 b2 b3 b4 b5 b6 b7 b8 b9 b10 b11 b12) → W (n + 1) a1 a2 a3 a4 a5 a6 a7 a8 a9 a10 a11 a12) (a1 : A1) (a2 : A2) (a3 : A3) (a4 : A4) (a5 : A5) (a6 : A6) (a7 : A7) (a8 : A8) (a9 : A9) (a10 : A10) (a11 : A11) (a12 : A12) (h : I a1 a2 a3 a4 a5 a6 a7 a8 a9 a10 a11 a12) : ∃ n, W n a1 a2 a3 a4 a5 a6 a7 a8 a9 a10 a11 a12 :=
  loop_m (σ := A1 × A2 × A3 × A4 × A5 × A6 × A7 × A8 × A9 × A10 × A11 × A12) (fun n s => W n s.1 s.2.1 s.2.2.1 s.2.2.2.1 s.2.2.2.2.1 s.2.2.2.2.2.1 s.2.2.2.2.2.2.1 s.2.2.2.2.2.2.2.1 s.2.2.2.2.2.2.2.2.1 s.2.2.2.2.2.2.2.2.2.1 s.2.2.2.2.2.2.2.2.2.2.1 s.2.2.2.2.2.2.2.2.2.2.2) (fun s => I s.1 s.2.1 s.2.2.1 s.2.2.2.1 s.2.2.2.2.1 s.2.2.2.2.2.1 s.2.2.2.2.2.2.1 s.2.2.2.2.2.2.2.1 s.2.2.2.2.2.2.2.2.1 s.2.2.2.2.2.2.2.2.2.1 s.2.2.2.2.2.2.2.2.2.2.1 s.2.2.2.2.2.2.2.2.2.2.2) (fun s => μ s.1 s.2.1 s.2.2.1 s.2.2.2.1 s.2.2.2.2.1 s.2.2.2.2.2.1 s.2.2.2.2.2.2.1 s.2.2.2.2.2.2.2.1 s.2.2.2.2.2.2.2.2.1 s.2.2.2.2.2.2.2.2.2.1 s.2.2.2.2.2.2.2.2.2.2.1 s.2.2.2.2.2.2.2.2.2.2.2) (fun n s hI hk => hs n s.1 s.2.1 s.2.2.1 s.2.2.2.1 s.2.2.2.2.1 s.2.2.2.2.2.1 s.2.2.2.2.2.2.1 s.2.2.2.2.2.2.2.1 s.2.2.2.2.2.2.2.2.1 s.2.2.2.2.2.2.2.2.2.1 s.2.2.2.2.2.2.2.2.2.2.1 s.2.2.2.2.2.2.2.2.2.2.2 hI (fun b1 b2 b3 b4 b5 b6 b7 b8 b9 b10 b11 b12 h9 hm => hk (b1, b2, b3, b4, b5, b6, b7, b8, b9, b10, b11, b12) h9 hm)) (a1, a2, a3, a4, a5, a6, a7, a8, a9, a10, a11, a12) h
theorem lp13 {A1 A2 A3 A4 A5 A6 A7 A8 A9 A10 A11 A12 A13 : Type} (W : Nat → A1 → A2 → A3 → A4 → A5 → A6 → A7 → A8 → A9 → A10 → A11 → A12 → A13 → Prop) (I : A1 → A2 → A3 → A4 → A5 → A6 → A7 → A8 → A9 → A10 → A11 → A12 → A13 → Prop) (μ : A1 → A2 → A3 → A4 → A5 → A6 → A7 → A8 → A9 → A10 → A11 → A12 → A13 → Nat) (hs : ∀ (n : Nat) (a1 : A1) (a2 : A2) (a3 : A3) (a4 : A4) (a5 : A5) (a6 : A6) (a7 : A7) (a8 : A8) (a9 : A9) (a10 : A10) (a11 : A11) (a12 : A12) (a13 : A13), I a1 a2 a3 a4 a5 a6 a7 a8 a9 a10 a11 a12 a13 → (∀ (b1 : A1) (b2 : A2) (b3 : A3) (b4 : A4) (b5 : A5) (b6 : A6) (b7 : A7) (b8 : A8) (b9 : A9) (b10 : A10) (b11 : A11) (b12 : A12) (b13 : A13), I b1 b2 b3 b4 b5 b6 b7 b8 b9 b10 b11 b12 b13 → μ b1 b2 b3 b4 b5 b6 b7 b8 b9 b10 b11 b12 b13 < μ a1 a2 a3 a4 a5 a6 a7 a8 a9 a10 a11 a12 a13 → W n b1 b2 b3 b4 b5 b6 b7 b8 b9 b10 b11 b12 b13) → W (n + 1) a1 a2 a3 a4 a5 a6 a7 a8 a9 a10 a11 a12 a13) (a1 : A1) (a2 : A2) (a3 : A3) (a4 : A4) (a5 : A5) (a6 : A6) (a7 : A7) (a8 : A8) (a9 : A9) (a10 : A10) (a11 : A11) (a12 : A12) (a13 : A13) (h : I a1 a2 a3 a4 a5 a6 a7 a8 a9 a10 a11 a12 a13) : ∃ n, W n a1 a2 a3 a4 a5 a6 a7 a8 a9 a10 a11 a12 a13 :=
  loop_m (σ := A1 × A2 × A3 × A4 × A5 × A6 × A7 × A8 × A9 × A10 × A11 × A12 × A13) (fun n s => W n s.1 s.2.1 s.2.2.1 s.2.2.2.1 s.2.2.2.2.1 s.2.2.2.2.2.1 s.2.2.2.2.2.2.1 s.2.2.2.2.2.2.2.1 s.2.2.2.2.2.2.2.2.1 s.2.2.2.2.2.2.2.2.2.1 s.2.2.2.2.2.2.2.2.2.2.1 s.2.2.2.2.2.2.2.2.2.2.2.1 s.2.2.2.2.2.2.2.2.2.2.2.2) (fun s => I s.1 s.2.1 s.2.2.1 s.2.2.2.1 s.2.2.2.2.1 s.2.2.2.2.2.1 s.2.2.2.2.2.2.1 s.2.2.2.2.2.2.2.1 s.2.2.2.2.2.2.2.2.1 s.2.2.2.2.2.2.2.2.2.1 s.2.2.2.2.2.2.2.2.2.2.1 s.2.2.2.2.2.2.2.2.2.2.2.1 s.2.2.2.2.2.2.2.2.2.2.2.2) (fun s => μ s.1 s.2.1 s.2.2.1 s.2.2.2.1 s.2.2.2.2.1 s.2.2.2.2.2.1 s.2.2.2.2.2.2.1 s.2.2.2.2.2.2.2.1 s.2.2.2.2.2.2.2.2.1 s.2.2.2.2.2.2.2.2.2.1 s.2.2.2.2.2.2.2.2.2.2.1 s.2.2.2.2.2.2.2.2.2.2.2.1 s.2.2.2.2.2.2.2.2.2.2.2.2) (fun n s hI hk => hs n s.1 s.2.1 s.2.2.1 s.2.2.2.1 s.2.2.2.2.1 s.2.2.2.2.2.1 s.2.2.2.2.2.2.1 s.2.2.2.2.2.2.2.1 s.2.2.2.2.2.2.2.2.1 s.2.2.2.2.2.2.2.2.2.1 s.2.2.2.2.2.2.2.2.2.2.1 s.2.2.2.2.2.2.2.2.2.2.2.1 s.2.2.2.2.2.2.2.2.2.2.2.2 hI (fun b1 b2 b3 b4 b5 b6 b7 b8 b9 b10 b11 b12 b13 h9 hm => hk (b1, b2, b3, b4, b5, b6, b7, b8, b9, b10, b11, b12, b13) h9 hm)) (a1, a2, a3, a4, a5, a6, a7, a8, a9, a10, a11, a12, a13) h
theorem lp14 {A1 A2 A3 A4 A5 A6 A7 A8 A9 A10 A11 A12 A13 A14 : Type} (W : Nat → A1 → A2 → A3 → A4 → A5 → A6 → A7 → A8 → A9 → A10 → A11 → A12 → A13 → A14 → Prop) (I : A1 → A2 → A3 → A4 → A5 → A6 → A7 → A8 → A9 → A10 → A11 → A12 → A13 → A14 → Prop) (μ : A1 → A2 → A3 → A4 → A5 → A6 → A7 → A8 → A9 → A10 → A11 → A12 → A13 → A14 → Nat) (hs : ∀ (n : Nat) (a1 : A1) (a2 : A2) (a3 : A3) (a4 : A4) (a5 : A5) (a6 : A6) (a7 : A7) (a8 : A8) (a9 : A9) (a10 : A10) (a11 : A11) (a12 : A12) (a13 : A13) (a14 : A14), I a1 a2 a3 a4 a5 a6 a7 a8 a9 a10 a11 a12 a13 a14 → (∀ (b1 : A1) (b2 : A2) (b3 : A3) (b4 : A4) (b5 : A5) (b6 : A6) (b7 : A7) (b8 : A8) (b9 : A9) (b10 : A10) (b11 : A11) (b12 : A12) (b13 : A13) (b14 : A14), I b1 b2 b3 b4 b5 b6 b7 b8 b9 b10 b11 b12 b13 b14 → μ b1 b2 b3 b4 b5 b6 b7 b8 b9 b10 b11 b12 b13 b14 < μ a1 a2 a3 a4 a5 a6 a7 a8 a9 a10 a11 a12 a13 a14 → W n b1 b2 b3 b4 b5 b6 b7 b8 b9 b10 b11 b12 b13 b14) → W (n + 1) a1 a2 a3 a4 a5 a6 a7 a8 a9 a10 a11 a12 a13 a14) (a1 : A1) (a2 : A2) (a3 : A3) (a4 : A4) (a5 : A5) (a6 : A6) (a7 : A7) (a8 : A8) (a9 : A9) (a10 : A10) (a11 : A11) (a12 : A12) (a13 : A13) (a14 : A14) (h : I a1 a2 a3 a4 a5 a6 a7 a8 a9 a10 a11 a12 a13 a14) : ∃ n, W n a1 a2 a3 a4 a5 a6 a7 a8 a9 a10 a11 a12 a13 a14 :=
  loop_m (σ := A1 × A2 × A3 × A4 × A5 × A6 × A7 × A8 × A9 × A10 × A11 × A12 × A13 × A14) (fun n s => W n s.1 s.2.1 s.2.2.1 s.2.2.2.1 s.2.2.2.2.1 s.2.2.2.2.2.1 s.2.2.2.2.2.2.1 s.2.2.2.2.2.2.2.1 s.2.2.2.2.2.2.2.2.1 s.2.2.2.2.2.2.2.2.2.1 s.2.2.2.2.2.2.2.2.2.2.1 s.2.2.2.2.2.2.2.2.2.2.2.1 s.2.2.2.2.2.2.2.2.2.2.2.2.1 s.2.2.2.2.2.2.2.2.2.2.2.2.2) (fun s => I s.1 s.2.1 s.2.2.1 s.2.2.2.1 s.2.2.2.2.1 s.2.2.2.2.2.1 s.2.2.2.2.2.2.1 s.2.2.2.2.2.2.2.1 s.2.2.2.2.2.2.2.2.1 s.2.2.2.2.2.2.2.2.2.1 s.2.2.2.2.2.2.2.2.2.2.1 s.2.2.2.2.2.2.2.2.2.2.2.1 s.2.2.2.2.2.2.2.2.2.2.2.2.1 s.2.2.2.2.2.2.2.2.2.2.2.2.2) (fun s => μ s.1 s.2.1 s.2.2.1 s.2.2.2.1 s.2.2.2.2.1 s.2.2.2.2.2.1 s.2.2.2.2.2.2.1 s.2.2.2.2.2.2.2.1 s.2.2.2.2.2.2.2.2.1 s.2.2.2.2.2.2.2.2.2.1 s.2.2.2.2.2.2.2.2.2.2.1 s.2.2.2.2.2.2.2.2.2.2.2.1 s.2.2.2.2.2.2.2.2.2.2.2.2.1 s.2.2.2.2.2.2.2.2.2.2.2.2.2) (fun n s hI hk => hs n s.1 s.2.1 s.2.2.1 s.2.2.2.1 s.2.2.2.2.1 s.2.2.2.2.2.1 s.2.2.2.2.2.2.1 s.2.2.2.2.2.2.2.1 s.2.2.2.2.2.2.2.2.1 s.2.2.2.2.2.2.2.2.2.1 s.2.2.2.2.2.2.2.2.2.2.1 s.2.2.2.2.2.2.2.2.2.2.2.1 s.2.2.2.2.2.2.2.2.2.2.2.2.1 s.2.2.2.2.2.2.2.2.2.2.2.2.2 hI (fun b1 b2 b3 b4 b5 b6 b7 b8 b9 b10 b11 b12 b13 b14 h9 hm => hk (b1, b2, b3, b4, b5, b6, b7, b8, b9, b10, b11, b12, b13, b14) h9 hm)) (a1, a2, a3, a4, a5, a6, a7, a8, a9, a10, a11, a12, a13, a14) h
theorem lp15 {A1 A2 A3 A4 A5 A6 A7 A8 A9 A10 A11 A12 A13 A14 A15 : Type} (W : Nat → A1 → A2 → A3 → A4 → A5 → A6 → A7 → A8 → A9 → A10 → A11 → A12 → A13 → A14 → A15 → Prop) (I : A1 → A2 → A3 → A4 → A5 → A6 → A7 → A8 → A9 → A10 → A11 → A12 → A13 → A14 → A15 → Prop) (μ : A1 → A2 → A3 → A4 → A5 → A6 → A7 → A8 → A9 → A10 → A11 → A12 → A13 → A14 → A15 → Nat) (hs : ∀ (n : Nat) (a1 : A1) (a2 : A2) (a3 : A3) (a4 : A4) (a5 : A5) (a6 : A6) (a7 : A7) (a8 : A8) (a9 : A9) (a10 : A10) (a11 : A11) (a12 : A12) (a13 : A13) (a14 : A14) (a15 : A15), I a1 a2 a3 a4 a5 a6 a7 a8 a9 a10 a11 a12 a13 a14 a15 → (∀ (b1 : A1) (b2 : A2) (b3 : A3) (b4 : A4) (b5 : A5) (b6 : A6) (b7 : A7) (b8 : A8) (b9 : A9) (b10 : A10) (b11 : A11) (b12 : A12) (b13 : A13) (b14 : A14) (b15 : A15), I b1 b2 b3 b4 b5 b6 b7 b8 b9 b10 b11 b12 b13 b14 b15 → μ b1 b2 b3 b4 b5 b6 b7 b8 b9 b10 b11 b12 b13 b14 b15 < μ a1 a2 a3 a4 a5 a6 a7 a8 a9 a10 a11 a12 a13 a14 a15 → W n b1 b2 b3 b4 b5 b6 b7 b8 b9 b10 b11 b12 b13 b14 b15) → W (n + 1) a1 a2 a3 a4 a5 a6 a7 a8 a9 a10 a11 a12 a13 a14 a15) (a1 : A1) (a2 : A2) (a3 : A3) (a4 : A4) (a5 : A5) (a6 : A6) (a7 : A7) (a8 : A8) (a9 : A9) (a10 : A10) (a11 : A11) (a12 : A12) (a13 : A13) (a14 : A14) (a15 : A15) (h : I a1 a2 a3 a4 a5 a6 a7 a8 a9 a10 a11 a12 a13 a14 a15) : ∃ n, W n a1 a2 a3 a4 a5 a6 a7 a8 a9 a10 a11 a12 a13 a14 a15 :=
  loop_m (σ := A1 × A2 × A3 × A4 × A5 × A6 × A7 × A8 × A9 × A10 × A11 × A12 × A13 × A14 × A15) (fun n s => W n s.1 s.2.1 s.2.2.1 s.2.2.2.1 s.2.2.2.2.1 s.2.2.2.2.2.1 s.2.2.2.2.2.2.1 s.2.2.2.2.2.2.2.1 s.2.2.2.2.2.2.2.2.1 s.2.2.2.2.2.2.2.2.2.1 s.2.2.2.2.2.2.2.2.2.2.1 s.2.2.2.2.2.2.2.2.2.2.2.1 s.2.2.2.2.2.2.2.2.2.2.2.2.1 s.2.2.2.2.2.2.2.2.2.2.2.2.2.1 s.2.2.2.2.2.2.2.2.2.2.2.2.2.2) (fun s => I s.1 s.2.1 s.2.2.1 s.2.2.2.1 s.2.2.2.2.1 s.2.2.2.2.2.1 s.2.2.2.2.2.2.1 s.2.2.2.2.2.2.2.1 s.2.2.2.2.2.2.2.2.1 s.2.2.2.2.2.2.2.2.2.1 s.2.2.2.2.2.2.2.2.2.2.1 s.2.2.2.2.2.2.2.2.2.2.2.1 s.2.2.2.2.2.2.2.2.2.2.2.2.1 s.2.2.2.2.2.2.2.2.2.2.2.2.2.1 s.2.2.2.2.2.2.2.2.2.2.2.2.2.2) (fun s => μ s.1 s.2.1 s.2.2.1 s.2.2.2.1 s.2.2.2.2.1 s.2.2.2.2.2.1 s.2.2.2.2.2.2.1 s.2.2.2.2.2.2.2.1 s.2.2.2.2.2.2.2.2.1 s.2.2.2.2.2.2.2.2.2.1 s.2.2.2.2.2.2.2.2.2.2.1 s.2.2.2.2.2.2.2.2.2.2.2.1 s.2.2.2.2.2.2.2.2.2.2.2.2.1 s.2.2.2.2.2.2.2.2.2.2.2.2.2.1 s.2.2.2.2.2.2.2.2.2.2.2.2.2.2) (fun n s hI hk => hs n s.1 s.2.1 s.2.2.1 s.2.2.2.1 s.2.2.2.2.1 s.2.2.2.2.2.1 s.2.2.2.2.2.2.1 s.2.2.2.2.2.2.2.1 s.2.2.2.2.2.2.2.2.1 s.2.2.2.2.2.2.2.2.2.1 s.2.2.2.2.2.2.2.2.2.2.1 s.2.2.2.2.2.2.2.2.2.2.2.1 s.2.2.2.2.2.2.2.2.2.2.2.2.1 s.2.2.2.2.2.2.2.2.2.2.2.2.2.1 s.2.2.2.2.2.2.2.2.2.2.2.2.2.2 hI (fun b1 b2 b3 b4 b5 b6 b7 b8 b9 b10 b11 b12 b13 b14 b15 h9 hm => hk (b1, b2, b3, b4, b5, b6, b7, b8, b9, b10, b11, b12, b13, b14, b15) h9 hm)) (a1, a2, a3, a4, a5, a6, a7, a8, a9, a10, a11, a12, a13, a14, a15) h
theorem lp16 {A1 A2 A3 A4 A5 A6 A7 A8 A9 A10 A11 A12 A13 A14 A15 A16 : Type} (W : Nat → A1 → A2 → A3 → A4 → A5 → A6 → A7 → A8 → A9 → A10 → A11 → A12 → A13 → A14 → A15 → A16 → Prop) (I : A1 → A2 → A3 → A4 → A5 → A6 → A7 → A8 → A9 → A10 → A11 → A12 → A13 → A14 → A15 → A16 → Prop) (μ : A1 → A2 → A3 → A4 → A5 → A6 → A7 → A8 → A9 → A10 → A11 → A12 → A13 → A14 → A15 → A16 → Nat) (hs : ∀ (n : Nat) (a1 : A1) (a2 : A2) (a3 : A3) (a4 : A4) (a5 : A5) (a6 : A6) (a7 : A7) (a8 : A8) (a9 : A9) (a10 : A10) (a11 : A11) (a12 : A12) (a13 : A13) (a14 : A14) (a15 : A15) (a16 : A16), I a1 a2 a3 a4 a5 a6 a7 a8 a9 a10 a11 a12 a13 a14 a15 a16 → (∀ (b1 : A1) (b2 : A2) (b3 : A3) (b4 : A4) (b5 : A5) (b6 : A6) (b7 : A7) (b8 : A8) (b9 : A9) (b10 : A10) (b11 : A11) (b12 : A12) (b13 : A13) (b14 : A14) (b15 : A15) (b16 : A16), I b1 b2 b3 b4 b5 b6 b7 b8 b9 b10 b11 b12 b13 b14 b15 b16 → μ b1 b2 b3 b4 b5 b6 b7 b8 b9 b10 b11 b12 b13 b14 b15 b16 < μ a1 a2 a3 a4 a5 a6 a7 a8 a9 a10 a11 a12 a13 a14 a15 a16 → W n b1 b2 b3 b4 b5 b6 b7 b8 b9 b10 b11 b12 b13 b14 b15 b16) → W (n + 1) a1 a2 a3 a4 a5 a6 a7 a8 a9 a10 a11 a12 a13 a14 a15 a16) (a1 : A1) (a2 : A2) (a3 : A3) (a4 : A4) (a5 : A5) (a6 : A6) (a7 : A7) (a8 : A8) (a9 : A9) (a10 : A10) (a11 : A11) (a12 : A12) (a13 : A13) (a14 : A14) (a15 : A15) (a16 : A16) (h : I a1 a2 a3 a4 a5 a6 a7 a8 a9 a10 a11 a12 a13 a14 a15 a16) : ∃ n, W n a1 a2 a3 a4 a5 a6 a7 a8 a9 a10 a11 a12 a13 a14 a15 a16 :=
  loop_m (σ := A1 × A2 × A3 × A4 × A5 × A6 × A7 × A8 × A9 × A10 × A11 × A12 × A13 × A14 × A15 × A16) (fun n s => W n s.1 s.2.1 s.2.2.1 s.2.2.2.1 s.2.2.2.2.1 s.2.2.2.2.2.1 s.2.2.2.2.2.2.1 s.2.2.2.2.2.2.2.1 s.2.2.2.2.2.2.2.2.1 s.2.2.2.2.2.2.2.2.2.1 s.2.2.2.2.2.2.2.2.2.2.1 s.2.2.2.2.2.2.2.2.2.2.2.1 s.2.2.2.2.2.2.2.2.2.2.2.2.1 s.2.2.2.2.2.2.2.2.2.2.2.2.2.1 s.2.2.2.2.2.2.2.2.2.2.2.2.2.2.1 s.2.2.2.2.2.2.2.2.2.2.2.2.2.2.2) (fun s => I s.1 s.2.1 s.2.2.1 s.2.2.2.1 s.2.2.2.2.1 s.2.2.2.2.2.1 s.2.2.2.2.2.2.1 s.2.2.2.2.2.2.2.1 s.2.2.2.2.2.2.2.2.1 s.2.2.2.2.2.2.2.2.2.1 s.2.2.2.2.2.2.2.2.2.2.1 s.2.2.2.2.2.2.2.2.2.2.2.1 s.2.2.2.2.2.2.2.2.2.2.2.2.1 s.2.2.2.2.2.2.2.2.2.2.2.2.2.1 s.2.2.2.2.2.2.2.2.2.2.2.2.2.2.1 s.2.2.2.2.2.2.2.2.2.2.2.2.2.2.2) (fun s => μ s.1 s.2.1 s.2.2.1 s.2.2.2.1 s.2.2.2.2.1 s.2.2.2.2.2.1 s.2.2.2.2.2.2.1 s.2.2.2.2.2.2.2.1 s.2.2.2.2.2.2.2.2.1 s.2.2.2.2.2.2.2.2.2.1 s.2.2.2.2.2.2.2.2.2.2.1 s.2.2.2.2.2.2.2.2.2.2.2.1 s.2.2.2.2.2.2.2.2.2.2.2.2.1 s.2.2.2.2.2.2.2.2.2.2.2.2.2.1 s.2.2.2.2.2.2.2.2.2.2.2.2.2.2.1 s.2.2.2.2.2.2.2.2.2.2.2.2.2.2.2) (fun n s hI hk => hs n s.1 s.2.1 s.2.2.1 s.2.2.2.1 s.2.2.2.2.1 s.2.2.2.2.2.1 s.2.2.2.2.2.2.1 s.2.2.2.2.2.2.2.1 s.2.2.2.2.2.2.2.2.1 s.2.2.2.2.2.2.2.2.2.1 s.2.2.2.2.2.2.2.2.2.2.1 s.2.2.2.2.2.2.2.2.2.2.2.1 s.2.2.2.2.2.2.2.2.2.2.2.2.1 s.2.2.2.2.2.2.2.2.2.2.2.2.2.1 s.2.2.2.2.2.2.2.2.2.2.2.2.2.2.1 s.2.2.2.2.2.2.2.2.2.2.2.2.2.2.2 hI (fun b1 b2 b3 b4 b5 b6 b7 b8 b9 b10 b11 b12 b13 b14 b15 b16 h9 hm => hk (b1, b2, b3, b4, b5, b6, b7, b8, b9, b10, b11, b12, b13, b14, b15, b16) h9 hm)) (a1, a2, a3, a4, a5, a6, a7, a8, a9, a10, a11, a12, a13, a14, a15, a16) h
theorem pk_least (P : Nat → Prop) (h : ∃ k, P k) : ∃ k, P k ∧ ∀ j, j < k → ¬ P j := by
  obtain ⟨k, hk⟩ := h
  induction k using Nat.strongRecOn with
  | ind k ih =>
    by_cases e : ∃ j, j < k ∧ P j
    · obtain ⟨j, hj, pj⟩ := e
      exact ih j hj pj
    · exact ⟨k, hk, fun j hj pj => e ⟨j, hj, pj⟩⟩
theorem rp1 {ρ A1 : Type} (W : Nat → (ρ → Prop) → A1 → Prop) (ok : A1 → Prop) (μ : A1 → Nat) (val : A1 → ρ)
    (hs : ∀ (d : Nat) (post : ρ → Prop) (a1 : A1), ok a1 → post (val a1) → (∀ (post' : ρ → Prop) (b1 : A1), ok b1 → μ b1 < μ a1 → post' (val b1) → W d post' b1) → W (d + 1) post a1) :
    ∀ (d : Nat) (post : ρ → Prop) (a1 : A1), ok a1 → μ a1 < d → post (val a1) → W d post a1 := by
  intro d
  induction d with
  | zero => intro post a1 _ h; omega
  | succ d ih =>
    intro post a1 ho hm hp
    exact hs d post a1 ho hp (fun post' b1 ho' hm' hp' => ih post' b1 ho' (by omega) hp')
theorem rp2 {ρ A1 A2 : Type} (W : Nat → (ρ → Prop) → A1 → A2 → Prop) (ok : A1 → A2 → Prop) (μ : A1 → A2 → Nat) (val : A1 → A2 → ρ)
    (hs : ∀ (d : Nat) (post : ρ → Prop) (a1 : A1) (a2 : A2), ok a1 a2 → post (val a1 a2) → (∀ (post' : ρ → Prop) (b1 : A1) (b2 : A2), ok b1 b2 → μ b1 b2 < μ a1 a2 → post' (val b1 b2) → W d post' b1 b2) → W (d + 1) post a1 a2) :
    ∀ (d : Nat) (post : ρ → Prop) (a1 : A1) (a2 : A2), ok a1 a2 → μ a1 a2 < d → post (val a1 a2) → W d post a1 a2 := by
  intro d
  induction d with
  | zero => intro post a1 a2 _ h; omega
  | succ d ih =>
    intro post a1 a2 ho hm hp
    exact hs d post a1 a2 ho hp (fun post' b1 b2 ho' hm' hp' => ih post' b1 b2 ho' (by omega) hp')
theorem rp3 {ρ A1 A2 A3 : Type} (W : Nat → (ρ → Prop) → A1 → A2 → A3 → Prop) (ok : A1 → A2 → A3 → Prop) (μ : A1 → A2 → A3 → Nat) (val : A1 → A2 → A3 → ρ)
    (hs : ∀ (d : Nat) (post : ρ → Prop) (a1 : A1) (a2 : A2) (a3 : A3), ok a1 a2 a3 → post (val a1 a2 a3) → (∀ (post' : ρ → Prop) (b1 : A1) (b2 : A2) (b3 : A3), ok b1 b2 b3 → μ b1 b2 b3 < μ a1 a2 a3 → post' (val b1 b2 b3) → W d post' b1 b2 b3) → W (d + 1) post a1 a2 a3) :
    ∀ (d : Nat) (post : ρ → Prop) (a1 : A1) (a2 : A2) (a3 : A3), ok a1 a2 a3 → μ a1 a2 a3 < d → post (val a1 a2 a3) → W d post a1 a2 a3 := by
  intro d
  induction d with
  | zero => intro post a1 a2 a3 _ h; omega
  | succ d ih =>
    intro post a1 a2 a3 ho hm hp
    exact hs d post a1 a2 a3 ho hp (fun post' b1 b2 b3 ho' hm' hp' => ih post' b1 b2 b3 ho' (by omega) hp')
theorem rp4 {ρ A1 A2 A3 A4 : Type} (W : Nat → (ρ → Prop) → A1 → A2 → A3 → A4 → Prop) (ok : A1 → A2 → A3 → A4 → Prop) (μ : A1 → A2 → A3 → A4 → Nat) (val : A1 → A2 → A3 → A4 → ρ)
    (hs : ∀ (d : Nat) (post : ρ → Prop) (a1 : A1) (a2 : A2) (a3 : A3) (a4 : A4), ok a1 a2 a3 a4 → post (val a1 a2 a3 a4) → (∀ (post' : ρ → Prop) (b1 : A1) (b2 : A2) (b3 : A3) (b4 : A4), ok b1 b2 b3 b4 → μ b1 b2 b3 b4 < μ a1 a2 a3 a4 → post' (val b1 b2 b3 b4) → W d post' b1 b2 b3 b4) → W (d + 1) post a1 a2 a3 a4) :
    ∀ (d : Nat) (post : ρ → Prop) (a1 : A1) (a2 : A2) (a3 : A3) (a4 : A4), ok a1 a2 a3 a4 → μ a1 a2 a3 a4 < d → post (val a1 a2 a3 a4) → W d post a1 a2 a3 a4 := by
  intro d
  induction d with
  | zero => intro post a1 a2 a3 a4 _ h; omega
  | succ d ih =>
    intro post a1 a2 a3 a4 ho hm hp
    exact hs d post a1 a2 a3 a4 ho hp (fun post' b1 b2 b3 b4 ho' hm' hp' => ih post' b1 b2 b3 b4 ho' (by omega) hp')
theorem rp5 {ρ A1 A2 A3 A4 A5 : Type} (W : Nat → (ρ → Prop) → A1 → A2 → A3 → A4 → A5 → Prop) (ok : A1 → A2 → A3 → A4 → A5 → Prop) (μ : A1 → A2 → A3 → A4 → A5 → Nat) (val : A1 → A2 → A3 → A4 → A5 → ρ)
    (hs : ∀ (d : Nat) (post : ρ → Prop) (a1 : A1) (a2 : A2) (a3 : A3) (a4 : A4) (a5 : A5), ok a1 a2 a3 a4 a5 → post (val a1 a2 a3 a4 a5) → (∀ (post' : ρ → Prop) (b1 : A1) (b2 : A2) (b3 : A3) (b4 : A4) (b5 : A5), ok b1 b2 b3 b4 b5 → μ b1 b2 b3 b4 b5 < μ a1 a2 a3 a4 a5 → post' (val b1 b2 b3 b4 b5) → W d post' b1 b2 b3 b4 b5) → W (d + 1) post a1 a2 a3 a4 a5) :
    ∀ (d : Nat) (post : ρ → Prop) (a1 : A1) (a2 : A2) (a3 : A3) (a4 : A4) (a5 : A5), ok a1 a2 a3 a4 a5 → μ a1 a2 a3 a4 a5 < d → post (val a1 a2 a3 a4 a5) → W d post a1 a2 a3 a4 a5 := by
  intro d
  induction d with
  | zero => intro post a1 a2 a3 a4 a5 _ h; omega
  | succ d ih =>
    intro post a1 a2 a3 a4 a5 ho hm hp
    exact hs d post a1 a2 a3 a4 a5 ho hp (fun post' b1 b2 b3 b4 b5 ho' hm' hp' => ih post' b1 b2 b3 b4 b5 ho' (by omega) hp')
theorem rp6 {ρ A1 A2 A3 A4 A5 A6 : Type} (W : Nat → (ρ → Prop) → A1 → A2 → A3 → A4 → A5 → A6 → Prop) (ok : A1 → A2 → A3 → A4 → A5 → A6 → Prop) (μ : A1 → A2 → A3 → A4 → A5 → A6 → Nat) (val : A1 → A2 → A3 → A4 → A5 → A6 → ρ)
    (hs : ∀ (d : Nat) (post : ρ → Prop) (a1 : A1) (a2 : A2) (a3 : A3) (a4 : A4) (a5 : A5) (a6 : A6), ok a1 a2 a3 a4 a5 a6 → post (val a1 a2 a3 a4 a5 a6) → (∀ (post' : ρ → Prop) (b1 : A1) (b2 : A2) (b3 : A3) (b4 : A4) (b5 : A5) (b6 : A6), ok b1 b2 b3 b4 b5 b6 → μ b1 b2 b3 b4 b5 b6 < μ a1 a2 a3 a4 a5 a6 → post' (val b1 b2 b3 b4 b5 b6) → W d post' b1 b2 b3 b4 b5 b6) → W (d + 1) post a1 a2 a3 a4 a5 a6) :
    ∀ (d : Nat) (post : ρ → Prop) (a1 : A1) (a2 : A2) (a3 : A3) (a4 : A4) (a5 : A5) (a6 : A6), ok a1 a2 a3 a4 a5 a6 → μ a1 a2 a3 a4 a5 a6 < d → post (val a1 a2 a3 a4 a5 a6) → W d post a1 a2 a3 a4 a5 a6 := by
  intro d
  induction d with
  | zero => intro post a1 a2 a3 a4 a5 a6 _ h; omega
  | succ d ih =>
    intro post a1 a2 a3 a4 a5 a6 ho hm hp
    exact hs d post a1 a2 a3 a4 a5 a6 ho hp (fun post' b1 b2 b3 b4 b5 b6 ho' hm' hp' => ih post' b1 b2 b3 b4 b5 b6 ho' (by omega) hp')
theorem rec_p {σ ρ : Type} (W : Nat → (ρ → Prop) → σ → Prop) (ok : σ → Prop) (μ : σ → Nat) (val : σ → ρ)
    (hs : ∀ d s post, ok s → post (val s) → (∀ s' post', ok s' → μ s' < μ s → post' (val s') → W d post' s') → W (d + 1) post s) :
    ∀ d s post, ok s → μ s < d → post (val s) → W d post s := by
  intro d
  induction d with
  | zero => intro s post _ h; omega
  | succ d ih =>
    intro s post ho hm hp
    exact hs d s post ho hp (fun s' post' ho' hm' hp' => ih s' post' ho' (by omega) hp')
theorem rec_q {σ ρ : Type} (W : Nat → (ρ → Prop) → σ → Prop) (ok : σ → Prop) (μ : σ → Nat) (Q : σ → ρ → Prop)
    (hs : ∀ d s post, ok s → (∀ r, Q s r → post r) → (∀ s' post', ok s' → μ s' < μ s → (∀ r, Q s' r → post' r) → W d post' s') → W (d + 1) post s) :
    ∀ d s post, ok s → μ s < d → (∀ r, Q s r → post r) → W d post s := by
  intro d
  induction d with
  | zero => intro s post _ h; omega
  | succ d ih =>
    intro s post ho hm hp
    exact hs d s post ho hp (fun s' post' ho' hm' hp' => ih s' post' ho' (by omega) hp')
def bx_sum (f : Nat → Int32) : Nat → Int32
  | 0 => 0
  | n + 1 => bx_sum f n + f n
theorem ek_u {A : Prop} {B : Nat → Prop} {k N : Nat} (hk : k < N) (h : B k) : (some k = none → A) ∧ (∀ y : Nat, some k = some y → (y < N ∧ B y)) :=
  ⟨fun z => absurd z (Option.some_ne_none k), fun _ e => (by cases e; exact ⟨hk, h⟩)⟩
theorem ek_nu {A : Prop} {B : Nat → Prop} (h : A) : ((none : Option Nat) = none → A) ∧ (∀ y : Nat, (none : Option Nat) = some y → B y) :=
  ⟨fun _ => h, fun _ e => (by cases e)⟩
theorem ek_if {c d A B : Prop} (e : c ↔ d) (f : d → A) (g : ¬ d → B) : (c → A) ∧ (¬ c → B) :=
  ⟨fun z => f (e.mp z), fun z => g (fun y => z (e.mpr y))⟩
theorem ek_v {α : Sort _} {P : α → Prop} {a b : α} (e : a = b) (h : P b) : P a := e ▸ h
theorem co_some {x : Option Nat} {A : Prop} {B : Nat → Prop} (i : Nat) (h : B i) (hx : x = some i := by rfl) : (x = none → A) ∧ (∀ y : Nat, x = some y → B y) := by
  subst hx
  exact ⟨fun e => (nomatch e), fun y e => Option.some.inj e ▸ h⟩
theorem co_none {x : Option Nat} {A : Prop} {B : Nat → Prop} (h : A) (hx : x = none := by rfl) : (x = none → A) ∧ (∀ y : Nat, x = some y → B y) := by
  subst hx
  exact ⟨fun _ => h, fun y e => (nomatch e)⟩
theorem co_any {x : Option Nat} {A : Prop} {B : Nat → Prop} (hn : x = none → A) (hs : ∀ i : Nat, x = some i → B i) : (x = none → A) ∧ (∀ y : Nat, x = some y → B y) := ⟨hn, hs⟩
theorem co_2 {P : Nat → Prop} (h0 : P 0) (h1 : P 1) {i : Nat} (hi : i < 2) : P i :=
  match i, hi with
  | 0, _ => h0
  | 1, _ => h1
theorem co_3 {P : Nat → Prop} (h0 : P 0) (h1 : P 1) (h2 : P 2) {i : Nat} (hi : i < 3) : P i :=
  match i, hi with
  | 0, _ => h0
  | 1, _ => h1
  | 2, _ => h2
theorem co_4 {P : Nat → Prop} (h0 : P 0) (h1 : P 1) (h2 : P 2) (h3 : P 3) {i : Nat} (hi : i < 4) : P i :=
  match i, hi with
  | 0, _ => h0
  | 1, _ => h1
  | 2, _ => h2
  | 3, _ => h3
theorem co_dec {N : Nat} {P : Nat → Prop} [DecidablePred P] (h : (List.range N).all (fun i => decide (P i)) = true) {i : Nat} (hi : i < N) : P i := by
  have := List.all_eq_true.mp h i (List.mem_range.mpr hi)
  exact of_decide_eq_true this
theorem co_tab {α : Type} {l : List α} {d : α} {P : α → Prop} (h : ∀ a, a ∈ l → P a) {i : Nat} (hi : i < l.length) : P (l.getD i d) := by
  rw [List.getD_eq_getElem?_getD, List.getElem?_eq_getElem hi]
  exact h _ (List.getElem_mem hi)
theorem pk_mu {x : Int32} {L : Nat} (h0 : ¬ x < 0) (h : ¬ nI L ≤ x) (hL : L < 2 ^ 31) : ∃ j : Nat, j < L ∧ x = nI j ∧ x + 1 = nI (j + 1) ∧ x.toNatClampNeg = j ∧ L - (x + 1).toNatClampNeg < L - x.toNatClampNeg := by
  obtain ⟨j, hj, rfl⟩ := nI_of h0
  have hl : j < L := Nat.not_le.mp fun q => h (nI_le q hj)
  refine ⟨j, hl, rfl, nI_1 j, nI_clamp hj, ?_⟩
  rw [nI_1, nI_clamp (by omega), nI_clamp hj]
  omega
theorem op_s {α : Type} {r : Option α} {A : Prop} {B : α → Prop} {y : α} (h : r = some y) (b : B y) : (r = none → A) ∧ ∀ z, r = some z → B z :=
  ⟨fun e => (by rw [h] at e; cases e), fun z e => (by rw [h] at e; cases e; exact b)⟩
def l_holds {α : Type} (a : Nat → Option Nat) (LP : List Nat) (p : Nat → α) (c : Nat) (b : Nat → α) : Prop :=
  ∀ j, j < c → ∃ y, a j = some y ∧ y ∈ LP ∧ p y = b j
theorem l_holds_0 {α : Type} {a : Nat → Option Nat} {LP : List Nat} {p b : Nat → α} : l_holds a LP p 0 b := fun j h => absurd h (Nat.not_lt_zero j)
theorem l_in_new (LP : List Nat) (q : Nat) : q ∈ LP ++ [q] := List.mem_append.mpr (Or.inr (List.mem_singleton.mpr rfl))
def l_sum (b : Nat → Int32) : Nat → Int32
  | 0 => 0
  | k + 1 => l_sum b k + b k
theorem sb_shr0 (x : Int32) : x >>> ((0 : Int32) &&& 31) = x := by
  rw [show ((0 : Int32) &&& 31) = 0 by decide]
  simp
theorem sb_shl0 (x : Int32) : x <<< ((0 : Int32) &&& 31) = x := by
  rw [show ((0 : Int32) &&& 31) = 0 by decide]
  simp
theorem sb_cl0 : (0 : Int32).toNatClampNeg = 0 := by decide
theorem sb_m1 {p : Nat} (h : 0 < p) : nI p + (-1) = nI (p - 1) := by
  obtain ⟨q, rfl⟩ : ∃ q, p = q + 1 := ⟨p - 1, by omega⟩
  exact pk_m1 q
def sb_b (c : Nat) : Int32 := (nI c).toInt8.toInt32
theorem sb_byte : ∀ c, c < 256 → sb_b c &&& 255 = nI c ∧ ((nI c).toUInt32 % 65536).toInt32 = nI c ∧ nI c ≤ 255 := by decide +kernel
def sb_Fit (a : Nat → Int32) : Prop := ∀ j, fits .byte (.int (a j)) = true
def sb_Lat (t : Nat → Nat) (n : Nat) (a : Nat → Int32) : Prop := ∀ j, j < n → t j < 256 ∧ a j = sb_b (t j)
theorem sb_fitB (c : Nat) : fits .byte (.int (sb_b c)) = true := pk_fb _
theorem sb_fit0 : sb_Fit (fun _ => 0) := fun _ => by
  show fits .byte (.int 0) = true
  decide
theorem sb_fitU {a : Nat → Int32} {k : Nat} {x : Int32} (h : sb_Fit a) (hx : fits .byte (.int x) = true) : sb_Fit (upd a k x) := by
  intro j
  by_cases e : j = k
  · subst e
    rw [pk_us]
    exact hx
  · rw [pk_un e]
    exact h j
def sb_cat (t : Nat → Nat) (n : Nat) (s : Nat → Nat) : Nat → Nat := fun j => if j < n then t j else s (j - n)
theorem sb_cat_lo {t s : Nat → Nat} {n j : Nat} (h : j < n) : sb_cat t n s j = t j := if_pos h
theorem sb_cat_hi {t s : Nat → Nat} {n j : Nat} : sb_cat t n s (n + j) = s j := by
  show (if n + j < n then t (n + j) else s (n + j - n)) = s j
  rw [if_neg (by omega), Nat.add_sub_cancel_left]
theorem sb_latPut {t s : Nat → Nat} {n w : Nat} {a a' : Nat → Int32} (h : sb_Lat t n a) (hk : ∀ j, j < n → a' j = a j) (hs : ∀ i, i < w → s i < 256 ∧ a' (n + i) = sb_b (s i)) : sb_Lat (sb_cat t n s) (n + w) a' := by
  intro j hj
  by_cases e : j < n
  · rw [sb_cat_lo e, hk j e]
    exact h j e
  · obtain ⟨i, rfl⟩ : ∃ i, j = n + i := ⟨j - n, by omega⟩
    rw [sb_cat_hi]
    exact hs i (by omega)
theorem sb_latKeep {t : Nat → Nat} {n : Nat} {a a' : Nat → Int32} (h : sb_Lat t n a) (hk : ∀ j, j < n → a' j = a j) : sb_Lat t n a' := fun j hj => by
  rw [hk j hj]
  exact h j hj
def sb_cap (q m : Nat) : Nat := if q ≤ m then m else if 2 * m + 2 < q then q else 2 * m + 2
def sb_Room (q m mc ms : Nat) : Prop := q ≤ m ∨ (1 ≤ mc ∧ sb_cap q m ≤ ms ∧ sb_cap q m ≤ 65536)
theorem sb_cap_ge (q m : Nat) : q ≤ sb_cap q m := by
  unfold sb_cap
  split
  · omega
  · split <;> omega
theorem sb_cap_gem (q m : Nat) : m ≤ sb_cap q m := by
  unfold sb_cap
  split
  · omega
  · split <;> omega
theorem sb_cap_le {q m mc ms : Nat} (hm : m ≤ 65536) (hr : sb_Room q m mc ms) : sb_cap q m ≤ 65536 := by
  rcases hr with h | h
  · rw [sb_cap, if_pos h]
    exact hm
  · exact h.2.2
theorem sb_at {P : Int32 → Prop} {x y : Int32} (e : x = y) (h : P y) : P x := e ▸ h
def sb_dg (w : Nat) : Nat := if w < 10 then 1 else if w < 100 then 2 else if w < 1000 then 3 else if w < 10000 then 4 else if w < 100000 then 5 else if w < 1000000 then 6 else if w < 10000000 then 7 else if w < 100000000 then 8 else if w < 1000000000 then 9 else 10
def sb_dec (v : Nat) : Nat → Nat := fun i => 48 + v / 10 ^ (sb_dg v - 1 - i) % 10
theorem sb_dg_in (w : Nat) : 1 ≤ sb_dg w ∧ sb_dg w ≤ 10 := by
  unfold sb_dg
  constructor <;> (repeat' split) <;> omega
theorem sb_dg100 {w : Nat} (h : 100 ≤ w) (hw : w < 2 ^ 31) : sb_dg w = sb_dg (w / 100) + 2 := by
  rw [sb_dg, sb_dg, if_neg (show ¬ w < 10 by omega), if_neg (show ¬ w < 100 by omega)]
  by_cases h3 : w < 1000
  · rw [if_pos h3, if_pos (show w / 100 < 10 by omega)]
  rw [if_neg h3, if_neg (show ¬ w / 100 < 10 by omega)]
  by_cases h4 : w < 10000
  · rw [if_pos h4, if_pos (show w / 100 < 100 by omega)]
  rw [if_neg h4, if_neg (show ¬ w / 100 < 100 by omega)]
  by_cases h5 : w < 100000
  · rw [if_pos h5, if_pos (show w / 100 < 1000 by omega)]
  rw [if_neg h5, if_neg (show ¬ w / 100 < 1000 by omega)]
  by_cases h6 : w < 1000000
  · rw [if_pos h6, if_pos (show w / 100 < 10000 by omega)]
  rw [if_neg h6, if_neg (show ¬ w / 100 < 10000 by omega)]
  by_cases h7 : w < 10000000
  · rw [if_pos h7, if_pos (show w / 100 < 100000 by omega)]
  rw [if_neg h7, if_neg (show ¬ w / 100 < 100000 by omega)]
  by_cases h8 : w < 100000000
  · rw [if_pos h8, if_pos (show w / 100 < 1000000 by omega)]
  rw [if_neg h8, if_neg (show ¬ w / 100 < 1000000 by omega)]
  by_cases h9 : w < 1000000000
  · rw [if_pos h9, if_pos (show w / 100 < 10000000 by omega)]
  rw [if_neg h9, if_neg (show ¬ w / 100 < 10000000 by omega)]
  rw [if_pos (show w / 100 < 100000000 by omega)]
theorem sb_negT {w : Nat} (h : w < 2 ^ 31) : (-nI w).toInt = -(w : Int) := by
  rw [Int32.toInt_neg, nI_toInt h]
  exact Int.bmod_eq_of_le (by omega) (by omega)
theorem sb_nle {a b : Nat} (ha : a < 2 ^ 31) (hb : b < 2 ^ 31) : -nI a ≤ -nI b ↔ b ≤ a := by
  rw [Int32.le_iff_toInt_le, sb_negT ha, sb_negT hb]
  omega
theorem sb_nlt {a b : Nat} (ha : a < 2 ^ 31) (hb : b < 2 ^ 31) : -nI a < -nI b ↔ b < a := by
  rw [Int32.lt_iff_toInt_lt, sb_negT ha, sb_negT hb]
  omega
theorem sb_cmp {A B : Prop} {x : Int32} (v c : Nat) (f : c ≤ v → A) (g : v < c → B) (hv : v < 2 ^ 31) (hx : x = -nI c := by rfl) (hc : c < 2 ^ 31 := by omega) : (-nI v ≤ x → A) ∧ (¬ -nI v ≤ x → B) := by
  subst hx
  rw [sb_nle hv hc]
  exact ⟨f, fun z => g (by omega)⟩
theorem sb_ndiv {w : Nat} (hw : w < 2 ^ 31) : (-nI w) / 100 = -nI (w / 100) := by
  apply Int32.toInt_inj.mp
  have h100 : (100 : Int32).toInt = 100 := by decide
  rw [Int32.toInt_div, sb_negT hw, h100, sb_negT (by omega), Int.neg_tdiv, Int.tdiv_eq_ediv_of_nonneg (by omega), Int.bmod_eq_of_le (by omega) (by omega)]
  omega
theorem sb_nrem {w : Nat} (hw : w < 2 ^ 31) : (-nI (w / 100)) * 100 - (-nI w) = nI (w % 100) := by
  have h := pk_rem (a := w) (d := 100) hw (by decide) (by decide)
  rw [pk_div hw (by decide) (by decide)] at h
  rw [← h]
  show (-nI (w / 100)) * nI 100 - (-nI w) = nI w - nI (w / 100) * nI 100
  rw [Int32.neg_mul, Int32.sub_neg, Int32.add_comm, ← Int32.sub_eq_add_neg]
end
section
/-! numbers -/
theorem pv_s_l : ∀ n, n < 32 → ((nI n &&& 31).toBitVec.smod 32).toNat = n := by decide +kernel
theorem pv_vb0 : vp_nar .boolean 0 = 0 := by decide
theorem pv_vb1 : vp_nar .boolean 1 = 1 := by decide
theorem pv_uu {f : Nat → Int32} {k : Nat} {x y : Int32} : upd (upd f k x) k y = upd f k y := by
  funext j
  show (if j = k then y else (if j = k then x else f j)) = (if j = k then y else f j)
  by_cases h : j = k
  · rw [if_pos h, if_pos h]
  · rw [if_neg h, if_neg h, if_neg h]
theorem pv_us (f : Nat → Int32) (k : Nat) : upd f k (f k) = f := by
  funext j
  show (if j = k then f k else f j) = f j
  by_cases h : j = k
  · rw [if_pos h, h]
  · rw [if_neg h]
theorem pv_2m (a : Nat) : 2 * nI a = nI (2 * a) := pk_mul 2 a
theorem pv_4m (a : Nat) : 4 * nI a = nI (4 * a) := pk_mul 4 a
theorem pv_10m (a : Nat) : 10 * nI a = nI (10 * a) := pk_mul 10 a
theorem pv_16m (a : Nat) : 16 * nI a = nI (16 * a) := pk_mul 16 a
theorem pv_25m (a : Nat) : 25 * nI a = nI (25 * a) := pk_mul 25 a
theorem pv_64m (a : Nat) : 64 * nI a = nI (64 * a) := pk_mul 64 a
theorem pv_4096m (a : Nat) : 4096 * nI a = nI (4096 * a) := pk_mul 4096 a
theorem pv_m4 (a : Nat) : nI a * 4 = nI (a * 4) := pk_mul a 4
theorem pv_m8 (a : Nat) : nI a * 8 = nI (a * 8) := pk_mul a 8
theorem pv_m16 (a : Nat) : nI a * 16 = nI (a * 16) := pk_mul a 16
theorem pv_m64 (a : Nat) : nI a * 64 = nI (a * 64) := pk_mul a 64
theorem pv_m128 (a : Nat) : nI a * 128 = nI (a * 128) := pk_mul a 128
theorem pv_384 (a : Nat) : 384 + nI a = nI (384 + a) := nI_add 384 a
theorem pv_8a (a : Nat) : 8 + nI a = nI (8 + a) := nI_add 8 a
theorem pv_128a (a : Nat) : 128 + nI a = nI (128 + a) := nI_add 128 a
theorem pv_0a (a : Nat) : 0 + nI a = nI a := Int32.zero_add _
theorem pv_a4 (a : Nat) : nI a + 4 = nI (a + 4) := nI_add a 4
theorem pv_s1 {a : Nat} (h : 1 ≤ a) : nI a - 1 = nI (a - 1) := pk_sub h
theorem pv_s16 {a : Nat} (h : 16 ≤ a) : nI a - 16 = nI (a - 16) := pk_sub h
theorem pv_and3 {i : Nat} (h : i < 2 ^ 32) : nI i &&& 3 = nI (i % 4) := pk_andN h 2 (by decide)
theorem pv_and15 {i : Nat} (h : i < 2 ^ 32) : nI i &&& 15 = nI (i % 16) := pk_andN h 4 (by decide)
theorem pv_and1 {i : Nat} (h : i < 2 ^ 32) : nI i &&& 1 = nI (i % 2) := pk_andN h 1 (by decide)
theorem pv_and63 {i : Nat} (h : i < 2 ^ 32) : nI i &&& 63 = nI (i % 64) := pk_andN h 6 (by decide)
theorem pv_and64k {i : Nat} (h : i < 2 ^ 32) : nI i &&& 65535 = nI (i % 65536) := pk_andN h 16 (by decide)
theorem pv_shr1 {i : Nat} (h : i < 2 ^ 31) : nI i >>> ((1 : Int32) &&& 31) = nI (i / 2) := pk_shrN h _ 1 (by decide)
theorem pv_shr2 {i : Nat} (h : i < 2 ^ 31) : nI i >>> ((2 : Int32) &&& 31) = nI (i / 4) := pk_shrN h _ 2 (by decide)
theorem pv_shr4 {i : Nat} (h : i < 2 ^ 31) : nI i >>> ((4 : Int32) &&& 31) = nI (i / 16) := pk_shrN h _ 4 (by decide)
theorem pv_shr6 {i : Nat} (h : i < 2 ^ 31) : nI i >>> ((6 : Int32) &&& 31) = nI (i / 64) := pk_shrN h _ 6 (by decide)
theorem pv_shr7 {i : Nat} (h : i < 2 ^ 31) : nI i >>> ((7 : Int32) &&& 31) = nI (i / 128) := pk_shrN h _ 7 (by decide)
theorem pv_div4 {a : Nat} (h : a < 2 ^ 31) : nI a / 4 = nI (a / 4) := pk_div h (by decide) (by decide)
theorem pv_div7 {a : Nat} (h : a < 2 ^ 31) : nI a / 7 = nI (a / 7) := pk_div h (by decide) (by decide)
theorem pv_rem2 {a : Nat} (h : a < 2 ^ 31) : nI a - nI a / 2 * 2 = nI (a % 2) := pk_rem h (by decide) (by decide)
theorem pv_rem4 {a : Nat} (h : a < 2 ^ 31) : nI a - nI a / 4 * 4 = nI (a % 4) := pk_rem h (by decide) (by decide)
theorem pv_rem7 {a : Nat} (h : a < 2 ^ 31) : nI a - nI a / 7 * 7 = nI (a % 7) := pk_rem h (by decide) (by decide)
theorem pv_rem16 {a : Nat} (h : a < 2 ^ 31) : nI a - nI a / 16 * 16 = nI (a % 16) := pk_rem h (by decide) (by decide)
theorem pv_4z : ¬ (4 : Int32) = 0 := by decide
theorem pv_7z : ¬ (7 : Int32) = 0 := by decide
theorem pv_2z : ¬ (2 : Int32) = 0 := by decide
theorem pv_3z : ¬ (3 : Int32) = 0 := by decide
theorem pv_16z : ¬ (16 : Int32) = 0 := by decide
theorem pv_add {x y : Int32} (h1 : -2147483648 ≤ x.toInt + y.toInt) (h2 : x.toInt + y.toInt ≤ 2147483647) : (x + y).toInt = x.toInt + y.toInt := by
  rw [Int32.toInt_add]
  exact Int.bmod_eq_of_le (by omega) (by omega)
theorem pv_sub {x y : Int32} (h1 : -2147483648 ≤ x.toInt - y.toInt) (h2 : x.toInt - y.toInt ≤ 2147483647) : (x - y).toInt = x.toInt - y.toInt := by
  rw [Int32.toInt_sub]
  exact Int.bmod_eq_of_le (by omega) (by omega)
theorem pv_neg {x : Int32} (h1 : -2147483647 ≤ x.toInt) : (-x).toInt = -x.toInt := by
  have h2 := x.toInt_lt
  rw [Int32.toInt_neg]
  exact Int.bmod_eq_of_le (by omega) (by omega)
theorem pv_mul {x y : Int32} (h1 : -2147483648 ≤ x.toInt * y.toInt) (h2 : x.toInt * y.toInt ≤ 2147483647) : (x * y).toInt = x.toInt * y.toInt := by
  rw [Int32.toInt_mul]
  exact Int.bmod_eq_of_le (by omega) (by omega)
def pv_bd (n : Nat) (x : Int32) : Prop := -(n : Int) ≤ x.toInt ∧ x.toInt ≤ (n : Int)
def pv_by (x : Int32) : Prop := 0 ≤ x.toInt ∧ x.toInt ≤ 255
theorem pv_bd_le {a b : Nat} {x : Int32} (h : pv_bd a x) (hab : a ≤ b) : pv_bd b x := by
  unfold pv_bd at *
  omega
theorem pv_bd_add {a b n : Nat} {x y : Int32} (hx : pv_bd a x) (hy : pv_bd b y) (h : a + b ≤ n) (hn : n < 2147483648) : pv_bd n (x + y) := by
  unfold pv_bd at *
  rw [pv_add (by omega) (by omega)]
  omega
theorem pv_bd_sub {a b n : Nat} {x y : Int32} (hx : pv_bd a x) (hy : pv_bd b y) (h : a + b ≤ n) (hn : n < 2147483648) : pv_bd n (x - y) := by
  unfold pv_bd at *
  rw [pv_sub (by omega) (by omega)]
  omega
theorem pv_bd_2 {a n : Nat} {x : Int32} (hx : pv_bd a x) (h : 2 * a ≤ n) (hn : n < 2147483648) : pv_bd n (2 * x) := by
  unfold pv_bd at *
  have e : (2 : Int32).toInt = 2 := by decide
  rw [pv_mul (by rw [e]; omega) (by rw [e]; omega), e]
  omega
theorem pv_bd_neg {a : Nat} {x : Int32} (hx : pv_bd a x) (hn : a < 2147483648) : pv_bd a (-x) := by
  unfold pv_bd at *
  rw [pv_neg (by omega)]
  omega
theorem pv_bd_0 (n : Nat) : pv_bd n 0 := by
  unfold pv_bd
  have e : (0 : Int32).toInt = 0 := by decide
  rw [e]
  omega
theorem pv_by_nI {n : Nat} (h : n ≤ 255) : pv_by (nI n) := by
  unfold pv_by
  rw [nI_toInt (by omega)]
  omega
theorem pv_by_sub {x y : Int32} (hx : pv_by x) (hy : pv_by y) : pv_bd 255 (x - y) := by
  unfold pv_by pv_bd at *
  rw [pv_sub (by omega) (by omega)]
  omega
theorem pv_by_nat {x : Int32} (hx : pv_by x) : ∃ n : Nat, n ≤ 255 ∧ x = nI n := by
  unfold pv_by at hx
  obtain ⟨n, hn, rfl⟩ := nI_of (x := x) (by rw [Int32.lt_iff_toInt_lt, show (0 : Int32).toInt = 0 from by decide]; omega)
  rw [nI_toInt hn] at hx
  exact ⟨n, by omega, rfl⟩
/-! clamp, abs -/
def pv_cl (x lo hi : Int32) : Int32 := if lo ≤ x then (if x ≤ hi then x else hi) else lo
def pv_ab (x : Int32) : Int32 := if 0 ≤ x then x else -x
def pv_cn (x : Int32) (m : Nat) : Nat := (pv_cl x 0 (nI m)).toNatClampNeg
theorem pv_cn_ok (x : Int32) {m : Nat} (hm : m < 2 ^ 31) : pv_cl x 0 (nI m) = nI (pv_cn x m) ∧ pv_cn x m ≤ m := by
  unfold pv_cn pv_cl
  by_cases h : (0 : Int32) ≤ x
  · rw [if_pos h]
    by_cases h2 : x ≤ nI m
    · rw [if_pos h2]
      obtain ⟨j, hj, rfl⟩ := nI_of (x := x) (Int32.not_lt.mpr h)
      rw [nI_clamp hj]
      exact ⟨rfl, (nI_leI hj hm).mp h2⟩
    · rw [if_neg h2, nI_clamp hm]
      exact ⟨rfl, Nat.le_refl _⟩
  · rw [if_neg h, sb_cl0]
    exact ⟨nI_0.symm, Nat.zero_le _⟩
theorem pv_cl_by (x : Int32) : pv_by (pv_cl x 0 255) := by
  have h := pv_cn_ok x (m := 255) (by decide)
  have e : pv_cl x 0 255 = nI (pv_cn x 255) := h.1
  rw [e]
  exact pv_by_nI h.2
theorem pv_cl_id {x : Int32} (h : pv_by x) : pv_cl x 0 255 = x := by
  unfold pv_by at h
  unfold pv_cl
  have e0 : (0 : Int32).toInt = 0 := by decide
  have e1 : (255 : Int32).toInt = 255 := by decide
  rw [if_pos (by rw [Int32.le_iff_toInt_le, e0]; omega), if_pos (by rw [Int32.le_iff_toInt_le, e1]; omega)]
theorem pv_ab_i {x : Int32} (h : -2147483647 ≤ x.toInt) : (pv_ab x).toInt = if 0 ≤ x.toInt then x.toInt else -x.toInt := by
  unfold pv_ab
  have e0 : (0 : Int32).toInt = 0 := by decide
  by_cases h2 : (0 : Int32) ≤ x
  · have h3 := h2
    rw [Int32.le_iff_toInt_le, e0] at h3
    rw [if_pos h2, if_pos h3]
  · have h3 := h2
    rw [Int32.le_iff_toInt_le, e0] at h3
    rw [if_neg h2, if_neg h3, pv_neg h]
theorem pv_ab_bd {n : Nat} {x : Int32} (h : pv_bd n x) (hn : n < 2147483648) : 0 ≤ (pv_ab x).toInt ∧ (pv_ab x).toInt ≤ n := by
  unfold pv_bd at h
  rw [pv_ab_i (by omega)]
  split <;> omega
/-! pictures: a place is 16 * y + x; block (c, r), its sample i -/
def pv_at (c r i : Nat) : Nat := 64 * r + 4 * c + 16 * (i / 4) + i % 4
def pv_is (C R p : Nat) : Prop := p % 16 < 4 * C ∧ p < 64 * R
def pv_bk (p : Nat) : Nat := 4 * (p / 64) + p % 16 / 4
def pv_top (N : Nat → Int32) (c r k : Nat) : Int32 := if 0 < r then N (64 * r + 4 * c - 16 + k) else 0
def pv_lef (N : Nat → Int32) (c r k : Nat) : Int32 := if 0 < c then N (64 * r + 4 * c - 1 + 16 * k) else 0
def pv_fs (N : Nat → Int32) (c r : Nat) : Nat → Int32
  | 0 => 0
  | k + 1 => pv_fs N c r k + (pv_top N c r k + pv_lef N c r k)
def pv_fl (N : Nat → Int32) (c r : Nat) : Int32 :=
  if 0 < r then (if 0 < c then (pv_fs N c r 4 + 4) >>> ((3 : Int32) &&& 31) else (pv_fs N c r 4 + 2) >>> ((2 : Int32) &&& 31))
  else if 0 < c then (pv_fs N c r 4 + 2) >>> ((2 : Int32) &&& 31) else 128
def pv_rf (P : Nat → Int32) (C R : Nat) (x y : Int32) : Int32 := P (16 * pv_cn y (4 * R - 1) + pv_cn x (4 * C - 1))
def pv_pr (N P : Nat → Int32) (C R m c r : Nat) (dx dy : Int32) (i : Nat) : Int32 :=
  if 4 ≤ m then pv_rf P C R (nI (4 * c + i % 4) + dx) (nI (4 * r + i / 4) + dy)
  else if m = 2 ∧ 0 < r then N (64 * r + 4 * c - 16 + i % 4)
  else if m = 3 ∧ 0 < c then N (64 * r + 4 * c - 1 + 16 * (i / 4))
  else pv_fl N c r
def pv_sd (S pr : Nat → Int32) (c r : Nat) : Nat → Int32
  | 0 => 0
  | k + 1 => pv_sd S pr c r k + pv_ab (S (pv_at c r k) - pr k)
def pv_ws (S pr : Nat → Int32) (c r : Nat) : Nat → Int32
  | 0 => 0
  | k + 1 => if pv_ab (S (pv_at c r k) - pr k) ≤ pv_ws S pr c r k then pv_ws S pr c r k else pv_ab (S (pv_at c r k) - pr k)
theorem pv_sd_congr {S S' pr pr' : Nat → Int32} {c r : Nat} : ∀ k : Nat, (∀ i, i < k → S (pv_at c r i) = S' (pv_at c r i) ∧ pr i = pr' i) → pv_sd S pr c r k = pv_sd S' pr' c r k ∧ pv_ws S pr c r k = pv_ws S' pr' c r k
  | 0, _ => ⟨rfl, rfl⟩
  | k + 1, h => by
    have a := pv_sd_congr k (fun i hi => h i (by omega))
    have b := h k (by omega)
    simp only [pv_sd, pv_ws, a.1, a.2, b.1, b.2, and_self]
/-! predicted vectors -/
def pv_lf (V : Nat → Int32) (c r : Nat) : Int32 := if 0 < c then V (4 * r + (c - 1)) else 0
def pv_up (V : Nat → Int32) (c r : Nat) : Int32 := if 0 < r then V (4 * (r - 1) + c) else 0
def pv_th (V : Nat → Int32) (C c r : Nat) : Int32 :=
  if c + 1 < C then (if 0 < r then V (4 * (r - 1) + (c + 1)) else 0)
  else if 0 < c then (if 0 < r then V (4 * (r - 1) + (c - 1)) else 0) else 0
def pv_m3 (a b c : Int32) : Int32 := if b ≤ a then pv_cl c b a else pv_cl c a b
def pv_gs (V : Nat → Int32) (C c r : Nat) : Int32 := if r = 0 then pv_lf V c r else pv_m3 (pv_lf V c r) (pv_up V c r) (pv_th V C c r)
/-! the choice: (cost, length, mode, dx, dy) -/
def pv_of (t s : Int32) (m : Nat) (dx dy : Int32) (st : Int32 × Int32 × Int32 × Int32 × Int32) : Int32 × Int32 × Int32 × Int32 × Int32 :=
  if st.1 < t then st else if t = st.1 then (if m = 4 then (if s < st.2.1 then (t, s, nI m, dx, dy) else st) else st) else (t, s, nI m, dx, dy)
def pv_o1 (T : Nat → Int32 → Int32 → Int32) (m : Nat) (d : Int32 × Int32) (st : Int32 × Int32 × Int32 × Int32 × Int32) : Int32 × Int32 × Int32 × Int32 × Int32 :=
  pv_of (T m d.1 d.2) (pv_ab d.1 + pv_ab d.2) m d.1 d.2 st
def pv_row (g j n : Nat) : List (Int32 × Int32) := (List.range n).map (fun i => (nI i - nI g, nI j - nI g))
def pv_ls (g n : Nat) : List (Int32 × Int32) := (List.range n).flatMap (fun j => pv_row g j (2 * g + 1))
def pv_sm (T : Nat → Int32 → Int32 → Int32) (l : List (Int32 × Int32)) (st : Int32 × Int32 × Int32 × Int32 × Int32) : Int32 × Int32 × Int32 × Int32 × Int32 :=
  l.foldl (fun st d => pv_o1 T 4 d st) st
def pv_i2 (T : Nat → Int32 → Int32 → Int32) (r : Nat) (st : Int32 × Int32 × Int32 × Int32 × Int32) : Int32 × Int32 × Int32 × Int32 × Int32 :=
  if 0 < r then pv_o1 T 2 (0, 0) st else st
def pv_i3 (T : Nat → Int32 → Int32 → Int32) (c : Nat) (st : Int32 × Int32 × Int32 × Int32 × Int32) : Int32 × Int32 × Int32 × Int32 × Int32 :=
  if 0 < c then pv_o1 T 3 (0, 0) st else st
def pv_in (T : Nat → Int32 → Int32 → Int32) (c r : Nat) (st : Int32 × Int32 × Int32 × Int32 × Int32) : Int32 × Int32 × Int32 × Int32 × Int32 :=
  pv_i3 T c (pv_i2 T r (pv_o1 T 1 (0, 0) st))
/-! transform -/
def pv_fw (a b c d : Int32) : Nat → Int32
  | 0 => (a + d) + (b + c)
  | 1 => 2 * (a - d) + (b - c)
  | 2 => (a + d) - (b + c)
  | _ => (a - d) - 2 * (b - c)
def pv_iv (a b c d : Int32) : Nat → Int32
  | 0 => (a + c) + (2 * b + d)
  | 1 => (a - c) + (b - 2 * d)
  | 2 => (a - c) - (b - 2 * d)
  | _ => (a + c) - (2 * b + d)
def pv_fr (f : Nat → Int32) (i : Nat) : Int32 := pv_fw (f (4 * (i / 4))) (f (4 * (i / 4) + 1)) (f (4 * (i / 4) + 2)) (f (4 * (i / 4) + 3)) (i % 4)
def pv_fc (f : Nat → Int32) (i : Nat) : Int32 := pv_fw (f (i % 4)) (f (i % 4 + 4)) (f (i % 4 + 8)) (f (i % 4 + 12)) (i / 4)
def pv_ir (f : Nat → Int32) (i : Nat) : Int32 := pv_iv (f (4 * (i / 4))) (f (4 * (i / 4) + 1)) (f (4 * (i / 4) + 2)) (f (4 * (i / 4) + 3)) (i % 4)
def pv_ic (f : Nat → Int32) (i : Nat) : Int32 := pv_iv (f (i % 4)) (f (i % 4 + 4)) (f (i % 4 + 8)) (f (i % 4 + 12)) (i / 4)
def pv_dv (i : Nat) (q : Int32) : Int32 := if i % 2 + i / 4 % 2 = 0 then 4 * q else if i % 2 + i / 4 % 2 = 1 then 10 * q else 25 * q
def pv_lv (a d : Int32) : Int32 := if 0 ≤ a then (pv_ab a + d / 3) / d else -((pv_ab a + d / 3) / d)
def pv_ms (q : Nat) (e : Nat → Int32) (i : Nat) : Int32 := if q = 0 then e i else pv_lv (pv_fc (pv_fr e) i) (pv_dv i (nI q))
def pv_rs (q : Nat) (f : Nat → Int32) (i : Nat) : Int32 := if q = 0 then f i else (pv_ir (pv_ic (fun j => f j * nI q)) i + 2) >>> ((2 : Int32) &&& 31)
def pv_rc (q : Nat) (pr f : Nat → Int32) (i : Nat) : Int32 := pv_cl (pr i + pv_rs q f i) 0 255
end
section
/-! X: the small methods -/
def pv_ins (C R : Nat) (x y : Int32) : Prop := ∃ a b : Nat, a < 4 * C ∧ b < 4 * R ∧ x = nI a ∧ y = nI b
def pv_hb (C R : Nat) (x y : Int32) : Prop := ∃ a b : Nat, a < C ∧ b < R ∧ x = nI a ∧ y = nI b
section
variable {C R g : Nat} {qa1 qa2 qa3 qa4 xcc xdc xpk xfi xsl xcu xrf xpx xpy xbc xbl xto xwo xwr : Int32} {pix xmd xvx xvy sem sev prd rsd bts len tgs dam : Nat → Int32} {post : Int32 → Prop}
theorem xq_clamp {u : SX} {v lo hi : Int32} (h : post (pv_cl v lo hi)) : wpX_clamp post u v lo hi := by
  show (lo ≤ v → ((v ≤ hi → post v) ∧ (¬ v ≤ hi → post hi))) ∧ (¬ lo ≤ v → post lo)
  unfold pv_cl at h
  refine ⟨fun a => ⟨fun b => ?_, fun b => ?_⟩, fun a => ?_⟩
  · rw [if_pos a, if_pos b] at h; exact h
  · rw [if_pos a, if_neg b] at h; exact h
  · rw [if_neg a] at h; exact h
theorem xq_abs {u : SX} {v : Int32} (h : post (pv_ab v)) : wpX_abs post u v := by
  show (0 ≤ v → post v) ∧ (¬ 0 ≤ v → post (-v))
  unfold pv_ab at h
  refine ⟨fun a => ?_, fun a => ?_⟩
  · rw [if_pos a] at h; exact h
  · rw [if_neg a] at h; exact h
theorem xq_in1 {a b : Nat} (hC : C ≤ 4) (hR : R ≤ 2) (ha : a < 4 * C) (hb : b < 4 * R) (h : post 1) : wpX_inside post (qa1, qa2, qa3, qa4, (nI C), (nI R), (nI g), (nI (4 * C)), (nI (4 * R)), xcc, xdc, xpk, xfi, xsl, xcu, xrf, xpx, xpy, xbc, xbl, xto, xwo, xwr, pix, xmd, xvx, xvy, sem, sev, prd, rsd, bts, len, tgs, dam) (nI a) (nI b) :=
  br_f (nI_pos (by omega)) (br_f (nI_ge ha (by omega)) (br_f (nI_pos (by omega)) (br_f (nI_ge hb (by omega)) h)))
theorem pv_ins_of {x y : Int32} (hC : C ≤ 4) (hR : R ≤ 2) (h1 : ¬ x < 0) (h2 : ¬ nI (4 * C) ≤ x) (h3 : ¬ y < 0) (h4 : ¬ nI (4 * R) ≤ y) : pv_ins C R x y := by
  obtain ⟨a, ha, rfl⟩ := nI_of h1
  obtain ⟨b, hb, rfl⟩ := nI_of h3
  rw [nI_leI (by omega) ha] at h2
  rw [nI_leI (by omega) hb] at h4
  exact ⟨a, b, by omega, by omega, rfl, rfl⟩
theorem pv_hb_of {x y : Int32} (hC : C ≤ 4) (hR : R ≤ 2) (h1 : ¬ x < 0) (h2 : ¬ nI C ≤ x) (h3 : ¬ y < 0) (h4 : ¬ nI R ≤ y) : pv_hb C R x y := by
  obtain ⟨a, ha, rfl⟩ := nI_of h1
  obtain ⟨b, hb, rfl⟩ := nI_of h3
  rw [nI_leI (by omega) ha] at h2
  rw [nI_leI (by omega) hb] at h4
  exact ⟨a, b, by omega, by omega, rfl, rfl⟩
theorem xq_in0 {x y : Int32} (hC : C ≤ 4) (hR : R ≤ 2) (hn : ¬ pv_ins C R x y) (h : post 0) : wpX_inside post (qa1, qa2, qa3, qa4, (nI C), (nI R), (nI g), (nI (4 * C)), (nI (4 * R)), xcc, xdc, xpk, xfi, xsl, xcu, xrf, xpx, xpy, xbc, xbl, xto, xwo, xwr, pix, xmd, xvx, xvy, sem, sev, prd, rsd, bts, len, tgs, dam) x y :=
  br_c (fun _ => h) (fun h1 => br_c (fun _ => h) (fun h2 => br_c (fun _ => h) (fun h3 => br_c (fun _ => h) (fun h4 => absurd (pv_ins_of hC hR h1 h2 h3 h4) hn))))
theorem xq_hb1 {a b : Nat} (hC : C ≤ 4) (hR : R ≤ 2) (ha : a < C) (hb : b < R) (h : post 1) : wpX_hasBlock post (qa1, qa2, qa3, qa4, (nI C), (nI R), (nI g), (nI (4 * C)), (nI (4 * R)), xcc, xdc, xpk, xfi, xsl, xcu, xrf, xpx, xpy, xbc, xbl, xto, xwo, xwr, pix, xmd, xvx, xvy, sem, sev, prd, rsd, bts, len, tgs, dam) (nI a) (nI b) :=
  br_f (nI_pos (by omega)) (br_f (nI_ge ha (by omega)) (br_f (nI_pos (by omega)) (br_f (nI_ge hb (by omega)) h)))
theorem xq_hb0 {x y : Int32} (hC : C ≤ 4) (hR : R ≤ 2) (hn : ¬ pv_hb C R x y) (h : post 0) : wpX_hasBlock post (qa1, qa2, qa3, qa4, (nI C), (nI R), (nI g), (nI (4 * C)), (nI (4 * R)), xcc, xdc, xpk, xfi, xsl, xcu, xrf, xpx, xpy, xbc, xbl, xto, xwo, xwr, pix, xmd, xvx, xvy, sem, sev, prd, rsd, bts, len, tgs, dam) x y :=
  br_c (fun _ => h) (fun h1 => br_c (fun _ => h) (fun h2 => br_c (fun _ => h) (fun h3 => br_c (fun _ => h) (fun h4 => absurd (pv_hb_of hC hR h1 h2 h3 h4) hn))))
theorem pv_cnI {x : Int32} {n : Nat} (h0 : 1 ≤ n) (h : n < 2 ^ 31) : pv_cl x 0 (nI n - 1) = nI (pv_cn x (n - 1)) ∧ pv_cn x (n - 1) < n := by
  rw [pv_s1 h0]
  have a := pv_cn_ok x (m := n - 1) (by omega)
  exact ⟨a.1, by omega⟩
theorem xq_near {x y : Int32} {B : Nat} (hC : C ≤ 4) (hR : R ≤ 2) (hC0 : 1 ≤ C) (hR0 : 1 ≤ R) (hB : B ≤ 384) (h : post (pv_rf (fun p => pix (B + p)) C R x y)) : wpX_nearest post (qa1, qa2, qa3, qa4, (nI C), (nI R), (nI g), (nI (4 * C)), (nI (4 * R)), xcc, xdc, xpk, xfi, xsl, xcu, xrf, xpx, xpy, xbc, xbl, xto, xwo, xwr, pix, xmd, xvx, xvy, sem, sev, prd, rsd, bts, len, tgs, dam) (nI B) x y := by
  have ex := pv_cnI (x := x) (n := 4 * C) (by omega) (by omega)
  have ey := pv_cnI (x := y) (n := 4 * R) (by omega) (by omega)
  unfold wpX_nearest
  refine xq_clamp ?_
  refine xq_clamp ?_
  rw [ex.1, ey.1]
  have e : nI B + 16 * nI (pv_cn y (4 * R - 1)) + nI (pv_cn x (4 * C - 1)) = nI (B + (16 * pv_cn y (4 * R - 1) + pv_cn x (4 * C - 1))) := by
    rw [pv_16m, nI_add, nI_add, Nat.add_assoc]
  rw [e, nI_clamp (by omega)]
  exact ⟨vp_in_nI (by omega) (by omega), h⟩
theorem pv_atI {c r i : Nat} (hi : i < 16) : 64 * nI r + 4 * nI c + 16 * (nI i >>> ((2 : Int32) &&& 31)) + (nI i &&& 3) = nI (pv_at c r i) := by
  rw [pv_shr2 (by omega), pv_and3 (by omega), pv_64m, pv_4m, pv_16m, nI_add, nI_add, nI_add]
  rfl
theorem pv_at_lt {c r i : Nat} (hc : c < 4) (hr : r < 2) (hi : i < 16) : pv_at c r i < 128 := by
  unfold pv_at
  omega
theorem xq_at {u : SX} {c r i : Nat} (hi : i < 16) (h : post (nI (pv_at c r i))) : wpX_at post u (nI c) (nI r) (nI i) := by
  show post (64 * nI r + 4 * nI c + 16 * (nI i >>> ((2 : Int32) &&& 31)) + (nI i &&& 3))
  rw [pv_atI hi]
  exact h
theorem xq_error {c r i : Nat} (hc : c < 4) (hr : r < 2) (hi : i < 16) (h : post (pix (pv_at c r i) - prd i)) : wpX_error post (qa1, qa2, qa3, qa4, (nI C), (nI R), (nI g), (nI (4 * C)), (nI (4 * R)), xcc, xdc, xpk, xfi, xsl, xcu, xrf, xpx, xpy, xbc, xbl, xto, xwo, xwr, pix, xmd, xvx, xvy, sem, sev, prd, rsd, bts, len, tgs, dam) (nI c) (nI r) (nI i) := by
  unfold wpX_error
  refine xq_at hi ?_
  have a := pv_at_lt hc hr hi
  refine ⟨vp_in_nI (by omega) (by omega), vp_in_nI hi (by omega), ?_⟩
  rw [nI_clamp (by omega), nI_clamp (by omega)]
  exact h
theorem xq_median {u : SX} {a b c : Int32} (h : post (pv_m3 a b c)) : wpX_median post u a b c := by
  show (b ≤ a → wpX_clamp (fun r => post r) u c b a) ∧ (¬ b ≤ a → wpX_clamp (fun r => post r) u c a b)
  unfold pv_m3 at h
  refine ⟨fun k => xq_clamp ?_, fun k => xq_clamp ?_⟩
  · rw [if_pos k] at h; exact h
  · rw [if_neg k] at h; exact h
/-! neighbours -/
theorem pv_0s1 : nI 0 - 1 = (-1 : Int32) := by decide
theorem pv_m1n {a : Nat} (h : a < 2 ^ 31) : ¬ (-1 : Int32) = nI a := fun e => nI_pos h (by rw [← e]; decide)
theorem pv_nhb1 {y : Int32} (hC : C ≤ 4) : ¬ pv_hb C R (-1) y := by
  rintro ⟨a, b, ha, hb, e, -⟩
  exact pv_m1n (by omega) e
theorem pv_nhb2 {x : Int32} (hR : R ≤ 2) : ¬ pv_hb C R x (-1) := by
  rintro ⟨a, b, ha, hb, -, e⟩
  exact pv_m1n (by omega) e
theorem xq_nb1 {a b : Nat} (hC : C ≤ 4) (hR : R ≤ 2) (ha : a < C) (hb : b < R) (h : post (nI (4 * b + a))) : wpX_neighbour post (qa1, qa2, qa3, qa4, (nI C), (nI R), (nI g), (nI (4 * C)), (nI (4 * R)), xcc, xdc, xpk, xfi, xsl, xcu, xrf, xpx, xpy, xbc, xbl, xto, xwo, xwr, pix, xmd, xvx, xvy, sem, sev, prd, rsd, bts, len, tgs, dam) (nI a) (nI b) := by
  unfold wpX_neighbour
  refine xq_hb1 hC hR ha hb (br_f (by decide) ?_)
  rw [pv_4m, nI_add]
  exact h
theorem xq_nb0 {x y : Int32} (hC : C ≤ 4) (hR : R ≤ 2) (hn : ¬ pv_hb C R x y) (h : post (nI 8)) : wpX_neighbour post (qa1, qa2, qa3, qa4, (nI C), (nI R), (nI g), (nI (4 * C)), (nI (4 * R)), xcc, xdc, xpk, xfi, xsl, xcu, xrf, xpx, xpy, xbc, xbl, xto, xwo, xwr, pix, xmd, xvx, xvy, sem, sev, prd, rsd, bts, len, tgs, dam) x y := by
  unfold wpX_neighbour
  exact xq_hb0 hC hR hn (br_t rfl h)
theorem xq_left {c r : Nat} (hC : C ≤ 4) (hR : R ≤ 2) (hc : c < C) (hr : r < R) (h : ∀ j, j < 9 → (∀ V : Nat → Int32, V 8 = 0 → V j = pv_lf V c r) → post (nI j)) : wpX_neighbour post (qa1, qa2, qa3, qa4, (nI C), (nI R), (nI g), (nI (4 * C)), (nI (4 * R)), xcc, xdc, xpk, xfi, xsl, xcu, xrf, xpx, xpy, xbc, xbl, xto, xwo, xwr, pix, xmd, xvx, xvy, sem, sev, prd, rsd, bts, len, tgs, dam) (nI c - 1) (nI r) := by
  by_cases h0 : 0 < c
  · rw [pv_s1 h0]
    refine xq_nb1 hC hR (by omega) hr (h _ (by omega) (fun V _ => ?_))
    unfold pv_lf
    rw [if_pos h0]
  · obtain rfl : c = 0 := by omega
    rw [pv_0s1]
    refine xq_nb0 hC hR (pv_nhb1 hC) (h 8 (by omega) (fun V hV => ?_))
    unfold pv_lf
    rw [if_neg h0, hV]
theorem xq_above {c r : Nat} (hC : C ≤ 4) (hR : R ≤ 2) (hc : c < C) (hr : r < R) (h : ∀ j, j < 9 → (∀ V : Nat → Int32, V 8 = 0 → V j = pv_up V c r) → post (nI j)) : wpX_neighbour post (qa1, qa2, qa3, qa4, (nI C), (nI R), (nI g), (nI (4 * C)), (nI (4 * R)), xcc, xdc, xpk, xfi, xsl, xcu, xrf, xpx, xpy, xbc, xbl, xto, xwo, xwr, pix, xmd, xvx, xvy, sem, sev, prd, rsd, bts, len, tgs, dam) (nI c) (nI r - 1) := by
  by_cases h0 : 0 < r
  · rw [pv_s1 h0]
    refine xq_nb1 hC hR hc (by omega) (h _ (by omega) (fun V _ => ?_))
    unfold pv_up
    rw [if_pos h0]
  · obtain rfl : r = 0 := by omega
    rw [pv_0s1]
    refine xq_nb0 hC hR (pv_nhb2 hR) (h 8 (by omega) (fun V hV => ?_))
    unfold pv_up
    rw [if_neg h0, hV]
theorem xq_thirdA {c r : Nat} (hC : C ≤ 4) (hR : R ≤ 2) (hc : c + 1 < C) (hr : r < R) (h : ∀ j, j < 9 → (∀ V : Nat → Int32, V 8 = 0 → V j = pv_th V C c r) → post (nI j)) : wpX_neighbour post (qa1, qa2, qa3, qa4, (nI C), (nI R), (nI g), (nI (4 * C)), (nI (4 * R)), xcc, xdc, xpk, xfi, xsl, xcu, xrf, xpx, xpy, xbc, xbl, xto, xwo, xwr, pix, xmd, xvx, xvy, sem, sev, prd, rsd, bts, len, tgs, dam) (nI c + 1) (nI r - 1) := by
  rw [nI_1]
  refine xq_above hC hR hc hr (fun j hj hV => h j hj (fun V h8 => ?_))
  rw [hV V h8]
  unfold pv_th pv_up
  rw [if_pos hc]
theorem xq_thirdB {c r : Nat} (hC : C ≤ 4) (hR : R ≤ 2) (hc : c < C) (h1 : ¬ c + 1 < C) (hr : r < R) (h : ∀ j, j < 9 → (∀ V : Nat → Int32, V 8 = 0 → V j = pv_th V C c r) → post (nI j)) : wpX_neighbour post (qa1, qa2, qa3, qa4, (nI C), (nI R), (nI g), (nI (4 * C)), (nI (4 * R)), xcc, xdc, xpk, xfi, xsl, xcu, xrf, xpx, xpy, xbc, xbl, xto, xwo, xwr, pix, xmd, xvx, xvy, sem, sev, prd, rsd, bts, len, tgs, dam) (nI c - 1) (nI r - 1) := by
  by_cases h0 : 0 < c
  · rw [pv_s1 h0]
    refine xq_above hC hR (by omega) hr (fun j hj hV => h j hj (fun V h8 => ?_))
    rw [hV V h8]
    unfold pv_th pv_up
    rw [if_neg h1, if_pos h0]
  · obtain rfl : c = 0 := by omega
    rw [pv_0s1]
    refine xq_nb0 hC hR (pv_nhb1 hC) (h 8 (by omega) (fun V hV => ?_))
    unfold pv_th
    rw [if_neg h1, if_neg h0, hV]
end
section
variable {C R g : Nat} {qa1 qa2 qa3 qa4 xcc xdc xpk xfi xsl xcu xrf xpx xpy xbc xbl xto xwo xwr : Int32} {pix xmd xvx xvy sem sev prd rsd bts len tgs dam : Nat → Int32} {post : SX → Prop}
theorem xq_pv85 {r j1 j2 j3 : Nat} {z : Int32} (hr : r < 2) (h1 : j1 < 9) (h2 : j2 < 9) (h3 : j3 < 9) (h : post (qa1, qa2, qa3, qa4, (nI C), (nI R), (nI g), (nI (4 * C)), (nI (4 * R)), xcc, xdc, xpk, xfi, xsl, xcu, xrf, z, (if r = 0 then xvy j1 else pv_m3 (xvy j1) (xvy j2) (xvy j3)), xbc, xbl, xto, xwo, xwr, pix, xmd, xvx, xvy, sem, sev, prd, rsd, bts, len, tgs, dam)) : wX_predictVector_85 post (nI r) (nI j1) (nI j2) (nI j3) z qa1 qa2 qa3 qa4 (nI C) (nI R) (nI g) (nI (4 * C)) (nI (4 * R)) xcc xdc xpk xfi xsl xcu xrf xpx xpy xbc xbl xto xwo xwr pix xmd xvx xvy sem sev prd rsd bts len tgs dam := by
  unfold wX_predictVector_85
  refine br_c (fun e => ?_) (fun e => ?_)
  · have e : r = 0 := (nI_eq (b := 0) (by omega) (by omega)).mp e
    rw [if_pos e] at h
    refine ⟨vp_in_nI h1 (by omega), nm_e ?_⟩
    rw [nI_clamp (by omega)]
    exact h
  · have e : ¬ r = 0 := fun k => e (by rw [k]; rfl)
    rw [if_neg e] at h
    refine ⟨vp_in_nI h1 (by omega), vp_in_nI h2 (by omega), vp_in_nI h3 (by omega), xq_median ?_⟩
    rw [nI_clamp (by omega), nI_clamp (by omega), nI_clamp (by omega)]
    exact h
theorem xq_pv39 {r j1 j2 : Nat} {z : Int32} {F G : Int32} (hr : r < 2) (h1 : j1 < 9) (h2 : j2 < 9) (hz : ∀ p : Int32 → Prop, (∀ j, j < 9 → (r ≠ 0 → xvx j = F ∧ xvy j = G) → p (nI j)) → wpX_neighbour p (qa1, qa2, qa3, qa4, (nI C), (nI R), (nI g), (nI (4 * C)), (nI (4 * R)), xcc, xdc, xpk, xfi, xsl, xcu, xrf, xpx, xpy, xbc, xbl, xto, xwo, xwr, pix, xmd, xvx, xvy, sem, sev, prd, rsd, bts, len, tgs, dam) z (nI r - 1))
    (h : post (qa1, qa2, qa3, qa4, (nI C), (nI R), (nI g), (nI (4 * C)), (nI (4 * R)), xcc, xdc, xpk, xfi, xsl, xcu, xrf, (if r = 0 then xvx j1 else pv_m3 (xvx j1) (xvx j2) F), (if r = 0 then xvy j1 else pv_m3 (xvy j1) (xvy j2) G), xbc, xbl, xto, xwo, xwr, pix, xmd, xvx, xvy, sem, sev, prd, rsd, bts, len, tgs, dam)) : wX_predictVector_39 post (nI r) (nI j1) (nI j2) z qa1 qa2 qa3 qa4 (nI C) (nI R) (nI g) (nI (4 * C)) (nI (4 * R)) xcc xdc xpk xfi xsl xcu xrf xpx xpy xbc xbl xto xwo xwr pix xmd xvx xvy sem sev prd rsd bts len tgs dam := by
  unfold wX_predictVector_39
  refine hz _ (fun j3 h3 hj => ?_)
  refine br_c (fun e => ?_) (fun e => ?_)
  · have e : r = 0 := (nI_eq (b := 0) (by omega) (by omega)).mp e
    rw [if_pos e, if_pos e] at h
    refine ⟨vp_in_nI h1 (by omega), xq_pv85 hr h1 h2 h3 ?_⟩
    rw [nI_clamp (by omega), if_pos e]
    exact h
  · have e : ¬ r = 0 := fun k => e (by rw [k]; rfl)
    rw [if_neg e, if_neg e] at h
    refine ⟨vp_in_nI h1 (by omega), vp_in_nI h2 (by omega), vp_in_nI h3 (by omega), xq_median (xq_pv85 hr h1 h2 h3 ?_)⟩
    rw [nI_clamp (by omega), nI_clamp (by omega), nI_clamp (by omega), if_neg e, (hj e).1, (hj e).2]
    exact h
theorem xq_predV {c r : Nat} (hC : C ≤ 4) (hR : R ≤ 2) (hc : c < C) (hr : r < R) (hx : xvx 8 = 0) (hy : xvy 8 = 0) (h : post (qa1, qa2, qa3, qa4, (nI C), (nI R), (nI g), (nI (4 * C)), (nI (4 * R)), xcc, xdc, xpk, xfi, xsl, xcu, xrf, pv_gs xvx C c r, pv_gs xvy C c r, xbc, xbl, xto, xwo, xwr, pix, xmd, xvx, xvy, sem, sev, prd, rsd, bts, len, tgs, dam)) : wpX_predictVector post (qa1, qa2, qa3, qa4, (nI C), (nI R), (nI g), (nI (4 * C)), (nI (4 * R)), xcc, xdc, xpk, xfi, xsl, xcu, xrf, xpx, xpy, xbc, xbl, xto, xwo, xwr, pix, xmd, xvx, xvy, sem, sev, prd, rsd, bts, len, tgs, dam) (nI c) (nI r) := by
  unfold wpX_predictVector
  refine xq_left hC hR hc hr (fun j1 h1 e1 => ?_)
  refine xq_above hC hR hc hr (fun j2 h2 e2 => ?_)
  have g : ∀ V : Nat → Int32, V 8 = 0 → pv_gs V C c r = if r = 0 then V j1 else pv_m3 (V j1) (V j2) (pv_th V C c r) := fun V hV => by
    rw [e1 V hV, e2 V hV]
    rfl
  rw [g xvx hx, g xvy hy] at h
  refine br_c (fun e => ?_) (fun e => ?_)
  · rw [nI_1, nI_leI (by omega) (by omega)] at e
    refine xq_pv39 (by omega) h1 h2 (fun p hp => ?_) h
    exact xq_thirdB hC hR hc (by omega) hr (fun j hj hV => hp j hj (fun _ => ⟨hV xvx hx, hV xvy hy⟩))
  · rw [nI_1, nI_leI (by omega) (by omega)] at e
    refine xq_pv39 (by omega) h1 h2 (fun p hp => ?_) h
    exact xq_thirdA hC hR (by omega) hr (fun j hj hV => hp j hj (fun _ => ⟨hV xvx hx, hV xvy hy⟩))
end
end
section
/-! X: flat value, prediction, weight -/
section
variable {C R g : Nat} {qa1 qa2 qa3 qa4 xcc xdc xpk xfi xsl xcu xrf xpx xpy xbc xbl xto xwo xwr : Int32} {pix xmd xvx xvy sem sev prd rsd bts len tgs dam : Nat → Int32}
theorem xq_fl46 {post : Int32 → Prop} {J : Int32 → Int32 → Prop} {c r k : Nat} {s x3 : Int32} (hc : c < 4) (hr : r < 2) (hk : k < 4) (hx : x3 = nI (384 + (64 * r + 4 * c))) (h : J (s + pv_lef (fun p => pix (384 + p)) c r k) (nI (k + 1))) : wX_flatValue_46 post J (nI c) (nI r) x3 s (nI k) qa1 qa2 qa3 qa4 (nI C) (nI R) (nI g) (nI (4 * C)) (nI (4 * R)) xcc xdc xpk xfi xsl xcu xrf xpx xpy xbc xbl xto xwo xwr pix xmd xvx xvy sem sev prd rsd bts len tgs dam := by
  unfold wX_flatValue_46
  unfold pv_lef at h
  subst hx
  refine br_c (fun e => ?_) (fun e => ?_)
  · have e : ¬ 0 < c := by
      rw [← nI_0, nI_leI (by omega) (by omega)] at e
      omega
    rw [if_neg e, Int32.add_zero] at h
    exact nm_r (nI_1 k) h
  · have e : 0 < c := by
      rw [← nI_0, nI_leI (by omega) (by omega)] at e
      omega
    rw [if_pos e] at h
    have i : nI (384 + (64 * r + 4 * c)) - 1 + 16 * nI k = nI (384 + (64 * r + 4 * c - 1 + 16 * k)) := by
      rw [pv_s1 (by omega), pv_16m, nI_add]
      exact congrArg nI (by omega)
    rw [i, nI_clamp (by omega)]
    exact ⟨vp_in_nI (by omega) (by omega), nm_e (nm_r (nI_1 k) h)⟩
theorem xq_fl19 {post : Int32 → Prop} {c r : Nat} {x3 : Int32} (hc : c < 4) (hr : r < 2) (hx : x3 = nI (384 + (64 * r + 4 * c))) (h : post (pv_fl (fun p => pix (384 + p)) c r)) : ∃ n : Nat, wX_flatValue_19 post (nI c) (nI r) x3 qa1 qa2 qa3 qa4 (nI C) (nI R) (nI g) (nI (4 * C)) (nI (4 * R)) xcc xdc xpk xfi xsl xcu xrf xpx xpy xbc xbl xto xwo xwr pix xmd xvx xvy sem sev prd rsd bts len tgs dam n 0 0 := by
  refine loop_0 (fun n i s => wX_flatValue_19 post (nI c) (nI r) x3 qa1 qa2 qa3 qa4 (nI C) (nI R) (nI g) (nI (4 * C)) (nI (4 * R)) xcc xdc xpk xfi xsl xcu xrf xpx xpy xbc xbl xto xwo xwr pix xmd xvx xvy sem sev prd rsd bts len tgs dam n s (nI i)) (fun i s => s = pv_fs (fun p => pix (384 + p)) c r i) 4 0 rfl (fun n s hs => ?_) (fun n i s hi hs ih => ?_)
  · subst hs
    unfold pv_fl at h
    refine br_t (nI_le (a := 4) (by omega) (by omega)) ?_
    have pr : (nI r ≤ 0 ↔ ¬ 0 < r) := by rw [← nI_0, nI_leI (by omega) (by omega)]; omega
    have pc : (nI c ≤ 0 ↔ ¬ 0 < c) := by rw [← nI_0, nI_leI (by omega) (by omega)]; omega
    have pr' : (0 < nI r ↔ 0 < r) := by rw [← nI_0, nI_ltI (by omega) (by omega)]
    by_cases r0 : 0 < r
    · rw [if_pos r0] at h
      refine br_f (fun k => (pr.mp k) r0) ?_
      by_cases c0 : 0 < c
      · rw [if_pos c0] at h
        exact br_f (fun k => (pc.mp k) c0) h
      · rw [if_neg c0] at h
        exact br_t (pc.mpr c0) (br_t (pr'.mpr r0) h)
    · rw [if_neg r0] at h
      refine br_t (pr.mpr r0) (br_f (fun k => r0 (pr'.mp k)) ?_)
      by_cases c0 : 0 < c
      · rw [if_pos c0] at h
        exact br_f (fun k => (pc.mp k) c0) h
      · rw [if_neg c0] at h
        exact br_t (pc.mpr c0) h
  · subst hs
    refine br_f (nI_ge (b := 4) hi (by omega)) ?_
    have pr : (nI r ≤ 0 ↔ ¬ 0 < r) := by rw [← nI_0, nI_leI (by omega) (by omega)]; omega
    by_cases r0 : 0 < r
    · refine br_f (fun k => (pr.mp k) r0) ?_
      have ii : x3 - 16 + nI i = nI (384 + (64 * r + 4 * c - 16 + i)) := by
        rw [hx, pv_s16 (by omega), nI_add]
        exact congrArg nI (by omega)
      rw [ii, nI_clamp (by omega)]
      refine ⟨vp_in_nI (by omega) (by omega), nm_e (xq_fl46 hc hr hi hx (ih _ ?_))⟩
      show _ = _ + (pv_top _ c r i + _)
      unfold pv_top
      rw [if_pos r0, Int32.add_assoc]
    · refine br_t (pr.mpr r0) (xq_fl46 hc hr hi hx (ih _ ?_))
      show _ = _ + (pv_top _ c r i + _)
      unfold pv_top
      rw [if_neg r0, Int32.zero_add]
theorem xq_flat {post : Int32 → Prop} {c r : Nat} (hc : c < 4) (hr : r < 2) (h : post (pv_fl (fun p => pix (384 + p)) c r)) : wpX_flatValue post (qa1, qa2, qa3, qa4, (nI C), (nI R), (nI g), (nI (4 * C)), (nI (4 * R)), xcc, xdc, xpk, xfi, xsl, xcu, xrf, xpx, xpy, xbc, xbl, xto, xwo, xwr, pix, xmd, xvx, xvy, sem, sev, prd, rsd, bts, len, tgs, dam) (nI c) (nI r) := by
  unfold wpX_flatValue
  refine nm_e (xq_fl19 hc hr ?_ h)
  rw [pv_64m, pv_4m, pv_384, nI_add, Nat.add_assoc]
theorem pv_lt_s {a f : Nat → Int32} {i : Nat} {x : Int32} (h : ∀ j, j < i → a j = f j) (hx : x = f i) : ∀ j, j < i + 1 → upd a i x j = f j := fun j hj => by
  by_cases e : j = i
  · rw [e, pk_us, hx]
  · rw [pk_un e]
    exact h j (by omega)
theorem xq_pr111 {post : SX → Prop} {J : Int32 → (Nat → Int32) → (Nat → Int32) → (Nat → Int32) → (Nat → Int32) → (Nat → Int32) → (Nat → Int32) → (Nat → Int32) → (Nat → Int32) → (Nat → Int32) → (Nat → Int32) → (Nat → Int32) → (Nat → Int32) → Prop} {m c r i : Nat} {x4 x5 x6 x7 : Int32} (hm : m < 6) (hc : c < 4) (hr : r < 2) (hi : i < 16) (hx : x6 = nI (384 + (64 * r + 4 * c))) (h : J (nI (i + 1)) pix xmd xvx xvy sem sev (upd prd i (if m = 3 ∧ 0 < c then pix (384 + (64 * r + 4 * c - 1 + 16 * (i / 4))) else x7)) rsd bts len tgs dam) : wX_predict_111 post J (nI m) (nI c) (nI r) x4 x5 x6 x7 (nI i) qa1 qa2 qa3 qa4 (nI C) (nI R) (nI g) (nI (4 * C)) (nI (4 * R)) xcc xdc xpk xfi xsl xcu xrf xpx xpy xbc xbl xto xwo xwr pix xmd xvx xvy sem sev prd rsd bts len tgs dam := by
  unfold wX_predict_111
  have ei : (nI i).toNatClampNeg = i := nI_clamp (by omega)
  have pc : (nI c ≤ 0 ↔ ¬ 0 < c) := by rw [← nI_0, nI_leI (by omega) (by omega)]; omega
  have em : (nI m = 3 ↔ m = 3) := nI_eq (b := 3) (by omega) (by omega)
  rw [ei]
  by_cases m3 : m = 3
  · refine br_t (em.mpr m3) ?_
    by_cases c0 : 0 < c
    · rw [if_pos ⟨m3, c0⟩] at h
      refine br_f (fun k => (pc.mp k) c0) ?_
      have ii : x6 - 1 + 16 * (nI i >>> ((2 : Int32) &&& 31)) = nI (384 + (64 * r + 4 * c - 1 + 16 * (i / 4))) := by
        rw [hx, pv_s1 (by omega), pv_shr2 (by omega), pv_16m, nI_add]
        exact congrArg nI (by omega)
      rw [ii, nI_clamp (by omega)]
      exact ⟨vp_in_nI (by omega) (by omega), vp_in_nI hi (by omega), nm_e (nm_r (nI_1 i) h)⟩
    · rw [if_neg (fun k => c0 k.2)] at h
      exact br_t (pc.mpr c0) ⟨vp_in_nI hi (by omega), nm_e (nm_r (nI_1 i) h)⟩
  · rw [if_neg (fun k => m3 k.1)] at h
    exact br_f (fun k => m3 (em.mp k)) ⟨vp_in_nI hi (by omega), nm_e (nm_r (nI_1 i) h)⟩
theorem pv_pr_hi {N P : Nat → Int32} {m c r i : Nat} {dx dy : Int32} (h : 4 ≤ m) : pv_pr N P C R m c r dx dy i = pv_rf P C R (nI (4 * c + i % 4) + dx) (nI (4 * r + i / 4) + dy) := if_pos h
theorem pv_pr_2 {N P : Nat → Int32} {m c r i : Nat} {dx dy : Int32} (h : m = 2) (r0 : 0 < r) : pv_pr N P C R m c r dx dy i = N (64 * r + 4 * c - 16 + i % 4) := by
  unfold pv_pr
  rw [if_neg (show ¬ 4 ≤ m by omega), if_pos ⟨h, r0⟩]
theorem pv_pr_o {N P : Nat → Int32} {m c r i : Nat} {dx dy : Int32} (h : m < 4) (h2 : ¬ (m = 2 ∧ 0 < r)) : pv_pr N P C R m c r dx dy i = if m = 3 ∧ 0 < c then N (64 * r + 4 * c - 1 + 16 * (i / 4)) else pv_fl N c r := by
  unfold pv_pr
  rw [if_neg (show ¬ 4 ≤ m by omega), if_neg h2]
theorem xq_pr25 {post : SX → Prop} {m c r B : Nat} {dx dy x6 : Int32} (hC : C ≤ 4) (hR : R ≤ 2) (hm : m < 6) (hc : c < C) (hr : r < R) (hB : B ≤ 384) (hx : x6 = nI (384 + (64 * r + 4 * c)))
    (h : ∀ a : Nat → Int32, (∀ i, i < 16 → a i = pv_pr (fun p => pix (384 + p)) (fun p => pix (B + p)) C R m c r dx dy i) → post (qa1, qa2, qa3, qa4, (nI C), (nI R), (nI g), (nI (4 * C)), (nI (4 * R)), xcc, xdc, xpk, xfi, xsl, xcu, nI B, xpx, xpy, xbc, xbl, xto, xwo, xwr, pix, xmd, xvx, xvy, sem, sev, a, rsd, bts, len, tgs, dam)) :
    ∃ n : Nat, wX_predict_25 post (nI m) (nI c) (nI r) dx dy x6 (pv_fl (fun p => pix (384 + p)) c r) qa1 qa2 qa3 qa4 (nI C) (nI R) (nI g) (nI (4 * C)) (nI (4 * R)) xcc xdc xpk xfi xsl xcu (nI B) xpx xpy xbc xbl xto xwo xwr n 0 pix xmd xvx xvy sem sev prd rsd bts len tgs dam := by
  refine loop_0 (fun n i a => wX_predict_25 post (nI m) (nI c) (nI r) dx dy x6 (pv_fl (fun p => pix (384 + p)) c r) qa1 qa2 qa3 qa4 (nI C) (nI R) (nI g) (nI (4 * C)) (nI (4 * R)) xcc xdc xpk xfi xsl xcu (nI B) xpx xpy xbc xbl xto xwo xwr n (nI i) pix xmd xvx xvy sem sev a rsd bts len tgs dam) (fun i a => ∀ j, j < i → a j = pv_pr (fun p => pix (384 + p)) (fun p => pix (B + p)) C R m c r dx dy j) 16 prd lt_0 (fun n a ha => ?_) (fun n i a hi ha ih => ?_)
  · exact br_t (nI_le (a := 16) (by omega) (by omega)) (h a ha)
  · refine br_f (nI_ge (b := 16) hi (by omega)) ?_
    have ei : (nI i).toNatClampNeg = i := nI_clamp (by omega)
    have key : ∀ x, x = pv_pr (fun p => pix (384 + p)) (fun p => pix (B + p)) C R m c r dx dy i → wX_predict_25 post (nI m) (nI c) (nI r) dx dy x6 (pv_fl (fun p => pix (384 + p)) c r) qa1 qa2 qa3 qa4 (nI C) (nI R) (nI g) (nI (4 * C)) (nI (4 * R)) xcc xdc xpk xfi xsl xcu (nI B) xpx xpy xbc xbl xto xwo xwr n (nI (i + 1)) pix xmd xvx xvy sem sev (upd a i x) rsd bts len tgs dam := fun x e => ih _ (pv_lt_s ha e)
    by_cases m4 : m < 4
    · refine br_t (nI_lt (b := 4) m4 (by omega)) ?_
      by_cases m2 : m = 2
      · refine br_t (congrArg nI m2) ?_
        have pr : (nI r ≤ 0 ↔ ¬ 0 < r) := by rw [← nI_0, nI_leI (by omega) (by omega)]; omega
        by_cases r0 : 0 < r
        · refine br_f (fun k => (pr.mp k) r0) ?_
          have ii : x6 - 16 + (nI i &&& 3) = nI (384 + (64 * r + 4 * c - 16 + i % 4)) := by
            rw [hx, pv_s16 (by omega), pv_and3 (by omega), nI_add]
            exact congrArg nI (by omega)
          rw [ii, ei, nI_clamp (by omega)]
          exact ⟨vp_in_nI (by omega) (by omega), vp_in_nI hi (by omega), nm_e (nm_r (nI_1 i) (key _ (pv_pr_2 (N := fun p => pix (384 + p)) m2 r0).symm))⟩
        · exact br_t (pr.mpr r0) (xq_pr111 hm (by omega) (by omega) hi hx (key _ (pv_pr_o m4 (fun k => r0 k.2)).symm))
      · exact br_f (fun k => m2 ((nI_eq (b := 2) (by omega) (by omega)).mp k)) (xq_pr111 hm (by omega) (by omega) hi hx (key _ (pv_pr_o m4 (fun k => m2 k.1)).symm))
    · refine br_f (nI_nlt (b := 4) (by omega) (by omega)) ?_
      refine xq_near hC hR (by omega) (by omega) hB ?_
      have e1 : 4 * nI c + (nI i &&& 3) + dx = nI (4 * c + i % 4) + dx := by
        rw [pv_4m, pv_and3 (by omega), nI_add]
      have e2 : 4 * nI r + (nI i >>> ((2 : Int32) &&& 31)) + dy = nI (4 * r + i / 4) + dy := by
        rw [pv_4m, pv_shr2 (by omega), nI_add]
      rw [e1, e2, ei]
      exact ⟨vp_in_nI hi (by omega), nm_e (nm_r (nI_1 i) (key _ (pv_pr_hi (by omega)).symm))⟩
theorem xq_predict {post : SX → Prop} {m c r B : Nat} {dx dy : Int32} (hC : C ≤ 4) (hR : R ≤ 2) (hm : m < 6) (hc : c < C) (hr : r < R) (hB : B ≤ 384)
    (h : ∀ a : Nat → Int32, (∀ i, i < 16 → a i = pv_pr (fun p => pix (384 + p)) (fun p => pix (B + p)) C R m c r dx dy i) → post (qa1, qa2, qa3, qa4, (nI C), (nI R), (nI g), (nI (4 * C)), (nI (4 * R)), xcc, xdc, xpk, xfi, xsl, xcu, nI B, xpx, xpy, xbc, xbl, xto, xwo, xwr, pix, xmd, xvx, xvy, sem, sev, a, rsd, bts, len, tgs, dam)) : wpX_predict post (qa1, qa2, qa3, qa4, (nI C), (nI R), (nI g), (nI (4 * C)), (nI (4 * R)), xcc, xdc, xpk, xfi, xsl, xcu, nI B, xpx, xpy, xbc, xbl, xto, xwo, xwr, pix, xmd, xvx, xvy, sem, sev, prd, rsd, bts, len, tgs, dam) (nI m) (nI c) (nI r) dx dy := by
  unfold wpX_predict
  refine nm_r (e' := nI (384 + (64 * r + 4 * c))) (by rw [pv_64m, pv_4m, pv_384, nI_add, Nat.add_assoc]) ?_
  exact xq_flat (by omega) (by omega) (xq_pr25 hC hR hm hc hr hB rfl h)
theorem xq_weigh {post : SX → Prop} {c r : Nat} (hc : c < 4) (hr : r < 2) (h : post (qa1, qa2, qa3, qa4, (nI C), (nI R), (nI g), (nI (4 * C)), (nI (4 * R)), xcc, xdc, xpk, xfi, xsl, xcu, xrf, xpx, xpy, xbc, xbl, pv_sd pix prd c r 16, pv_ws pix prd c r 16, xwr, pix, xmd, xvx, xvy, sem, sev, prd, rsd, bts, len, tgs, dam)) : wpX_weigh post (qa1, qa2, qa3, qa4, (nI C), (nI R), (nI g), (nI (4 * C)), (nI (4 * R)), xcc, xdc, xpk, xfi, xsl, xcu, xrf, xpx, xpy, xbc, xbl, xto, xwo, xwr, pix, xmd, xvx, xvy, sem, sev, prd, rsd, bts, len, tgs, dam) (nI c) (nI r) := by
  unfold wpX_weigh
  refine loop_0 (fun n i (s : Int32 × Int32) => wX_weigh_12 post (nI c) (nI r) qa1 qa2 qa3 qa4 (nI C) (nI R) (nI g) (nI (4 * C)) (nI (4 * R)) xcc xdc xpk xfi xsl xcu xrf xpx xpy xbc xbl xwr pix xmd xvx xvy sem sev prd rsd bts len tgs dam n (nI i) s.1 s.2) (fun i s => s.1 = pv_sd pix prd c r i ∧ s.2 = pv_ws pix prd c r i) 16 (0, 0) ⟨rfl, rfl⟩ (fun n s hs => ?_) (fun n i s hi hs ih => ?_)
  · rw [← hs.1, ← hs.2] at h
    exact br_t (nI_le (a := 16) (by omega) (by omega)) h
  · refine br_f (nI_ge (b := 16) hi (by omega)) ?_
    refine xq_error hc hr hi ?_
    refine xq_abs (nm_e ?_)
    refine br_c (fun e => nm_r (nI_1 i) (ih (_, _) ⟨?_, ?_⟩)) (fun e => nm_r (nI_1 i) (ih (_, _) ⟨?_, ?_⟩))
    · exact congrArg (fun z => z + pv_ab (pix (pv_at c r i) - prd i)) hs.1
    · rw [hs.2] at e ⊢
      exact (if_pos e).symm
    · exact congrArg (fun z => z + pv_ab (pix (pv_at c r i) - prd i)) hs.1
    · rw [hs.2] at e
      exact (if_neg e).symm
end
end
section
/-! X: offers, search, choice -/
def pv_T (S N P : Nat → Int32) (C R c r : Nat) (m : Nat) (dx dy : Int32) : Int32 := pv_sd S (pv_pr N P C R m c r dx dy) c r 16
def pv_W (S N P : Nat → Int32) (C R c r : Nat) (m : Nat) (dx dy : Int32) : Int32 := pv_ws S (pv_pr N P C R m c r dx dy) c r 16
def pv_ch (T : Nat → Int32 → Int32 → Int32) (W : Int32) (kind q g c r : Nat) (px py bl m0 x0 y0 : Int32) : Int32 × Int32 × Int32 :=
  if kind = 1 then (if nI (q / 4) < W then (pv_in T c r (pv_sm T (pv_ls g (2 * g + 1)) (5000, bl, 5, px, py))).2.2 else (5, px, py))
  else (pv_in T c r (5000, bl, m0, x0, y0)).2.2
theorem pv_row_s (g j i : Nat) : pv_row g j (i + 1) = pv_row g j i ++ [(nI i - nI g, nI j - nI g)] := by
  unfold pv_row
  rw [List.range_succ, List.map_append]
  rfl
theorem pv_ls_s (g j : Nat) : pv_ls g (j + 1) = pv_ls g j ++ pv_row g j (2 * g + 1) := by
  unfold pv_ls
  rw [List.range_succ, List.flatMap_append]
  simp only [List.flatMap_cons, List.flatMap_nil, List.append_nil]
theorem pv_sm_a (T : Nat → Int32 → Int32 → Int32) (l l' : List (Int32 × Int32)) (st : Int32 × Int32 × Int32 × Int32 × Int32) : pv_sm T (l ++ l') st = pv_sm T l' (pv_sm T l st) := by
  unfold pv_sm
  rw [List.foldl_append]
theorem pv_cmpg {g i : Nat} (hg : g ≤ 3) (hi : i ≤ 8) : nI g < nI i - nI g ↔ 2 * g < i := by
  rw [Int32.lt_iff_toInt_lt, pk_sub_toInt (by omega) (by omega), nI_toInt (by omega)]
  omega
theorem pv_sg1 (g i : Nat) : nI i - nI g + 1 = nI (i + 1) - nI g := by
  rw [← nI_1, Int32.sub_eq_add_neg, Int32.sub_eq_add_neg, Int32.add_assoc, Int32.add_comm (-nI g) 1, ← Int32.add_assoc]
theorem pv_neg0 (g : Nat) : -nI g = nI 0 - nI g := by
  rw [nI_0, Int32.zero_sub]
section
variable {C R g : Nat} {qa1 qa2 qa3 qa4 xcc xdc xpk xfi xsl xcu xrf xpx xpy xbc xbl xto xwo xwr : Int32} {pix xmd xvx xvy sem sev prd rsd bts len tgs dam : Nat → Int32} {post : SX → Prop}
theorem xq_setB {b : Nat} {m dx dy : Int32} (hb : b < 8) (h : post (qa1, qa2, qa3, qa4, (nI C), (nI R), (nI g), (nI (4 * C)), (nI (4 * R)), xcc, xdc, xpk, xfi, xsl, xcu, xrf, xpx, xpy, xbc, xbl, xto, xwo, xwr, pix, upd xmd b m, upd xvx b dx, upd xvy b dy, sem, sev, prd, rsd, bts, len, tgs, dam)) : wpX_setBlock post (qa1, qa2, qa3, qa4, (nI C), (nI R), (nI g), (nI (4 * C)), (nI (4 * R)), xcc, xdc, xpk, xfi, xsl, xcu, xrf, xpx, xpy, xbc, xbl, xto, xwo, xwr, pix, xmd, xvx, xvy, sem, sev, prd, rsd, bts, len, tgs, dam) (nI b) m dx dy := by
  unfold wpX_setBlock
  rw [nI_clamp (by omega)]
  exact ⟨vp_in_nI hb (by omega), nm_e ⟨vp_in_nI (by omega) (by omega), nm_e ⟨vp_in_nI (by omega) (by omega), nm_e h⟩⟩⟩
theorem xq_of69 {b c r : Nat} {m dx dy s m0 x0 y0 : Int32} (hb : b = 4 * r + c) (hb8 : b < 8) (h : post (qa1, qa2, qa3, qa4, (nI C), (nI R), (nI g), (nI (4 * C)), (nI (4 * R)), xcc, xdc, xpk, xfi, xsl, xcu, xrf, xpx, xpy, xto, s, xto, xwo, xwr, pix, upd xmd b m, upd xvx b dx, upd xvy b dy, sem, sev, prd, rsd, bts, len, tgs, dam)) :
    wX_offer_69 post m (nI c) (nI r) dx dy s qa1 qa2 qa3 qa4 (nI C) (nI R) (nI g) (nI (4 * C)) (nI (4 * R)) xcc xdc xpk xfi xsl xcu xrf xpx xpy xbc xbl xto xwo xwr pix (upd xmd b m0) (upd xvx b x0) (upd xvy b y0) sem sev prd rsd bts len tgs dam := by
  unfold wX_offer_69
  rw [pv_4m, nI_add, ← hb]
  refine xq_setB hb8 ?_
  rw [pv_uu, pv_uu, pv_uu]
  exact h
theorem xq_offer {m c r b B : Nat} {dx dy bc bl m0 x0 y0 : Int32} {T : Nat → Int32 → Int32 → Int32} (hC : C ≤ 4) (hR : R ≤ 2) (hm : m < 6) (hc : c < C) (hr : r < R) (hB : B ≤ 384) (hb : b = 4 * r + c)
    (hT : T m dx dy = pv_T pix (fun p => pix (384 + p)) (fun p => pix (B + p)) C R c r m dx dy)
    (h : ∀ (a : Nat → Int32) (t w : Int32), post (qa1, qa2, qa3, qa4, (nI C), (nI R), (nI g), (nI (4 * C)), (nI (4 * R)), xcc, xdc, xpk, xfi, xsl, xcu, nI B, xpx, xpy, (pv_o1 T m (dx, dy) (bc, bl, m0, x0, y0)).1, (pv_o1 T m (dx, dy) (bc, bl, m0, x0, y0)).2.1, t, w, xwr, pix, upd xmd b (pv_o1 T m (dx, dy) (bc, bl, m0, x0, y0)).2.2.1, upd xvx b (pv_o1 T m (dx, dy) (bc, bl, m0, x0, y0)).2.2.2.1, upd xvy b (pv_o1 T m (dx, dy) (bc, bl, m0, x0, y0)).2.2.2.2, sem, sev, a, rsd, bts, len, tgs, dam)) :
    wpX_offer post (qa1, qa2, qa3, qa4, (nI C), (nI R), (nI g), (nI (4 * C)), (nI (4 * R)), xcc, xdc, xpk, xfi, xsl, xcu, nI B, xpx, xpy, bc, bl, xto, xwo, xwr, pix, upd xmd b m0, upd xvx b x0, upd xvy b y0, sem, sev, prd, rsd, bts, len, tgs, dam) (nI m) (nI c) (nI r) dx dy := by
  unfold wpX_offer
  refine xq_predict hC hR hm hc hr hB (fun a ha => ?_)
  refine xq_weigh (by omega) (by omega) ?_
  have e : pv_sd pix a c r 16 = T m dx dy := by
    rw [hT]
    exact (pv_sd_congr 16 (fun i hi => ⟨rfl, ha i hi⟩)).1
  rw [e]
  refine xq_abs (xq_abs (nm_e ?_))
  have hb8 : b < 8 := by omega
  by_cases c1 : bc < T m dx dy
  · have hS : pv_o1 T m (dx, dy) (bc, bl, m0, x0, y0) = (bc, bl, m0, x0, y0) := if_pos c1
    rw [hS] at h
    exact br_t c1 (h _ _ _)
  · refine br_f c1 ?_
    by_cases c2 : T m dx dy = bc
    · refine br_t c2 ?_
      by_cases c3 : m = 4
      · refine br_t (congrArg nI c3) ?_
        by_cases c4 : pv_ab dx + pv_ab dy < bl
        · have hS : pv_o1 T m (dx, dy) (bc, bl, m0, x0, y0) = (T m dx dy, pv_ab dx + pv_ab dy, nI m, dx, dy) := (if_neg c1).trans ((if_pos c2).trans ((if_pos c3).trans (if_pos c4)))
          rw [hS] at h
          exact br_t c4 (xq_of69 hb hb8 (h _ _ _))
        · have hS : pv_o1 T m (dx, dy) (bc, bl, m0, x0, y0) = (bc, bl, m0, x0, y0) := (if_neg c1).trans ((if_pos c2).trans ((if_pos c3).trans (if_neg c4)))
          rw [hS] at h
          exact br_f c4 (h _ _ _)
      · have hS : pv_o1 T m (dx, dy) (bc, bl, m0, x0, y0) = (bc, bl, m0, x0, y0) := (if_neg c1).trans ((if_pos c2).trans (if_neg c3))
        rw [hS] at h
        exact br_f (fun k => c3 ((nI_eq (b := 4) (by omega) (by omega)).mp k)) (h _ _ _)
    · have hS : pv_o1 T m (dx, dy) (bc, bl, m0, x0, y0) = (T m dx dy, pv_ab dx + pv_ab dy, nI m, dx, dy) := (if_neg c1).trans (if_neg c2)
      rw [hS] at h
      exact br_f c2 (xq_of69 hb hb8 (h _ _ _))
theorem xq_sm21 {J : Int32 → Int32 → Int32 → Int32 → Int32 → Int32 → Int32 → Int32 → Int32 → Int32 → Int32 → Int32 → Int32 → Int32 → Int32 → Int32 → Int32 → Int32 → Int32 → Int32 → Int32 → Int32 → Int32 → Int32 → (Nat → Int32) → (Nat → Int32) → (Nat → Int32) → (Nat → Int32) → (Nat → Int32) → (Nat → Int32) → (Nat → Int32) → (Nat → Int32) → (Nat → Int32) → (Nat → Int32) → (Nat → Int32) → (Nat → Int32) → Prop} {c r b B j : Nat} {st0 : Int32 × Int32 × Int32 × Int32 × Int32} {T : Nat → Int32 → Int32 → Int32} (hC : C ≤ 4) (hR : R ≤ 2) (hg : g ≤ 3) (hc : c < C) (hr : r < R) (hB : B ≤ 384) (hb : b = 4 * r + c) (hj : j < 2 * g + 1)
    (hT : ∀ dx dy, T 4 dx dy = pv_T pix (fun p => pix (384 + p)) (fun p => pix (B + p)) C R c r 4 dx dy)
    (h : ∀ (st : Int32 × Int32 × Int32 × Int32 × Int32) (a : Nat → Int32) (t w : Int32), st = pv_sm T (pv_row g j (2 * g + 1)) st0 → J (nI (j + 1) - nI g) qa1 qa2 qa3 qa4 (nI C) (nI R) (nI g) (nI (4 * C)) (nI (4 * R)) xcc xdc xpk xfi xsl xcu (nI B) xpx xpy st.1 st.2.1 t w xwr pix (upd xmd b st.2.2.1) (upd xvx b st.2.2.2.1) (upd xvy b st.2.2.2.2) sem sev a rsd bts len tgs dam) :
    ∃ n : Nat, wX_searchMotion_21 post J (nI c) (nI r) (nI j - nI g) n (nI 0 - nI g) qa1 qa2 qa3 qa4 (nI C) (nI R) (nI g) (nI (4 * C)) (nI (4 * R)) xcc xdc xpk xfi xsl xcu (nI B) xpx xpy st0.1 st0.2.1 xto xwo xwr pix (upd xmd b st0.2.2.1) (upd xvx b st0.2.2.2.1) (upd xvy b st0.2.2.2.2) sem sev prd rsd bts len tgs dam := by
  refine loop_0 (fun n i (s : (Int32 × Int32 × Int32 × Int32 × Int32) × (Nat → Int32) × Int32 × Int32) => wX_searchMotion_21 post J (nI c) (nI r) (nI j - nI g) n (nI i - nI g) qa1 qa2 qa3 qa4 (nI C) (nI R) (nI g) (nI (4 * C)) (nI (4 * R)) xcc xdc xpk xfi xsl xcu (nI B) xpx xpy s.1.1 s.1.2.1 s.2.2.1 s.2.2.2 xwr pix (upd xmd b s.1.2.2.1) (upd xvx b s.1.2.2.2.1) (upd xvy b s.1.2.2.2.2) sem sev s.2.1 rsd bts len tgs dam) (fun i s => s.1 = pv_sm T (pv_row g j i) st0) (2 * g + 1) (st0, prd, xto, xwo) rfl (fun n s hs => ?_) (fun n i s hi hs ih => ?_)
  · obtain ⟨st, a, t, w⟩ := s
    exact br_t ((pv_cmpg hg (by omega)).mpr (by omega)) (nm_r (pv_sg1 g j) (h st a t w hs))
  · obtain ⟨⟨bc, bl, m0, x0, y0⟩, a, t, w⟩ := s
    refine br_f (fun k => absurd ((pv_cmpg hg (by omega)).mp k) (by omega)) ?_
    refine xq_offer (T := T) hC hR (m := 4) (by omega) hc hr hB hb (hT _ _) (fun a' t' w' => nm_r (pv_sg1 g i) (ih (_, a', t', w') ?_))
    rw [pv_row_s, pv_sm_a, ← hs]
    rfl
theorem xq_sm6 {c r b B : Nat} {st0 : Int32 × Int32 × Int32 × Int32 × Int32} {T : Nat → Int32 → Int32 → Int32} (hC : C ≤ 4) (hR : R ≤ 2) (hg : g ≤ 3) (hc : c < C) (hr : r < R) (hB : B ≤ 384) (hb : b = 4 * r + c)
    (hT : ∀ dx dy, T 4 dx dy = pv_T pix (fun p => pix (384 + p)) (fun p => pix (B + p)) C R c r 4 dx dy)
    (h : ∀ (st : Int32 × Int32 × Int32 × Int32 × Int32) (a : Nat → Int32) (t w : Int32), st = pv_sm T (pv_ls g (2 * g + 1)) st0 → post (qa1, qa2, qa3, qa4, (nI C), (nI R), (nI g), (nI (4 * C)), (nI (4 * R)), xcc, xdc, xpk, xfi, xsl, xcu, nI B, xpx, xpy, st.1, st.2.1, t, w, xwr, pix, upd xmd b st.2.2.1, upd xvx b st.2.2.2.1, upd xvy b st.2.2.2.2, sem, sev, a, rsd, bts, len, tgs, dam)) :
    wpX_searchMotion post (qa1, qa2, qa3, qa4, (nI C), (nI R), (nI g), (nI (4 * C)), (nI (4 * R)), xcc, xdc, xpk, xfi, xsl, xcu, nI B, xpx, xpy, st0.1, st0.2.1, xto, xwo, xwr, pix, upd xmd b st0.2.2.1, upd xvx b st0.2.2.2.1, upd xvy b st0.2.2.2.2, sem, sev, prd, rsd, bts, len, tgs, dam) (nI c) (nI r) := by
  unfold wpX_searchMotion
  refine nm_r (pv_neg0 g) ?_
  refine loop_0 (fun n j (s : (Int32 × Int32 × Int32 × Int32 × Int32) × (Nat → Int32) × Int32 × Int32) => wX_searchMotion_6 post (nI c) (nI r) n (nI j - nI g) qa1 qa2 qa3 qa4 (nI C) (nI R) (nI g) (nI (4 * C)) (nI (4 * R)) xcc xdc xpk xfi xsl xcu (nI B) xpx xpy s.1.1 s.1.2.1 s.2.2.1 s.2.2.2 xwr pix (upd xmd b s.1.2.2.1) (upd xvx b s.1.2.2.2.1) (upd xvy b s.1.2.2.2.2) sem sev s.2.1 rsd bts len tgs dam) (fun j s => s.1 = pv_sm T (pv_ls g j) st0) (2 * g + 1) (st0, prd, xto, xwo) rfl (fun n s hs => ?_) (fun n j s hj hs ih => ?_)
  · obtain ⟨st, a, t, w⟩ := s
    exact br_t ((pv_cmpg hg (by omega)).mpr (by omega)) (h st a t w hs)
  · obtain ⟨st, a, t, w⟩ := s
    refine br_f (fun k => absurd ((pv_cmpg hg (by omega)).mp k) (by omega)) (nm_r (pv_neg0 g) ?_)
    refine xq_sm21 hC hR hg hc hr hB hb hj hT (fun st' a' t' w' e => ih (st', a', t', w') ?_)
    rw [pv_ls_s, pv_sm_a, ← hs]
    exact e
theorem xq_ch91 {c r b B : Nat} {st0 : Int32 × Int32 × Int32 × Int32 × Int32} {T : Nat → Int32 → Int32 → Int32} (hC : C ≤ 4) (hR : R ≤ 2) (hc : c < C) (hr : r < R) (hB : B ≤ 384) (hb : b = 4 * r + c)
    (hT : ∀ m dx dy, T m dx dy = pv_T pix (fun p => pix (384 + p)) (fun p => pix (B + p)) C R c r m dx dy)
    (h : ∀ (st : Int32 × Int32 × Int32 × Int32 × Int32) (a : Nat → Int32) (t w : Int32), st = pv_i3 T c st0 → post (qa1, qa2, qa3, qa4, (nI C), (nI R), (nI g), (nI (4 * C)), (nI (4 * R)), xcc, xdc, xpk, xfi, xsl, xcu, nI B, xpx, xpy, st.1, st.2.1, t, w, xwr, pix, upd xmd b st.2.2.1, upd xvx b st.2.2.2.1, upd xvy b st.2.2.2.2, sem, sev, a, rsd, bts, len, tgs, dam)) :
    wX_chooseMode_91 post (nI c) (nI r) qa1 qa2 qa3 qa4 (nI C) (nI R) (nI g) (nI (4 * C)) (nI (4 * R)) xcc xdc xpk xfi xsl xcu (nI B) xpx xpy st0.1 st0.2.1 xto xwo xwr pix (upd xmd b st0.2.2.1) (upd xvx b st0.2.2.2.1) (upd xvy b st0.2.2.2.2) sem sev prd rsd bts len tgs dam := by
  unfold wX_chooseMode_91
  unfold pv_i3 at h
  have pc : (nI c ≤ 0 ↔ ¬ 0 < c) := by rw [← nI_0, nI_leI (by omega) (by omega)]; omega
  by_cases c0 : 0 < c
  · rw [if_pos c0] at h
    obtain ⟨bc, bl, m0, x0, y0⟩ := st0
    exact br_f (fun k => (pc.mp k) c0) (xq_offer (T := T) hC hR (m := 3) (by omega) hc hr hB hb (hT _ _ _) (fun a t w => h _ a t w rfl))
  · rw [if_neg c0] at h
    exact br_t (pc.mpr c0) (h _ _ _ _ rfl)
theorem xq_ch69 {c r b B : Nat} {st0 : Int32 × Int32 × Int32 × Int32 × Int32} {T : Nat → Int32 → Int32 → Int32} (hC : C ≤ 4) (hR : R ≤ 2) (hc : c < C) (hr : r < R) (hB : B ≤ 384) (hb : b = 4 * r + c)
    (hT : ∀ m dx dy, T m dx dy = pv_T pix (fun p => pix (384 + p)) (fun p => pix (B + p)) C R c r m dx dy)
    (h : ∀ (st : Int32 × Int32 × Int32 × Int32 × Int32) (a : Nat → Int32) (t w : Int32), st = pv_in T c r st0 → post (qa1, qa2, qa3, qa4, (nI C), (nI R), (nI g), (nI (4 * C)), (nI (4 * R)), xcc, xdc, xpk, xfi, xsl, xcu, nI B, xpx, xpy, st.1, st.2.1, t, w, xwr, pix, upd xmd b st.2.2.1, upd xvx b st.2.2.2.1, upd xvy b st.2.2.2.2, sem, sev, a, rsd, bts, len, tgs, dam)) :
    wX_chooseMode_69 post (nI c) (nI r) qa1 qa2 qa3 qa4 (nI C) (nI R) (nI g) (nI (4 * C)) (nI (4 * R)) xcc xdc xpk xfi xsl xcu (nI B) xpx xpy st0.1 st0.2.1 xto xwo xwr pix (upd xmd b st0.2.2.1) (upd xvx b st0.2.2.2.1) (upd xvy b st0.2.2.2.2) sem sev prd rsd bts len tgs dam := by
  unfold wX_chooseMode_69
  have pr : (nI r ≤ 0 ↔ ¬ 0 < r) := by rw [← nI_0, nI_leI (by omega) (by omega)]; omega
  obtain ⟨bc, bl, m0, x0, y0⟩ := st0
  refine xq_offer (T := T) hC hR (m := 1) (by omega) hc hr hB hb (hT _ _ _) (fun a t w => ?_)
  generalize es : pv_o1 T 1 (0, 0) (bc, bl, m0, x0, y0) = s1
  by_cases r0 : 0 < r
  · obtain ⟨bc1, bl1, m1, x1, y1⟩ := s1
    refine br_f (fun k => (pr.mp k) r0) (xq_offer (T := T) hC hR (m := 2) (by omega) hc hr hB hb (hT _ _ _) (fun a t w => ?_))
    refine xq_ch91 hC hR hc hr hB hb hT (fun st a t w e => h st a t w ?_)
    rw [e, ← es]
    unfold pv_in pv_i2
    rw [if_pos r0]
  · refine br_t (pr.mpr r0) (xq_ch91 hC hR hc hr hB hb hT (fun st a t w e => h st a t w ?_))
    rw [e, ← es]
    unfold pv_in pv_i2
    rw [if_neg r0]
theorem xq_choose {c r b B kind q : Nat} {T : Nat → Int32 → Int32 → Int32} (hC : C ≤ 4) (hR : R ≤ 2) (hg : g ≤ 3) (hc : c < C) (hr : r < R) (hB : B ≤ 384) (hb : b = 4 * r + c) (hk : kind < 2) (hq : q ≤ 40)
    (hT : ∀ m dx dy, T m dx dy = pv_T pix (fun p => pix (384 + p)) (fun p => pix (B + p)) C R c r m dx dy)
    (h : ∀ (a : Nat → Int32) (bc bl t w : Int32) (s : Int32 × Int32 × Int32), s = pv_ch T (pv_W pix (fun p => pix (384 + p)) (fun p => pix (B + p)) C R c r 5 xpx xpy) kind q g c r xpx xpy xbl (xmd b) (xvx b) (xvy b) → post (qa1, qa2, qa3, qa4, (nI C), (nI R), (nI g), (nI (4 * C)), (nI (4 * R)), xcc, xdc, xpk, xfi, xsl, xcu, nI B, xpx, xpy, bc, bl, t, w, xwr, pix, upd xmd b s.1, upd xvx b s.2.1, upd xvy b s.2.2, sem, sev, a, rsd, bts, len, tgs, dam)) :
    wpX_chooseMode post (qa1, qa2, qa3, qa4, (nI C), (nI R), (nI g), (nI (4 * C)), (nI (4 * R)), xcc, xdc, xpk, xfi, xsl, xcu, nI B, xpx, xpy, xbc, xbl, xto, xwo, xwr, pix, xmd, xvx, xvy, sem, sev, prd, rsd, bts, len, tgs, dam) (nI c) (nI r) (nI kind) (nI q) := by
  unfold wpX_chooseMode
  unfold pv_ch at h
  by_cases hk1 : kind = 1
  · rw [if_pos hk1] at h
    refine br_t (congrArg nI hk1) ?_
    refine xq_predict hC hR (m := 5) (by omega) hc hr hB (fun a ha => ?_)
    refine xq_weigh (by omega) (by omega) ?_
    have e : pv_ws pix a c r 16 = pv_W pix (fun p => pix (384 + p)) (fun p => pix (B + p)) C R c r 5 xpx xpy := (pv_sd_congr 16 (fun i hi => ⟨rfl, ha i hi⟩)).2
    rw [e]
    have e2 : 4 * nI r + nI c = nI b := by rw [pv_4m, nI_add, hb]
    rw [e2]
    refine xq_setB (by omega) ?_
    have e3 : nI q >>> ((2 : Int32) &&& 31) = nI (q / 4) := pv_shr2 (by omega)
    rw [e3]
    by_cases c1 : nI (q / 4) < pv_W pix (fun p => pix (384 + p)) (fun p => pix (B + p)) C R c r 5 xpx xpy
    · rw [if_pos c1] at h
      refine br_t c1 ?_
      refine xq_sm6 (T := T) (st0 := (5000, xbl, 5, xpx, xpy)) hC hR hg hc hr hB hb (hT 4) (fun st a t w es => ?_)
      refine xq_ch69 (T := T) hC hR hc hr hB hb hT (fun st' a t w es' => h a _ _ t w st'.2.2 ?_)
      rw [es', es]
    · rw [if_neg c1] at h
      exact br_f c1 (h a _ _ _ _ (5, xpx, xpy) rfl)
  · rw [if_neg hk1] at h
    refine br_f (fun k => hk1 ((nI_eq (b := 1) (by omega) (by omega)).mp k)) ?_
    have key : wX_chooseMode_69 post (nI c) (nI r) qa1 qa2 qa3 qa4 (nI C) (nI R) (nI g) (nI (4 * C)) (nI (4 * R)) xcc xdc xpk xfi xsl xcu (nI B) xpx xpy 5000 xbl xto xwo xwr pix (upd xmd b (xmd b)) (upd xvx b (xvx b)) (upd xvy b (xvy b)) sem sev prd rsd bts len tgs dam :=
      xq_ch69 (T := T) (st0 := (5000, xbl, xmd b, xvx b, xvy b)) hC hR hc hr hB hb hT (fun st' a t w es' => h a _ _ t w st'.2.2 (by rw [es']))
    rw [pv_us, pv_us, pv_us] at key
    exact key
end
end
section
/-! X: residual, rebuild -/
section
variable {C R g : Nat} {qa1 qa2 qa3 qa4 xcc xdc xpk xfi xsl xcu xrf xpx xpy xbc xbl xto xwo xwr : Int32} {pix xmd xvx xvy sem sev prd rsd bts len tgs dam : Nat → Int32} {post : SX → Prop}
theorem pv_4u {f : Nat → Int32} {a b c d : Nat} {v0 v1 v2 v3 : Int32} {j : Nat} (h0 : j ≠ a) (h1 : j ≠ b) (h2 : j ≠ c) (h3 : j ≠ d) : upd (upd (upd (upd f a v0) b v1) c v2) d v3 j = f j := by
  rw [pk_un h3, pk_un h2, pk_un h1, pk_un h0]
theorem xq_forward {a s : Nat} (hs : 0 < s) (ha : a + 3 * s < 16) (h : ∀ f : Nat → Int32, (∀ t, t < 4 → f (a + t * s) = pv_fw (rsd a) (rsd (a + s)) (rsd (a + 2 * s)) (rsd (a + 3 * s)) t) → (∀ j, (∀ t, t < 4 → j ≠ a + t * s) → f j = rsd j) → post (qa1, qa2, qa3, qa4, (nI C), (nI R), (nI g), (nI (4 * C)), (nI (4 * R)), xcc, xdc, xpk, xfi, xsl, xcu, xrf, xpx, xpy, xbc, xbl, xto, xwo, xwr, pix, xmd, xvx, xvy, sem, sev, prd, f, bts, len, tgs, dam)) : wpX_forward post (qa1, qa2, qa3, qa4, (nI C), (nI R), (nI g), (nI (4 * C)), (nI (4 * R)), xcc, xdc, xpk, xfi, xsl, xcu, xrf, xpx, xpy, xbc, xbl, xto, xwo, xwr, pix, xmd, xvx, xvy, sem, sev, prd, rsd, bts, len, tgs, dam) (nI a) (nI s) := by
  unfold wpX_forward
  have e2 : a + s + s = a + 2 * s := by omega
  have e3 : a + 2 * s + s = a + 3 * s := by omega
  refine nm_r (nI_add a s) (nm_r (e' := nI (a + 2 * s)) (by rw [nI_add, e2]) (nm_r (e' := nI (a + 3 * s)) (by rw [nI_add, e3]) ?_))
  rw [nI_clamp (n := a) (by omega), nI_clamp (n := a + s) (by omega), nI_clamp (n := a + 2 * s) (by omega), nI_clamp (n := a + 3 * s) (by omega)]
  have i0 : vp_in (nI a) 16 := vp_in_nI (by omega) (by omega)
  have i1 : vp_in (nI (a + s)) 16 := vp_in_nI (by omega) (by omega)
  have i2 : vp_in (nI (a + 2 * s)) 16 := vp_in_nI (by omega) (by omega)
  have i3 : vp_in (nI (a + 3 * s)) 16 := vp_in_nI (by omega) (by omega)
  refine ⟨i0, i3, nm_e ⟨i0, i3, nm_e ⟨i1, i2, nm_e ⟨i1, i2, nm_e ⟨i0, nm_e ⟨i1, nm_e ⟨i2, nm_e ⟨i3, nm_e (h _ (fun t ht => ?_) (fun j hj => ?_))⟩⟩⟩⟩⟩⟩⟩⟩
  · match t, ht with
    | 0, _ =>
      rw [Nat.zero_mul, Nat.add_zero, pk_un (by omega), pk_un (by omega), pk_un (by omega), pk_us]
      rfl
    | 1, _ =>
      rw [Nat.one_mul, pk_un (by omega), pk_un (by omega), pk_us]
      rfl
    | 2, _ =>
      rw [pk_un (by omega), pk_us]
      rfl
    | 3, _ =>
      rw [pk_us]
      rfl
  · have j0 := hj 0 (by omega)
    have j1 := hj 1 (by omega)
    have j2 := hj 2 (by omega)
    have j3 := hj 3 (by omega)
    exact pv_4u (by omega) (by omega) (by omega) (by omega)
theorem xq_inverse {a s : Nat} (hs : 0 < s) (ha : a + 3 * s < 16) (h : ∀ f : Nat → Int32, (∀ t, t < 4 → f (a + t * s) = pv_iv (rsd a) (rsd (a + s)) (rsd (a + 2 * s)) (rsd (a + 3 * s)) t) → (∀ j, (∀ t, t < 4 → j ≠ a + t * s) → f j = rsd j) → post (qa1, qa2, qa3, qa4, (nI C), (nI R), (nI g), (nI (4 * C)), (nI (4 * R)), xcc, xdc, xpk, xfi, xsl, xcu, xrf, xpx, xpy, xbc, xbl, xto, xwo, xwr, pix, xmd, xvx, xvy, sem, sev, prd, f, bts, len, tgs, dam)) : wpX_inverse post (qa1, qa2, qa3, qa4, (nI C), (nI R), (nI g), (nI (4 * C)), (nI (4 * R)), xcc, xdc, xpk, xfi, xsl, xcu, xrf, xpx, xpy, xbc, xbl, xto, xwo, xwr, pix, xmd, xvx, xvy, sem, sev, prd, rsd, bts, len, tgs, dam) (nI a) (nI s) := by
  unfold wpX_inverse
  have e2 : a + s + s = a + 2 * s := by omega
  have e3 : a + 2 * s + s = a + 3 * s := by omega
  refine nm_r (nI_add a s) (nm_r (e' := nI (a + 2 * s)) (by rw [nI_add, e2]) (nm_r (e' := nI (a + 3 * s)) (by rw [nI_add, e3]) ?_))
  rw [nI_clamp (n := a) (by omega), nI_clamp (n := a + s) (by omega), nI_clamp (n := a + 2 * s) (by omega), nI_clamp (n := a + 3 * s) (by omega)]
  have i0 : vp_in (nI a) 16 := vp_in_nI (by omega) (by omega)
  have i1 : vp_in (nI (a + s)) 16 := vp_in_nI (by omega) (by omega)
  have i2 : vp_in (nI (a + 2 * s)) 16 := vp_in_nI (by omega) (by omega)
  have i3 : vp_in (nI (a + 3 * s)) 16 := vp_in_nI (by omega) (by omega)
  refine ⟨i0, i2, nm_e ⟨i0, i2, nm_e ⟨i1, i3, nm_e ⟨i1, i3, nm_e ⟨i0, nm_e ⟨i1, nm_e ⟨i2, nm_e ⟨i3, nm_e (h _ (fun t ht => ?_) (fun j hj => ?_))⟩⟩⟩⟩⟩⟩⟩⟩
  · match t, ht with
    | 0, _ =>
      rw [Nat.zero_mul, Nat.add_zero, pk_un (by omega), pk_un (by omega), pk_un (by omega), pk_us]
      rfl
    | 1, _ =>
      rw [Nat.one_mul, pk_un (by omega), pk_un (by omega), pk_us]
      rfl
    | 2, _ =>
      rw [pk_un (by omega), pk_us]
      rfl
    | 3, _ =>
      rw [pk_us]
      rfl
  · have j0 := hj 0 (by omega)
    have j1 := hj 1 (by omega)
    have j2 := hj 2 (by omega)
    have j3 := hj 3 (by omega)
    exact pv_4u (by omega) (by omega) (by omega) (by omega)
theorem xq_quant36 {i : Nat} {d : Int32} (hi : i < 16) (hd : ¬ d = 0) (h : post (qa1, qa2, qa3, qa4, (nI C), (nI R), (nI g), (nI (4 * C)), (nI (4 * R)), xcc, xdc, xpk, xfi, xsl, xcu, xrf, xpx, xpy, xbc, xbl, xto, xwo, xwr, pix, xmd, xvx, xvy, sem, sev, prd, upd rsd i (pv_lv (rsd i) d), bts, len, tgs, dam)) : wX_quantise_36 post (nI i) d qa1 qa2 qa3 qa4 (nI C) (nI R) (nI g) (nI (4 * C)) (nI (4 * R)) xcc xdc xpk xfi xsl xcu xrf xpx xpy xbc xbl xto xwo xwr pix xmd xvx xvy sem sev prd rsd bts len tgs dam := by
  unfold wX_quantise_36
  unfold pv_lv at h
  have ii : vp_in (nI i) 16 := vp_in_nI hi (by omega)
  rw [nI_clamp (by omega)]
  refine ⟨ii, xq_abs ⟨pv_3z, hd, nm_e ⟨ii, br_c (fun e => ⟨ii, nm_e ?_⟩) (fun e => ⟨ii, nm_e ?_⟩)⟩⟩⟩
  · rw [if_pos e] at h; exact h
  · rw [if_neg e] at h; exact h
theorem pv_dv_nz {i q : Nat} (hq : 1 ≤ q) (hq2 : q ≤ 40) : ¬ pv_dv i (nI q) = 0 := by
  unfold pv_dv
  split
  · rw [pv_4m]; exact nI_ne0 (by omega) (by omega)
  · split
    · rw [pv_10m]; exact nI_ne0 (by omega) (by omega)
    · rw [pv_25m]; exact nI_ne0 (by omega) (by omega)
theorem xq_quant {i q : Nat} (hi : i < 16) (hq : 1 ≤ q) (hq2 : q ≤ 40) (h : post (qa1, qa2, qa3, qa4, (nI C), (nI R), (nI g), (nI (4 * C)), (nI (4 * R)), xcc, xdc, xpk, xfi, xsl, xcu, xrf, xpx, xpy, xbc, xbl, xto, xwo, xwr, pix, xmd, xvx, xvy, sem, sev, prd, upd rsd i (pv_lv (rsd i) (pv_dv i (nI q))), bts, len, tgs, dam)) : wpX_quantise post (qa1, qa2, qa3, qa4, (nI C), (nI R), (nI g), (nI (4 * C)), (nI (4 * R)), xcc, xdc, xpk, xfi, xsl, xcu, xrf, xpx, xpy, xbc, xbl, xto, xwo, xwr, pix, xmd, xvx, xvy, sem, sev, prd, rsd, bts, len, tgs, dam) (nI i) (nI q) := by
  have hz := pv_dv_nz (i := i) hq hq2
  unfold wpX_quantise
  refine nm_r (e' := nI (i % 2 + i / 4 % 2)) (by rw [pv_shr2 (by omega), pv_and1 (by omega), pv_and1 (by omega), nI_add]) ?_
  unfold pv_dv at h hz
  by_cases c0 : i % 2 + i / 4 % 2 = 0
  · rw [if_pos c0] at h hz
    exact br_t (congrArg nI c0) (xq_quant36 hi hz h)
  · rw [if_neg c0] at h hz
    refine br_f (nI_ne0 (by omega) (by omega)) ?_
    by_cases c1 : i % 2 + i / 4 % 2 = 1
    · rw [if_pos c1] at h hz
      exact br_t (congrArg nI c1) (xq_quant36 hi hz h)
    · rw [if_neg c1] at h hz
      exact br_f (fun k => c1 ((nI_eq (b := 1) (by omega) (by omega)).mp k)) (xq_quant36 hi hz h)
theorem xq_ms86 {q : Nat} (hq : 1 ≤ q) (hq2 : q ≤ 40) (h : ∀ f : Nat → Int32, (∀ i, i < 16 → f i = pv_lv (rsd i) (pv_dv i (nI q))) → post (qa1, qa2, qa3, qa4, (nI C), (nI R), (nI g), (nI (4 * C)), (nI (4 * R)), xcc, xdc, xpk, xfi, xsl, xcu, xrf, xpx, xpy, xbc, xbl, xto, xwo, xwr, pix, xmd, xvx, xvy, sem, sev, prd, f, bts, len, tgs, dam)) : ∃ n : Nat, wX_measure_86 post (nI q) n 0 qa1 qa2 qa3 qa4 (nI C) (nI R) (nI g) (nI (4 * C)) (nI (4 * R)) xcc xdc xpk xfi xsl xcu xrf xpx xpy xbc xbl xto xwo xwr pix xmd xvx xvy sem sev prd rsd bts len tgs dam := by
  refine loop_0 (fun n i f => wX_measure_86 post (nI q) n (nI i) qa1 qa2 qa3 qa4 (nI C) (nI R) (nI g) (nI (4 * C)) (nI (4 * R)) xcc xdc xpk xfi xsl xcu xrf xpx xpy xbc xbl xto xwo xwr pix xmd xvx xvy sem sev prd f bts len tgs dam) (fun i f => ∀ j, f j = if j < i then pv_lv (rsd j) (pv_dv j (nI q)) else rsd j) 16 rsd (fun j => (if_neg (Nat.not_lt_zero j)).symm) (fun n f hf => ?_) (fun n i f hi hf ih => ?_)
  · exact br_t (nI_le (a := 16) (by omega) (by omega)) (h f (fun i hi => (hf i).trans (if_pos hi)))
  · refine br_f (nI_ge (b := 16) hi (by omega)) (xq_quant hi hq hq2 (nm_r (nI_1 i) (ih _ (fun j => ?_))))
    have hfi := (hf i).trans (if_neg (Nat.lt_irrefl i))
    by_cases e : j = i
    · rw [e, pk_us, if_pos (by omega), hfi]
    · rw [pk_un e, hf j]
      by_cases e2 : j < i
      · rw [if_pos e2, if_pos (by omega)]
      · rw [if_neg e2, if_neg (by omega)]
theorem xq_ms64 {q : Nat} (hq : 1 ≤ q) (hq2 : q ≤ 40) (h : ∀ f : Nat → Int32, (∀ i, i < 16 → f i = pv_lv (pv_fc rsd i) (pv_dv i (nI q))) → post (qa1, qa2, qa3, qa4, (nI C), (nI R), (nI g), (nI (4 * C)), (nI (4 * R)), xcc, xdc, xpk, xfi, xsl, xcu, xrf, xpx, xpy, xbc, xbl, xto, xwo, xwr, pix, xmd, xvx, xvy, sem, sev, prd, f, bts, len, tgs, dam)) : ∃ n : Nat, wX_measure_64 post (nI q) n 0 qa1 qa2 qa3 qa4 (nI C) (nI R) (nI g) (nI (4 * C)) (nI (4 * R)) xcc xdc xpk xfi xsl xcu xrf xpx xpy xbc xbl xto xwo xwr pix xmd xvx xvy sem sev prd rsd bts len tgs dam := by
  refine loop_0 (fun n i f => wX_measure_64 post (nI q) n (nI i) qa1 qa2 qa3 qa4 (nI C) (nI R) (nI g) (nI (4 * C)) (nI (4 * R)) xcc xdc xpk xfi xsl xcu xrf xpx xpy xbc xbl xto xwo xwr pix xmd xvx xvy sem sev prd f bts len tgs dam) (fun k f => ∀ j, j < 16 → f j = if j % 4 < k then pv_fc rsd j else rsd j) 4 rsd (fun j _ => (if_neg (Nat.not_lt_zero _)).symm) (fun n f hf => ?_) (fun n k f hk hf ih => ?_)
  · refine br_t (nI_le (a := 4) (by omega) (by omega)) (xq_ms86 hq hq2 (fun f' hf' => h f' (fun i hi => ?_)))
    rw [hf' i hi, hf i hi, if_pos (by omega)]
  · refine br_f (nI_ge (b := 4) hk (by omega)) (xq_forward (a := k) (s := 4) (by omega) (by omega) (fun f' h1 h2 => nm_r (nI_1 k) (ih _ (fun j hj => ?_))))
    have g : ∀ t, t < 4 → f (k + 4 * t) = rsd (k + 4 * t) := fun t ht => by
      rw [hf _ (by omega), if_neg (by omega)]
    by_cases e : j % 4 = k
    · have hh := h1 (j / 4) (by omega)
      have ej : k + j / 4 * 4 = j := by omega
      rw [ej] at hh
      rw [hh, if_pos (by omega)]
      have g0 := g 0 (by omega)
      have g1 := g 1 (by omega)
      have g2 := g 2 (by omega)
      have g3 := g 3 (by omega)
      unfold pv_fc
      rw [e]
      show pv_fw (f (k + 4 * 0)) (f (k + 4 * 1)) (f (k + 4 * 2)) (f (k + 4 * 3)) (j / 4) = _
      rw [g0, g1, g2, g3]
      rfl
    · rw [h2 j (fun t ht => by omega), hf j hj]
      by_cases e2 : j % 4 < k
      · rw [if_pos e2, if_pos (by omega)]
      · rw [if_neg e2, if_neg (by omega)]
theorem pv_fc_congr {f f' : Nat → Int32} (h : ∀ i, i < 16 → f i = f' i) {i : Nat} (hi : i < 16) : pv_fc f i = pv_fc f' i := by
  unfold pv_fc
  rw [h (i % 4) (by omega), h (i % 4 + 4) (by omega), h (i % 4 + 8) (by omega), h (i % 4 + 12) (by omega)]
theorem pv_fr_congr {f f' : Nat → Int32} (h : ∀ i, i < 16 → f i = f' i) {i : Nat} (hi : i < 16) : pv_fr f i = pv_fr f' i := by
  unfold pv_fr
  rw [h (4 * (i / 4)) (by omega), h (4 * (i / 4) + 1) (by omega), h (4 * (i / 4) + 2) (by omega), h (4 * (i / 4) + 3) (by omega)]
theorem pv_ic_congr {f f' : Nat → Int32} (h : ∀ i, i < 16 → f i = f' i) {i : Nat} (hi : i < 16) : pv_ic f i = pv_ic f' i := by
  unfold pv_ic
  rw [h (i % 4) (by omega), h (i % 4 + 4) (by omega), h (i % 4 + 8) (by omega), h (i % 4 + 12) (by omega)]
theorem pv_ir_congr {f f' : Nat → Int32} (h : ∀ i, i < 16 → f i = f' i) {i : Nat} (hi : i < 16) : pv_ir f i = pv_ir f' i := by
  unfold pv_ir
  rw [h (4 * (i / 4)) (by omega), h (4 * (i / 4) + 1) (by omega), h (4 * (i / 4) + 2) (by omega), h (4 * (i / 4) + 3) (by omega)]
theorem xq_ms40 {q : Nat} (hq : 1 ≤ q) (hq2 : q ≤ 40) (h : ∀ f : Nat → Int32, (∀ i, i < 16 → f i = pv_lv (pv_fc (pv_fr rsd) i) (pv_dv i (nI q))) → post (qa1, qa2, qa3, qa4, (nI C), (nI R), (nI g), (nI (4 * C)), (nI (4 * R)), xcc, xdc, xpk, xfi, xsl, xcu, xrf, xpx, xpy, xbc, xbl, xto, xwo, xwr, pix, xmd, xvx, xvy, sem, sev, prd, f, bts, len, tgs, dam)) : ∃ n : Nat, wX_measure_40 post (nI q) n 0 qa1 qa2 qa3 qa4 (nI C) (nI R) (nI g) (nI (4 * C)) (nI (4 * R)) xcc xdc xpk xfi xsl xcu xrf xpx xpy xbc xbl xto xwo xwr pix xmd xvx xvy sem sev prd rsd bts len tgs dam := by
  refine loop_0 (fun n i f => wX_measure_40 post (nI q) n (nI i) qa1 qa2 qa3 qa4 (nI C) (nI R) (nI g) (nI (4 * C)) (nI (4 * R)) xcc xdc xpk xfi xsl xcu xrf xpx xpy xbc xbl xto xwo xwr pix xmd xvx xvy sem sev prd f bts len tgs dam) (fun k f => ∀ j, j < 16 → f j = if j / 4 < k then pv_fr rsd j else rsd j) 4 rsd (fun j _ => (if_neg (Nat.not_lt_zero _)).symm) (fun n f hf => ?_) (fun n k f hk hf ih => ?_)
  · refine br_t (nI_le (a := 4) (by omega) (by omega)) (xq_ms64 hq hq2 (fun f' hf' => h f' (fun i hi => ?_)))
    rw [hf' i hi, pv_fc_congr (f' := pv_fr rsd) (fun j hj => by rw [hf j hj, if_pos (by omega)]) hi]
  · refine br_f (nI_ge (b := 4) hk (by omega)) ?_
    rw [pv_4m]
    refine xq_forward (a := 4 * k) (s := 1) (by omega) (by omega) (fun f' h1 h2 => nm_r (nI_1 k) (ih _ (fun j hj => ?_)))
    have g : ∀ t, t < 4 → f (4 * k + t) = rsd (4 * k + t) := fun t ht => by
      rw [hf _ (by omega), if_neg (by omega)]
    by_cases e : j / 4 = k
    · have hh := h1 (j % 4) (by omega)
      have ej : 4 * k + j % 4 * 1 = j := by omega
      rw [ej] at hh
      rw [hh, if_pos (by omega)]
      have g0 := g 0 (by omega)
      have g1 := g 1 (by omega)
      have g2 := g 2 (by omega)
      have g3 := g 3 (by omega)
      unfold pv_fr
      rw [e]
      show pv_fw (f (4 * k + 0)) (f (4 * k + 1)) (f (4 * k + 2)) (f (4 * k + 3)) (j % 4) = _
      rw [g0, g1, g2, g3]
      rfl
    · rw [h2 j (fun t ht => by omega), hf j hj]
      by_cases e2 : j / 4 < k
      · rw [if_pos e2, if_pos (by omega)]
      · rw [if_neg e2, if_neg (by omega)]
theorem pv_ms_congr {q : Nat} {f f' : Nat → Int32} (h : ∀ i, i < 16 → f i = f' i) {i : Nat} (hi : i < 16) : pv_ms q f i = pv_ms q f' i := by
  unfold pv_ms
  rw [h i hi, pv_fc_congr (f := pv_fr f) (f' := pv_fr f') (fun j hj => pv_fr_congr h hj) hi]
theorem xq_measure {c r q : Nat} (hc : c < 4) (hr : r < 2) (hq2 : q ≤ 40) (h : ∀ f : Nat → Int32, (∀ i, i < 16 → f i = pv_ms q (fun j => pix (pv_at c r j) - prd j) i) → post (qa1, qa2, qa3, qa4, (nI C), (nI R), (nI g), (nI (4 * C)), (nI (4 * R)), xcc, xdc, xpk, xfi, xsl, xcu, xrf, xpx, xpy, xbc, xbl, xto, xwo, xwr, pix, xmd, xvx, xvy, sem, sev, prd, f, bts, len, tgs, dam)) : wpX_measure post (qa1, qa2, qa3, qa4, (nI C), (nI R), (nI g), (nI (4 * C)), (nI (4 * R)), xcc, xdc, xpk, xfi, xsl, xcu, xrf, xpx, xpy, xbc, xbl, xto, xwo, xwr, pix, xmd, xvx, xvy, sem, sev, prd, rsd, bts, len, tgs, dam) (nI c) (nI r) (nI q) := by
  unfold wpX_measure
  refine loop_0 (fun n i f => wX_measure_3 post (nI c) (nI r) (nI q) qa1 qa2 qa3 qa4 (nI C) (nI R) (nI g) (nI (4 * C)) (nI (4 * R)) xcc xdc xpk xfi xsl xcu xrf xpx xpy xbc xbl xto xwo xwr n (nI i) pix xmd xvx xvy sem sev prd f bts len tgs dam) (fun i f => ∀ j, j < i → f j = pix (pv_at c r j) - prd j) 16 rsd lt_0 (fun n f hf => ?_) (fun n i f hi hf ih => ?_)
  · refine br_t (nI_le (a := 16) (by omega) (by omega)) ?_
    by_cases q0 : 1 ≤ q
    · refine br_t (nI_le (a := 1) q0 (by omega)) (xq_ms40 q0 hq2 (fun f' hf' => h f' (fun i hi => ?_)))
      unfold pv_ms
      rw [if_neg (by omega), hf' i hi, pv_fc_congr (f := pv_fr f) (fun j hj => pv_fr_congr hf hj) hi]
    · refine br_f (nI_ge (b := 1) (by omega) (by omega)) (h f (fun i hi => ?_))
      unfold pv_ms
      rw [if_pos (by omega), hf i hi]
  · refine br_f (nI_ge (b := 16) hi (by omega)) (xq_error hc hr hi ?_)
    rw [nI_clamp (by omega)]
    exact ⟨vp_in_nI hi (by omega), nm_e (nm_r (nI_1 i) (ih _ (pv_lt_s hf rfl)))⟩
theorem xq_rr66 (h : ∀ f : Nat → Int32, (∀ i, i < 16 → f i = (rsd i + 2) >>> ((2 : Int32) &&& 31)) → post (qa1, qa2, qa3, qa4, (nI C), (nI R), (nI g), (nI (4 * C)), (nI (4 * R)), xcc, xdc, xpk, xfi, xsl, xcu, xrf, xpx, xpy, xbc, xbl, xto, xwo, xwr, pix, xmd, xvx, xvy, sem, sev, prd, f, bts, len, tgs, dam)) : ∃ n : Nat, wX_restoreResidual_66 post qa1 qa2 qa3 qa4 (nI C) (nI R) (nI g) (nI (4 * C)) (nI (4 * R)) xcc xdc xpk xfi xsl xcu xrf xpx xpy xbc xbl xto xwo xwr n 0 pix xmd xvx xvy sem sev prd rsd bts len tgs dam := by
  refine loop_0 (fun n i f => wX_restoreResidual_66 post qa1 qa2 qa3 qa4 (nI C) (nI R) (nI g) (nI (4 * C)) (nI (4 * R)) xcc xdc xpk xfi xsl xcu xrf xpx xpy xbc xbl xto xwo xwr n (nI i) pix xmd xvx xvy sem sev prd f bts len tgs dam) (fun i f => ∀ j, f j = if j < i then (rsd j + 2) >>> ((2 : Int32) &&& 31) else rsd j) 16 rsd (fun j => (if_neg (Nat.not_lt_zero j)).symm) (fun n f hf => ?_) (fun n i f hi hf ih => ?_)
  · exact br_t (nI_le (a := 16) (by omega) (by omega)) (h f (fun i hi => (hf i).trans (if_pos hi)))
  · refine br_f (nI_ge (b := 16) hi (by omega)) ?_
    rw [nI_clamp (by omega)]
    refine ⟨vp_in_nI hi (by omega), vp_in_nI hi (by omega), nm_e (nm_r (nI_1 i) (ih _ (fun j => ?_)))⟩
    have hfi := (hf i).trans (if_neg (Nat.lt_irrefl i))
    by_cases e : j = i
    · rw [e, pk_us, if_pos (by omega), hfi]
    · rw [pk_un e, hf j]
      by_cases e2 : j < i
      · rw [if_pos e2, if_pos (by omega)]
      · rw [if_neg e2, if_neg (by omega)]
theorem xq_rr45 (h : ∀ f : Nat → Int32, (∀ i, i < 16 → f i = (pv_ir rsd i + 2) >>> ((2 : Int32) &&& 31)) → post (qa1, qa2, qa3, qa4, (nI C), (nI R), (nI g), (nI (4 * C)), (nI (4 * R)), xcc, xdc, xpk, xfi, xsl, xcu, xrf, xpx, xpy, xbc, xbl, xto, xwo, xwr, pix, xmd, xvx, xvy, sem, sev, prd, f, bts, len, tgs, dam)) : ∃ n : Nat, wX_restoreResidual_45 post n 0 qa1 qa2 qa3 qa4 (nI C) (nI R) (nI g) (nI (4 * C)) (nI (4 * R)) xcc xdc xpk xfi xsl xcu xrf xpx xpy xbc xbl xto xwo xwr pix xmd xvx xvy sem sev prd rsd bts len tgs dam := by
  refine loop_0 (fun n i f => wX_restoreResidual_45 post n (nI i) qa1 qa2 qa3 qa4 (nI C) (nI R) (nI g) (nI (4 * C)) (nI (4 * R)) xcc xdc xpk xfi xsl xcu xrf xpx xpy xbc xbl xto xwo xwr pix xmd xvx xvy sem sev prd f bts len tgs dam) (fun k f => ∀ j, j < 16 → f j = if j / 4 < k then pv_ir rsd j else rsd j) 4 rsd (fun j _ => (if_neg (Nat.not_lt_zero _)).symm) (fun n f hf => ?_) (fun n k f hk hf ih => ?_)
  · refine br_t (nI_le (a := 4) (by omega) (by omega)) (xq_rr66 (fun f' hf' => h f' (fun i hi => ?_)))
    rw [hf' i hi, hf i hi, if_pos (by omega)]
  · refine br_f (nI_ge (b := 4) hk (by omega)) ?_
    rw [pv_4m]
    refine xq_inverse (a := 4 * k) (s := 1) (by omega) (by omega) (fun f' h1 h2 => nm_r (nI_1 k) (ih _ (fun j hj => ?_)))
    have g : ∀ t, t < 4 → f (4 * k + t) = rsd (4 * k + t) := fun t ht => by
      rw [hf _ (by omega), if_neg (by omega)]
    by_cases e : j / 4 = k
    · have hh := h1 (j % 4) (by omega)
      have ej : 4 * k + j % 4 * 1 = j := by omega
      rw [ej] at hh
      rw [hh, if_pos (by omega)]
      have g0 := g 0 (by omega)
      have g1 := g 1 (by omega)
      have g2 := g 2 (by omega)
      have g3 := g 3 (by omega)
      unfold pv_ir
      rw [e]
      show pv_iv (f (4 * k + 0)) (f (4 * k + 1)) (f (4 * k + 2)) (f (4 * k + 3)) (j % 4) = _
      rw [g0, g1, g2, g3]
      rfl
    · rw [h2 j (fun t ht => by omega), hf j hj]
      by_cases e2 : j / 4 < k
      · rw [if_pos e2, if_pos (by omega)]
      · rw [if_neg e2, if_neg (by omega)]
theorem xq_rr26 (h : ∀ f : Nat → Int32, (∀ i, i < 16 → f i = (pv_ir (pv_ic rsd) i + 2) >>> ((2 : Int32) &&& 31)) → post (qa1, qa2, qa3, qa4, (nI C), (nI R), (nI g), (nI (4 * C)), (nI (4 * R)), xcc, xdc, xpk, xfi, xsl, xcu, xrf, xpx, xpy, xbc, xbl, xto, xwo, xwr, pix, xmd, xvx, xvy, sem, sev, prd, f, bts, len, tgs, dam)) : ∃ n : Nat, wX_restoreResidual_26 post n 0 qa1 qa2 qa3 qa4 (nI C) (nI R) (nI g) (nI (4 * C)) (nI (4 * R)) xcc xdc xpk xfi xsl xcu xrf xpx xpy xbc xbl xto xwo xwr pix xmd xvx xvy sem sev prd rsd bts len tgs dam := by
  refine loop_0 (fun n i f => wX_restoreResidual_26 post n (nI i) qa1 qa2 qa3 qa4 (nI C) (nI R) (nI g) (nI (4 * C)) (nI (4 * R)) xcc xdc xpk xfi xsl xcu xrf xpx xpy xbc xbl xto xwo xwr pix xmd xvx xvy sem sev prd f bts len tgs dam) (fun k f => ∀ j, j < 16 → f j = if j % 4 < k then pv_ic rsd j else rsd j) 4 rsd (fun j _ => (if_neg (Nat.not_lt_zero _)).symm) (fun n f hf => ?_) (fun n k f hk hf ih => ?_)
  · refine br_t (nI_le (a := 4) (by omega) (by omega)) (xq_rr45 (fun f' hf' => h f' (fun i hi => ?_)))
    rw [hf' i hi, pv_ir_congr (f' := pv_ic rsd) (fun j hj => by rw [hf j hj, if_pos (by omega)]) hi]
  · refine br_f (nI_ge (b := 4) hk (by omega)) (xq_inverse (a := k) (s := 4) (by omega) (by omega) (fun f' h1 h2 => nm_r (nI_1 k) (ih _ (fun j hj => ?_))))
    have g : ∀ t, t < 4 → f (k + 4 * t) = rsd (k + 4 * t) := fun t ht => by
      rw [hf _ (by omega), if_neg (by omega)]
    by_cases e : j % 4 = k
    · have hh := h1 (j / 4) (by omega)
      have ej : k + j / 4 * 4 = j := by omega
      rw [ej] at hh
      rw [hh, if_pos (by omega)]
      have g0 := g 0 (by omega)
      have g1 := g 1 (by omega)
      have g2 := g 2 (by omega)
      have g3 := g 3 (by omega)
      unfold pv_ic
      rw [e]
      show pv_iv (f (k + 4 * 0)) (f (k + 4 * 1)) (f (k + 4 * 2)) (f (k + 4 * 3)) (j / 4) = _
      rw [g0, g1, g2, g3]
      rfl
    · rw [h2 j (fun t ht => by omega), hf j hj]
      by_cases e2 : j % 4 < k
      · rw [if_pos e2, if_pos (by omega)]
      · rw [if_neg e2, if_neg (by omega)]
theorem xq_restore {q : Nat} (hq : 1 ≤ q) (h : ∀ f : Nat → Int32, (∀ i, i < 16 → f i = pv_rs q rsd i) → post (qa1, qa2, qa3, qa4, (nI C), (nI R), (nI g), (nI (4 * C)), (nI (4 * R)), xcc, xdc, xpk, xfi, xsl, xcu, xrf, xpx, xpy, xbc, xbl, xto, xwo, xwr, pix, xmd, xvx, xvy, sem, sev, prd, f, bts, len, tgs, dam)) : wpX_restoreResidual post (qa1, qa2, qa3, qa4, (nI C), (nI R), (nI g), (nI (4 * C)), (nI (4 * R)), xcc, xdc, xpk, xfi, xsl, xcu, xrf, xpx, xpy, xbc, xbl, xto, xwo, xwr, pix, xmd, xvx, xvy, sem, sev, prd, rsd, bts, len, tgs, dam) (nI q) := by
  unfold wpX_restoreResidual
  refine loop_0 (fun n i f => wX_restoreResidual_2 post (nI q) qa1 qa2 qa3 qa4 (nI C) (nI R) (nI g) (nI (4 * C)) (nI (4 * R)) xcc xdc xpk xfi xsl xcu xrf xpx xpy xbc xbl xto xwo xwr n (nI i) pix xmd xvx xvy sem sev prd f bts len tgs dam) (fun i f => ∀ j, f j = if j < i then rsd j * nI q else rsd j) 16 rsd (fun j => (if_neg (Nat.not_lt_zero j)).symm) (fun n f hf => ?_) (fun n i f hi hf ih => ?_)
  · refine br_t (nI_le (a := 16) (by omega) (by omega)) (xq_rr26 (fun f' hf' => h f' (fun i hi => ?_)))
    unfold pv_rs
    rw [if_neg (by omega), hf' i hi, pv_ir_congr (f := pv_ic f) (fun j hj => pv_ic_congr (f' := fun j => rsd j * nI q) (fun j hj => (hf j).trans (if_pos hj)) hj) hi]
  · refine br_f (nI_ge (b := 16) hi (by omega)) ?_
    rw [nI_clamp (by omega)]
    refine ⟨vp_in_nI hi (by omega), vp_in_nI hi (by omega), nm_e (nm_r (nI_1 i) (ih _ (fun j => ?_)))⟩
    have hfi := (hf i).trans (if_neg (Nat.lt_irrefl i))
    by_cases e : j = i
    · rw [e, pk_us, if_pos (by omega), hfi]
    · rw [pk_un e, hf j]
      by_cases e2 : j < i
      · rw [if_pos e2, if_pos (by omega)]
      · rw [if_neg e2, if_neg (by omega)]
theorem pv_at_inj {c r i j : Nat} (hi : i < 16) (hj : j < 16) (h : pv_at c r i = pv_at c r j) : i = j := by
  unfold pv_at at h
  omega
theorem xq_rb12 {c r : Nat} (hc : c < 4) (hr : r < 2) (h : ∀ a : Nat → Int32, (∀ i, i < 16 → a (384 + pv_at c r i) = pv_cl (prd i + rsd i) 0 255) → (∀ p, (∀ i, i < 16 → p ≠ 384 + pv_at c r i) → a p = pix p) → post (qa1, qa2, qa3, qa4, (nI C), (nI R), (nI g), (nI (4 * C)), (nI (4 * R)), xcc, xdc, xpk, xfi, xsl, xcu, xrf, xpx, xpy, xbc, xbl, xto, xwo, xwr, a, xmd, xvx, xvy, sem, sev, prd, rsd, bts, len, tgs, dam)) : ∃ n : Nat, wX_rebuild_12 post (nI c) (nI r) qa1 qa2 qa3 qa4 (nI C) (nI R) (nI g) (nI (4 * C)) (nI (4 * R)) xcc xdc xpk xfi xsl xcu xrf xpx xpy xbc xbl xto xwo xwr n 0 pix xmd xvx xvy sem sev prd rsd bts len tgs dam := by
  refine loop_0 (fun n i a => wX_rebuild_12 post (nI c) (nI r) qa1 qa2 qa3 qa4 (nI C) (nI R) (nI g) (nI (4 * C)) (nI (4 * R)) xcc xdc xpk xfi xsl xcu xrf xpx xpy xbc xbl xto xwo xwr n (nI i) a xmd xvx xvy sem sev prd rsd bts len tgs dam) (fun i a => (∀ j, j < i → a (384 + pv_at c r j) = pv_cl (prd j + rsd j) 0 255) ∧ (∀ p, (∀ j, j < i → p ≠ 384 + pv_at c r j) → a p = pix p)) 16 pix ⟨lt_0, fun _ _ => rfl⟩ (fun n a ha => ?_) (fun n i a hi ha ih => ?_)
  · exact br_t (nI_le (a := 16) (by omega) (by omega)) (h a ha.1 ha.2)
  · refine br_f (nI_ge (b := 16) hi (by omega)) (xq_at hi ?_)
    have ei : (nI i).toNatClampNeg = i := nI_clamp (by omega)
    have hat := pv_at_lt hc hr hi
    refine ⟨vp_in_nI hi (by omega), vp_in_nI hi (by omega), xq_clamp ?_⟩
    rw [ei, pv_384, nI_clamp (by omega)]
    refine ⟨vp_in_nI (by omega) (by omega), nm_e (nm_r (nI_1 i) (ih _ ⟨fun j hj => ?_, fun p hp => ?_⟩))⟩
    · by_cases e : j = i
      · rw [e, pk_us]
      · rw [pk_un (fun k => e (pv_at_inj (c := c) (r := r) (by omega) hi (by omega))), ha.1 j (by omega)]
    · rw [pk_un (hp i (by omega)), ha.2 p (fun j hj => hp j (by omega))]
theorem xq_rebuild {c r q : Nat} (hc : c < 4) (hr : r < 2) (hq2 : q ≤ 40) (h : ∀ a f : Nat → Int32, (∀ i, i < 16 → a (384 + pv_at c r i) = pv_rc q prd rsd i) → (∀ p, (∀ i, i < 16 → p ≠ 384 + pv_at c r i) → a p = pix p) → post (qa1, qa2, qa3, qa4, (nI C), (nI R), (nI g), (nI (4 * C)), (nI (4 * R)), xcc, xdc, xpk, xfi, xsl, xcu, xrf, xpx, xpy, xbc, xbl, xto, xwo, xwr, a, xmd, xvx, xvy, sem, sev, prd, f, bts, len, tgs, dam)) : wpX_rebuild post (qa1, qa2, qa3, qa4, (nI C), (nI R), (nI g), (nI (4 * C)), (nI (4 * R)), xcc, xdc, xpk, xfi, xsl, xcu, xrf, xpx, xpy, xbc, xbl, xto, xwo, xwr, pix, xmd, xvx, xvy, sem, sev, prd, rsd, bts, len, tgs, dam) (nI c) (nI r) (nI q) := by
  unfold wpX_rebuild
  by_cases q0 : q = 0
  · refine br_t (nI_le (b := 0) (by omega) (by omega)) (xq_rb12 hc hr (fun a h1 h2 => h a _ (fun i hi => ?_) h2))
    rw [h1 i hi]
    unfold pv_rc pv_rs
    rw [if_pos q0]
  · refine br_f (nI_nle (by omega) (by omega)) (xq_restore (by omega) (fun f hf => xq_rb12 hc hr (fun a h1 h2 => h a _ (fun i hi => ?_) h2)))
    rw [h1 i hi, hf i hi]
    rfl
end
end
section
/-! bits -/
def pv_b (x : Int32) : Nat := if x = 0 then 0 else 1
def pv_bn (B : Nat → Int32) (o : Nat) : Nat → Nat
  | 0 => 0
  | n + 1 => 2 * pv_bn B o n + pv_b (B (o + n))
def pv_sl (b : Nat → Int32) (s : Nat) : Nat → Int32 := fun j => b (4096 * s + j)
def pv_01 (b : Nat → Int32) : Prop := ∀ j, b j = 0 ∨ b j = 1
def pv_eg (B : Nat → Int32) (o V o' : Nat) : Prop := ∃ k, k ≤ 12 ∧ (∀ j, j < k → B (o + j) = 0) ∧ ¬ B (o + k) = 0 ∧ 2 ^ k + pv_bn B (o + k + 1) k = V + 1 ∧ o' = o + 2 * k + 1
def pv_dc (V : Nat) : Int32 := if V % 2 = 0 then -nI (V / 2) else nI ((V + 1) / 2)
def pv_cd (v : Int32) : Nat := if 0 < v.toInt then 2 * v.toInt.toNat - 1 else 2 * (-v.toInt).toNat
def pv_sg (B : Nat → Int32) (o : Nat) (v : Int32) (o' : Nat) : Prop := ∃ V, pv_eg B o V o' ∧ V < 8191 ∧ v = pv_dc V
theorem pv_b_le (x : Int32) : pv_b x ≤ 1 := by
  unfold pv_b
  split <;> omega
theorem pv_bn_lt (B : Nat → Int32) (o : Nat) : ∀ n, pv_bn B o n < 2 ^ n
  | 0 => Nat.one_pos
  | n + 1 => by
    have a := pv_bn_lt B o n
    have b := pv_b_le (B (o + n))
    show 2 * pv_bn B o n + pv_b (B (o + n)) < 2 ^ (n + 1)
    rw [Nat.pow_succ]
    omega
theorem pv_bn_congr {B B' : Nat → Int32} {o : Nat} : ∀ n : Nat, (∀ j, j < n → B (o + j) = B' (o + j)) → pv_bn B o n = pv_bn B' o n
  | 0, _ => rfl
  | n + 1, h => by
    have a := pv_bn_congr n (fun j hj => h j (by omega))
    show 2 * pv_bn B o n + pv_b (B (o + n)) = 2 * pv_bn B' o n + pv_b (B' (o + n))
    rw [a, h n (by omega)]
theorem pv_bn_inj {B B' : Nat → Int32} {o : Nat} : ∀ n : Nat, pv_bn B o n = pv_bn B' o n → ∀ j, j < n → pv_b (B (o + j)) = pv_b (B' (o + j))
  | 0, _ => fun j hj => absurd hj (Nat.not_lt_zero j)
  | n + 1, h => fun j hj => by
    have e : 2 * pv_bn B o n + pv_b (B (o + n)) = 2 * pv_bn B' o n + pv_b (B' (o + n)) := h
    have b := pv_b_le (B (o + n))
    have b' := pv_b_le (B' (o + n))
    by_cases k : j = n
    · rw [k]
      omega
    · exact pv_bn_inj n (by omega) j (by omega)
theorem pv_eg_congr {B B' : Nat → Int32} {o V o' : Nat} (h : pv_eg B o V o') (hb : ∀ j, o ≤ j → j < o' → B' j = B j) : pv_eg B' o V o' := by
  obtain ⟨k, hk, h0, h1, h2, h3⟩ := h
  refine ⟨k, hk, fun j hj => ?_, ?_, ?_, h3⟩
  · rw [hb _ (by omega) (by omega)]
    exact h0 j hj
  · rw [hb _ (by omega) (by omega)]
    exact h1
  · rw [pv_bn_congr (B' := B) k (fun j hj => hb _ (by omega) (by omega))]
    exact h2
theorem pv_eg_le {B : Nat → Int32} {o V o' : Nat} (h : pv_eg B o V o') : o < o' ∧ o' ≤ o + 25 := by
  obtain ⟨k, hk, h0, h1, h2, h3⟩ := h
  omega
theorem pv_sg_congr {B B' : Nat → Int32} {o o' : Nat} {v : Int32} (h : pv_sg B o v o') (hb : ∀ j, o ≤ j → j < o' → B' j = B j) : pv_sg B' o v o' := by
  obtain ⟨V, h1, h2⟩ := h
  exact ⟨V, pv_eg_congr h1 hb, h2⟩
theorem pv_sg_le {B : Nat → Int32} {o o' : Nat} {v : Int32} (h : pv_sg B o v o') : o < o' ∧ o' ≤ o + 25 := by
  obtain ⟨V, h1, h2⟩ := h
  exact pv_eg_le h1
theorem pv_cd_lt {v : Int32} (h : pv_bd 4095 v) : pv_cd v < 8191 := by
  unfold pv_bd at h
  unfold pv_cd
  split <;> omega
theorem pv_negn {w : Nat} (h : w < 2 ^ 31) : (-nI w).toInt = -(w : Int) := by
  rw [pv_neg (by rw [nI_toInt h]; omega), nI_toInt h]
theorem pv_dc_cd {v : Int32} (h : pv_bd 4095 v) : pv_dc (pv_cd v) = v := by
  unfold pv_bd at h
  unfold pv_cd pv_dc
  apply Int32.toInt_inj.mp
  by_cases p : 0 < v.toInt
  · rw [if_pos p, if_neg (by omega), nI_toInt (by omega)]
    omega
  · rw [if_neg p, if_pos (by omega), pv_negn (by omega)]
    omega
theorem pv_cd_neg {v : Int32} (h : pv_bd 4095 v) (p : v ≤ 0) : (-2) * v = nI (pv_cd v) := by
  unfold pv_bd at h
  have e0 : (0 : Int32).toInt = 0 := by decide
  have e2 : (-2 : Int32).toInt = -2 := by decide
  rw [Int32.le_iff_toInt_le, e0] at p
  unfold pv_cd
  apply Int32.toInt_inj.mp
  rw [if_neg (by omega), nI_toInt (by omega), pv_mul (by rw [e2]; omega) (by rw [e2]; omega), e2]
  omega
theorem pv_cd_pos {v : Int32} (h : pv_bd 4095 v) (p : ¬ v ≤ 0) : 2 * v - 1 = nI (pv_cd v) := by
  unfold pv_bd at h
  have e0 : (0 : Int32).toInt = 0 := by decide
  have e1 : (1 : Int32).toInt = 1 := by decide
  have e2 : (2 : Int32).toInt = 2 := by decide
  rw [Int32.le_iff_toInt_le, e0] at p
  have e3 : (2 * v).toInt = 2 * v.toInt := by
    rw [pv_mul (by rw [e2]; omega) (by rw [e2]; omega), e2]
  unfold pv_cd
  apply Int32.toInt_inj.mp
  rw [if_pos (by omega), nI_toInt (by omega), pv_sub (by rw [e3, e1]; omega) (by rw [e3, e1]; omega), e3, e1]
  omega
theorem pv_km {k : Nat} (h : k < 2 ^ 30) : nI (k + 1) - 1 + (-1) = nI k - 1 := by
  rw [nI_pred, Int32.sub_eq_add_neg]
theorem pv_kneg : nI 0 - 1 < 0 := by decide
theorem pv_kpos {k : Nat} (h : k < 2 ^ 30) : ¬ nI (k + 1) - 1 < 0 := by
  rw [nI_pred]
  exact nI_pos (by omega)
section
variable {C R g : Nat} {qa1 qa2 qa3 qa4 xcc xdc xpk xfi xsl xcu xrf xpx xpy xbc xbl xto xwo xwr : Int32} {pix xmd xvx xvy sem sev prd rsd bts len tgs dam : Nat → Int32} {post : Int32 → SX → Prop}
theorem xq_c65 {J : Int32 → Int32 → Int32 → (Nat → Int32) → (Nat → Int32) → (Nat → Int32) → (Nat → Int32) → (Nat → Int32) → (Nat → Int32) → (Nat → Int32) → (Nat → Int32) → (Nat → Int32) → (Nat → Int32) → (Nat → Int32) → (Nat → Int32) → Prop} {x1 : Int32} {gg k p cu : Nat} (hp : p < 8192) (hk : k < 2 ^ 30) (h : J (nI (2 * gg + pv_b (bts p))) (nI k - 1) (nI (cu + 1)) pix xmd xvx xvy sem sev prd rsd bts len tgs dam) : wX_carry_65 post J x1 (nI gg) (nI (k + 1) - 1) (nI p) qa1 qa2 qa3 qa4 (nI C) (nI R) (nI g) (nI (4 * C)) (nI (4 * R)) xcc xdc xpk xfi xsl (nI cu) xrf xpx xpy xbc xbl xto xwo xwr pix xmd xvx xvy sem sev prd rsd bts len tgs dam := by
  unfold wX_carry_65 wX_carry_83
  rw [nI_clamp (by omega)]
  refine ⟨vp_in_nI hp (by omega), br_c (fun e => ?_) (fun e => ?_)⟩
  · have eb : pv_b (bts p) = 0 := if_pos e
    rw [eb] at h
    exact nm_r (by rw [pv_2m]; exact Int32.add_zero _) (nm_r (nI_1 cu) (nm_r (pv_km hk) h))
  · have eb : pv_b (bts p) = 1 := if_neg e
    rw [eb] at h
    exact nm_r (by rw [pv_2m, nI_1]) (nm_r (nI_1 cu) (nm_r (pv_km hk) h))
theorem xq_carryR {s cu n : Nat} {v : Int32} (hs : s < 2) (hn : n ≤ 16) (hcu : cu + n ≤ 4096) (h : post (nI (pv_bn (pv_sl bts s) cu n)) (qa1, qa2, qa3, qa4, (nI C), (nI R), (nI g), (nI (4 * C)), (nI (4 * R)), xcc, xdc, xpk, xfi, nI s, nI (cu + n), xrf, xpx, xpy, xbc, xbl, xto, xwo, 0, pix, xmd, xvx, xvy, sem, sev, prd, rsd, bts, len, tgs, dam)) : wpX_carry post (qa1, qa2, qa3, qa4, (nI C), (nI R), (nI g), (nI (4 * C)), (nI (4 * R)), xcc, xdc, xpk, xfi, nI s, nI cu, xrf, xpx, xpy, xbc, xbl, xto, xwo, 0, pix, xmd, xvx, xvy, sem, sev, prd, rsd, bts, len, tgs, dam) v (nI n) := by
  unfold wpX_carry
  refine nm_e ?_
  refine loop_0 (fun f i (a : Int32) => wX_carry_7 post v qa1 qa2 qa3 qa4 (nI C) (nI R) (nI g) (nI (4 * C)) (nI (4 * R)) xcc xdc xpk xfi (nI s) xrf xpx xpy xbc xbl xto xwo 0 f a (nI (n - i) - 1) (nI (cu + i)) pix xmd xvx xvy sem sev prd rsd bts len tgs dam) (fun i a => a = nI (pv_bn (pv_sl bts s) cu i)) n 0 rfl (fun f a ha => ?_) (fun f i a hi ha ih => ?_)
  · rw [Nat.sub_self, ha]
    exact br_t pv_kneg h
  · obtain ⟨k, hk⟩ : ∃ k, n - i = k + 1 := ⟨n - i - 1, by omega⟩
    have hk2 : n - (i + 1) = k := by omega
    rw [hk2] at ih
    rw [hk, ha]
    refine br_f (pv_kpos (by omega)) (br_f (nI_ge (b := 4096) (by omega) (by omega)) (nm_r (e' := nI (4096 * s + (cu + i))) (by rw [pv_4096m, nI_add]) (br_t rfl ?_)))
    exact xq_c65 (by omega) (by omega) (ih _ rfl)
theorem pv_wbit {V n i : Nat} (hi : i < n) : V / 2 ^ (n - (i + 1)) % 2 ^ (i + 1) = 2 * (V / 2 ^ (n - i) % 2 ^ i) + V / 2 ^ (n - (i + 1)) % 2 := by
  have e : n - i = n - (i + 1) + 1 := by omega
  rw [e, Nat.pow_succ 2 (n - (i + 1)), ← Nat.div_div_eq_div_mul, Nat.pow_succ, Nat.mul_comm (2 ^ i) 2, Nat.mod_mul]
  omega
theorem xq_carryW {s cu n V : Nat} (hs : s < 2) (hn : n ≤ 16) (hcu : cu + n ≤ 4096) (hV : V < 2 ^ 31)
    (h : ∀ b : Nat → Int32, (∀ j, (j < 4096 * s + cu ∨ 4096 * s + cu + n ≤ j) → b j = bts j) → (pv_01 bts → pv_01 b) → pv_bn (pv_sl b s) cu n = V % 2 ^ n → post (nI (V % 2 ^ n)) (qa1, qa2, qa3, qa4, (nI C), (nI R), (nI g), (nI (4 * C)), (nI (4 * R)), xcc, xdc, xpk, xfi, nI s, nI (cu + n), xrf, xpx, xpy, xbc, xbl, xto, xwo, 1, pix, xmd, xvx, xvy, sem, sev, prd, rsd, b, len, tgs, dam)) : wpX_carry post (qa1, qa2, qa3, qa4, (nI C), (nI R), (nI g), (nI (4 * C)), (nI (4 * R)), xcc, xdc, xpk, xfi, nI s, nI cu, xrf, xpx, xpy, xbc, xbl, xto, xwo, 1, pix, xmd, xvx, xvy, sem, sev, prd, rsd, bts, len, tgs, dam) (nI V) (nI n) := by
  unfold wpX_carry
  refine nm_e ?_
  refine loop_0 (fun f i (a : Int32 × (Nat → Int32)) => wX_carry_7 post (nI V) qa1 qa2 qa3 qa4 (nI C) (nI R) (nI g) (nI (4 * C)) (nI (4 * R)) xcc xdc xpk xfi (nI s) xrf xpx xpy xbc xbl xto xwo 1 f a.1 (nI (n - i) - 1) (nI (cu + i)) pix xmd xvx xvy sem sev prd rsd a.2 len tgs dam) (fun i a => a.1 = nI (V / 2 ^ (n - i) % 2 ^ i) ∧ pv_bn (pv_sl a.2 s) cu i = V / 2 ^ (n - i) % 2 ^ i ∧ (∀ j, (j < 4096 * s + cu ∨ 4096 * s + cu + i ≤ j) → a.2 j = bts j) ∧ (pv_01 bts → pv_01 a.2)) n (0, bts) ⟨?_, ?_, fun _ _ => rfl, fun z => z⟩ (fun f a ha => ?_) (fun f i a hi ha ih => ?_)
  · show (0 : Int32) = nI (V / 2 ^ (n - 0) % 2 ^ 0)
    rw [Nat.pow_zero, Nat.mod_one]
    rfl
  · show 0 = V / 2 ^ (n - 0) % 2 ^ 0
    rw [Nat.pow_zero, Nat.mod_one]
  · obtain ⟨a1, a2⟩ := a
    obtain ⟨h1, h2, h3, h4⟩ := ha
    dsimp only at h1 h2 h3 h4
    rw [Nat.sub_self, Nat.pow_zero, Nat.div_one] at h1 h2
    rw [Nat.sub_self]
    subst h1
    exact br_t pv_kneg (h a2 h3 h4 h2)
  · obtain ⟨a1, a2⟩ := a
    obtain ⟨h1, h2, h3, h4⟩ := ha
    dsimp only at h1 h2 h3 h4
    subst h1
    obtain ⟨k, hk⟩ : ∃ k, n - i = k + 1 := ⟨n - i - 1, by omega⟩
    have hk2 : n - (i + 1) = k := by omega
    have hw := pv_wbit (V := V) hi
    rw [hk2] at ih hw
    dsimp only
    refine br_f (by rw [hk]; exact pv_kpos (by omega)) (br_f (nI_ge (b := 4096) (by omega) (by omega)) (nm_r (e' := nI (4096 * s + (cu + i))) (by rw [pv_4096m, nI_add]) (br_f (by decide) ?_)))
    have ek : nI (n - i) - 1 = nI k := by rw [hk, nI_pred]
    have eb : (nI V >>> ((nI (n - i) - 1) &&& 31)) &&& 1 = nI (V / 2 ^ k % 2) := by
      have hd : V / 2 ^ k ≤ V := Nat.div_le_self _ _
      rw [ek, pk_shrN hV _ k (pv_s_l k (by omega)), pv_and1 (by omega)]
    have hin : 4096 * s + (cu + i) < 8192 := by omega
    have fin : ∀ z : Nat, z < 2 → V / 2 ^ k % 2 = z → wX_carry_64 post (wX_carry_7 post (nI V) qa1 qa2 qa3 qa4 (nI C) (nI R) (nI g) (nI (4 * C)) (nI (4 * R)) xcc xdc xpk xfi (nI s) xrf xpx xpy xbc xbl xto xwo 1 f) (nI V) (nI (V / 2 ^ (n - i) % 2 ^ i)) (nI (n - i) - 1) (nI (4096 * s + (cu + i))) (nI z) (nI (4096 * s + (cu + i))) qa1 qa2 qa3 qa4 (nI C) (nI R) (nI g) (nI (4 * C)) (nI (4 * R)) xcc xdc xpk xfi (nI s) (nI (cu + i)) xrf xpx xpy xbc xbl xto xwo 1 pix xmd xvx xvy sem sev prd rsd a2 len tgs dam := fun z hz ez => by
      unfold wX_carry_64
      have en : vp_nar .boolean (nI z) = nI z := by
        match z, hz with
        | 0, _ => exact pv_vb0
        | 1, _ => exact pv_vb1
      have ep : pv_b (nI z) = z := by
        match z, hz with
        | 0, _ => decide
        | 1, _ => decide
      rw [nI_clamp (by omega), en, hk]
      refine ⟨vp_in_nI hin (by omega), nm_e (xq_c65 hin (by omega) ?_)⟩
      rw [pk_us, ep]
      have es : ∀ j, j < i → pv_sl (upd a2 (4096 * s + (cu + i)) (nI z)) s (cu + j) = pv_sl a2 s (cu + j) := fun j hj => pk_un (by omega)
      have ew : 2 * (V / 2 ^ (k + 1) % 2 ^ i) + z = V / 2 ^ k % 2 ^ (i + 1) := by
        rw [hw, hk, ez]
      rw [ew]
      refine ih (_, _) ⟨rfl, ?_, fun j hj => ?_, fun z01 j => ?_⟩
      · show 2 * pv_bn (pv_sl (upd a2 (4096 * s + (cu + i)) (nI z)) s) cu i + pv_b (upd a2 (4096 * s + (cu + i)) (nI z) (4096 * s + (cu + i))) = _
        rw [pv_bn_congr i es, h2, pk_us, ep, hk, ew]
      · show upd a2 (4096 * s + (cu + i)) (nI z) j = _
        rw [pk_un (by omega), h3 j (by omega)]
      · show upd a2 (4096 * s + (cu + i)) (nI z) j = 0 ∨ upd a2 (4096 * s + (cu + i)) (nI z) j = 1
        by_cases e : j = 4096 * s + (cu + i)
        · rw [e, pk_us]
          match z, hz with
          | 0, _ => exact Or.inl rfl
          | 1, _ => exact Or.inr rfl
        · rw [pk_un e]
          exact h4 z01 j
    refine br_c (fun e => ?_) (fun e => ?_)
    · rw [eb] at e
      exact fin 0 (by omega) ((nI_eq (b := 0) (by omega) (by omega)).mp e)
    · rw [eb] at e
      exact fin 1 (by omega) (by
        have : ¬ V / 2 ^ k % 2 = 0 := fun z => e (congrArg nI z)
        omega)
end
end
section
/-! X: Exp-Golomb codes -/
theorem pv_log {V : Nat} (h : V + 1 < 8192) : ∃ k, k ≤ 12 ∧ 2 ^ k ≤ V + 1 ∧ V + 1 < 2 ^ (k + 1) := by
  have a := Nat.log2_self_le (n := V + 1) (by omega)
  have b := Nat.lt_log2_self (n := V + 1)
  refine ⟨(V + 1).log2, ?_, a, b⟩
  have c : 2 ^ (V + 1).log2 < 2 ^ 13 := Nat.lt_of_le_of_lt a h
  have d := (Nat.pow_lt_pow_iff_right (a := 2) (by decide)).mp c
  omega
theorem pv_shl1 {k : Nat} (h : k ≤ 15) : (1 : Int32) <<< (nI k &&& 31) = nI (2 ^ k) := by
  have e : nI 1 <<< (nI k &&& 31) = nI (1 * 2 ^ k) := pk_shlN _ k (pv_s_l k (by omega)) (by
    have := Nat.pow_le_pow_right (n := 2) (by decide) h
    omega)
  rw [Nat.one_mul] at e
  exact e
section
variable {C R g : Nat} {qa1 qa2 qa3 qa4 xcc xdc xpk xfi xsl xcu xrf xpx xpy xbc xbl xto xwo xwr : Int32} {pix xmd xvx xvy sem sev prd rsd bts len tgs dam : Nat → Int32} {post : Int32 → SX → Prop}
theorem xq_cc37R {v : Int32} {s cu k V : Nat} (hs : s < 2) (hk : k ≤ 12) (hcu : cu + k ≤ 4096) (hV : 2 ^ k + pv_bn (pv_sl bts s) cu k = V + 1) (h : post (nI V) (qa1, qa2, qa3, qa4, (nI C), (nI R), (nI g), (nI (4 * C)), (nI (4 * R)), xcc, xdc, xpk, xfi, nI s, nI (cu + k), xrf, xpx, xpy, xbc, xbl, xto, xwo, 0, pix, xmd, xvx, xvy, sem, sev, prd, rsd, bts, len, tgs, dam)) : wX_carryCode_37 post v (nI k) qa1 qa2 qa3 qa4 (nI C) (nI R) (nI g) (nI (4 * C)) (nI (4 * R)) xcc xdc xpk xfi (nI s) (nI cu) xrf xpx xpy xbc xbl xto xwo 0 pix xmd xvx xvy sem sev prd rsd bts len tgs dam := by
  unfold wX_carryCode_37
  refine xq_carryR hs (by omega) hcu ?_
  have e : (1 : Int32) <<< (nI k &&& 31) + nI (pv_bn (pv_sl bts s) cu k) - 1 = nI V := by
    rw [pv_shl1 (by omega), nI_add, hV, nI_pred]
  show post ((1 : Int32) <<< (nI k &&& 31) + nI (pv_bn (pv_sl bts s) cu k) - 1) _
  rw [e]
  exact h
theorem xq_codeR {v : Int32} {s cu cu' V : Nat} (hs : s < 2) (hcu : cu' ≤ 4096) (hE : pv_eg (pv_sl bts s) cu V cu') (h : post (nI V) (qa1, qa2, qa3, qa4, (nI C), (nI R), (nI g), (nI (4 * C)), (nI (4 * R)), xcc, xdc, xpk, xfi, nI s, nI cu', xrf, xpx, xpy, xbc, xbl, xto, xwo, 0, pix, xmd, xvx, xvy, sem, sev, prd, rsd, bts, len, tgs, dam)) : wpX_carryCode post (qa1, qa2, qa3, qa4, (nI C), (nI R), (nI g), (nI (4 * C)), (nI (4 * R)), xcc, xdc, xpk, xfi, nI s, nI cu, xrf, xpx, xpy, xbc, xbl, xto, xwo, 0, pix, xmd, xvx, xvy, sem, sev, prd, rsd, bts, len, tgs, dam) v := by
  obtain ⟨k, hk, h0, h1, h2, h3⟩ := hE
  unfold wpX_carryCode
  refine loop_0 (fun n i (_ : Unit) => wX_carryCode_2 post v n (nI i) qa1 qa2 qa3 qa4 (nI C) (nI R) (nI g) (nI (4 * C)) (nI (4 * R)) xcc xdc xpk xfi (nI s) (nI (cu + i)) xrf xpx xpy xbc xbl xto xwo 0 pix xmd xvx xvy sem sev prd rsd bts len tgs dam) (fun _ _ => True) k () trivial (fun n _ _ => ?_) (fun n i _ hi _ ih => ?_)
  · refine br_f (nI_ge (b := 15) (by omega) (by omega)) ?_
    have L : ∀ z : Int32, wX_carryCode_24 post (wX_carryCode_2 post v n) v (nI k) z qa1 qa2 qa3 qa4 (nI C) (nI R) (nI g) (nI (4 * C)) (nI (4 * R)) xcc xdc xpk xfi (nI s) (nI (cu + k)) xrf xpx xpy xbc xbl xto xwo 0 pix xmd xvx xvy sem sev prd rsd bts len tgs dam := fun z => by
      unfold wX_carryCode_24
      refine xq_carryR (n := 1) hs (by omega) (by omega) ?_
      have eb : pv_bn (pv_sl bts s) (cu + k) 1 = 1 := by
        show 2 * 0 + pv_b (pv_sl bts s (cu + k)) = 1
        unfold pv_b
        rw [if_neg h1]
      rw [eb]
      refine br_f (by decide) (xq_cc37R hs hk (by omega) h2 ?_)
      have ec : cu + k + 1 + k = cu' := by omega
      rw [ec]
      exact h
    exact br_c (fun _ => L 1) (fun _ => L 0)
  · refine br_f (nI_ge (b := 15) (by omega) (by omega)) ?_
    have L : ∀ z : Int32, wX_carryCode_24 post (wX_carryCode_2 post v n) v (nI i) z qa1 qa2 qa3 qa4 (nI C) (nI R) (nI g) (nI (4 * C)) (nI (4 * R)) xcc xdc xpk xfi (nI s) (nI (cu + i)) xrf xpx xpy xbc xbl xto xwo 0 pix xmd xvx xvy sem sev prd rsd bts len tgs dam := fun z => by
      unfold wX_carryCode_24
      refine xq_carryR (n := 1) hs (by omega) (by omega) ?_
      have eb : pv_bn (pv_sl bts s) (cu + i) 1 = 0 := by
        show 2 * 0 + pv_b (pv_sl bts s (cu + i)) = 0
        unfold pv_b
        rw [if_pos (h0 i hi)]
      rw [eb]
      exact br_t rfl (nm_r (nI_1 i) (ih () trivial))
    exact br_c (fun _ => L 1) (fun _ => L 0)
theorem xq_cc37W {s cu k V : Nat} (hs : s < 2) (hk : k ≤ 12) (hcu : cu + k ≤ 4096) (h1 : 2 ^ k ≤ V + 1) (h2 : V + 1 < 2 ^ (k + 1)) (h3 : V < 8191)
    (h : ∀ b : Nat → Int32, (∀ j, (j < 4096 * s + cu ∨ 4096 * s + cu + k ≤ j) → b j = bts j) → (pv_01 bts → pv_01 b) → 2 ^ k + pv_bn (pv_sl b s) cu k = V + 1 → post (nI V) (qa1, qa2, qa3, qa4, (nI C), (nI R), (nI g), (nI (4 * C)), (nI (4 * R)), xcc, xdc, xpk, xfi, nI s, nI (cu + k), xrf, xpx, xpy, xbc, xbl, xto, xwo, 1, pix, xmd, xvx, xvy, sem, sev, prd, rsd, b, len, tgs, dam)) : wX_carryCode_37 post (nI V) (nI k) qa1 qa2 qa3 qa4 (nI C) (nI R) (nI g) (nI (4 * C)) (nI (4 * R)) xcc xdc xpk xfi (nI s) (nI cu) xrf xpx xpy xbc xbl xto xwo 1 pix xmd xvx xvy sem sev prd rsd bts len tgs dam := by
  unfold wX_carryCode_37
  rw [nI_1]
  refine xq_carryW hs (by omega) hcu (by omega) (fun b hb h01 hn => ?_)
  have em : (V + 1) % 2 ^ k = V + 1 - 2 ^ k := by
    rw [Nat.mod_eq_sub_mod h1, Nat.mod_eq_of_lt]
    rw [Nat.pow_succ] at h2
    omega
  rw [em] at hn
  have e : (1 : Int32) <<< (nI k &&& 31) + nI (V + 1 - 2 ^ k) - 1 = nI V := by
    have ee : 2 ^ k + (V + 1 - 2 ^ k) = V + 1 := by omega
    rw [pv_shl1 (by omega), nI_add, ee, nI_pred]
  rw [em]
  show post ((1 : Int32) <<< (nI k &&& 31) + nI (V + 1 - 2 ^ k) - 1) _
  rw [e]
  exact h b hb h01 (by omega)
theorem xq_codeW {s cu V : Nat} (hs : s < 2) (hcu : cu + 25 ≤ 4096) (hV : V < 8191)
    (h : ∀ (b : Nat → Int32) (cu' : Nat), (∀ j, (j < 4096 * s + cu ∨ 4096 * s + cu' ≤ j) → b j = bts j) → (pv_01 bts → pv_01 b) → pv_eg (pv_sl b s) cu V cu' → post (nI V) (qa1, qa2, qa3, qa4, (nI C), (nI R), (nI g), (nI (4 * C)), (nI (4 * R)), xcc, xdc, xpk, xfi, nI s, nI cu', xrf, xpx, xpy, xbc, xbl, xto, xwo, 1, pix, xmd, xvx, xvy, sem, sev, prd, rsd, b, len, tgs, dam)) : wpX_carryCode post (qa1, qa2, qa3, qa4, (nI C), (nI R), (nI g), (nI (4 * C)), (nI (4 * R)), xcc, xdc, xpk, xfi, nI s, nI cu, xrf, xpx, xpy, xbc, xbl, xto, xwo, 1, pix, xmd, xvx, xvy, sem, sev, prd, rsd, bts, len, tgs, dam) (nI V) := by
  obtain ⟨k, hk, h1, h2⟩ := pv_log (V := V) (by omega)
  unfold wpX_carryCode
  refine loop_0 (fun n i (b : Nat → Int32) => wX_carryCode_2 post (nI V) n (nI i) qa1 qa2 qa3 qa4 (nI C) (nI R) (nI g) (nI (4 * C)) (nI (4 * R)) xcc xdc xpk xfi (nI s) (nI (cu + i)) xrf xpx xpy xbc xbl xto xwo 1 pix xmd xvx xvy sem sev prd rsd b len tgs dam) (fun i b => (∀ j, j < i → pv_sl b s (cu + j) = 0) ∧ (∀ j, (j < 4096 * s + cu ∨ 4096 * s + cu + i ≤ j) → b j = bts j) ∧ (pv_01 bts → pv_01 b)) k bts ⟨lt_0, fun _ _ => rfl, fun z => z⟩ (fun n b hb => ?_) (fun n i b hi hb ih => ?_)
  · obtain ⟨hb0, hb1, hb2⟩ := hb
    refine br_f (nI_ge (b := 15) (by omega) (by omega)) (br_t ?_ ?_)
    · rw [nI_1, nI_1, pk_shrN (by omega) _ (k + 1) (pv_s_l (k + 1) (by omega)), Nat.div_eq_of_lt h2]
      rfl
    · unfold wX_carryCode_24
      refine xq_carryW (n := 1) (V := 1) hs (by omega) (by omega) (by omega) (fun b' hb' h01 hn => ?_)
      refine br_f (by decide) (xq_cc37W hs hk (by omega) h1 h2 hV (fun b2 hb2' h01' hn' => ?_))
      have ec : cu + k + 1 + k = cu + 2 * k + 1 := by omega
      rw [ec]
      refine h b2 _ (fun j hj => ?_) (fun z => h01' (h01 (hb2 z))) ⟨k, hk, fun j hj => ?_, fun z => ?_, hn', rfl⟩
      · rw [hb2' j (by omega), hb' j (by omega), hb1 j (by omega)]
      · show b2 (4096 * s + (cu + j)) = 0
        rw [hb2' _ (by omega), hb' _ (by omega)]
        exact hb0 j hj
      · have z2 : b2 (4096 * s + (cu + k)) = 0 := z
        rw [hb2' _ (by omega)] at z2
        have e1 : 2 * 0 + pv_b (b' (4096 * s + (cu + k + 0))) = 1 := hn
        rw [Nat.add_zero, z2] at e1
        exact absurd e1 (by decide)
  · obtain ⟨hb0, hb1, hb2⟩ := hb
    refine br_f (nI_ge (b := 15) (by omega) (by omega)) (br_f ?_ ?_)
    · rw [nI_1, nI_1, pk_shrN (by omega) _ (i + 1) (pv_s_l (i + 1) (by omega))]
      have hp : 2 ^ (i + 1) ≤ 2 ^ k := Nat.pow_le_pow_right (by decide) (by omega)
      have hd : 0 < (V + 1) / 2 ^ (i + 1) := Nat.div_pos (by omega) (Nat.two_pow_pos _)
      have hl : (V + 1) / 2 ^ (i + 1) ≤ V + 1 := Nat.div_le_self _ _
      exact nI_ne0 hd (by omega)
    · unfold wX_carryCode_24
      refine xq_carryW (n := 1) (V := 0) hs (by omega) (by omega) (by omega) (fun b' hb' h01 hn => ?_)
      refine br_t rfl (nm_r (nI_1 i) (ih b' ⟨fun j hj => ?_, fun j hj => ?_, fun z => h01 (hb2 z)⟩))
      · by_cases e : j = i
        · have e1 : 2 * 0 + pv_b (b' (4096 * s + (cu + i + 0))) = 0 := hn
          rw [e]
          show b' (4096 * s + (cu + i)) = 0
          by_cases z : b' (4096 * s + (cu + i)) = 0
          · exact z
          · have e2 : pv_b (b' (4096 * s + (cu + i))) = 1 := if_neg z
            rw [Nat.add_zero, e2] at e1
            exact absurd e1 (by decide)
        · show b' (4096 * s + (cu + j)) = 0
          rw [hb' _ (by omega)]
          exact hb0 j (by omega)
      · rw [hb' j (by omega), hb1 j (by omega)]
theorem pv_dc_post {V : Nat} {A : Int32 → Prop} (hV : V < 2 ^ 30) (h : A (pv_dc V)) : ((nI V &&& 1) = 0 → A (-(nI V >>> ((1 : Int32) &&& 31)))) ∧ (¬ (nI V &&& 1) = 0 → A ((nI V + 1) >>> ((1 : Int32) &&& 31))) := by
  rw [pv_and1 (by omega), pv_shr1 (by omega), nI_1, pv_shr1 (by omega)]
  unfold pv_dc at h
  refine br_c (fun e => ?_) (fun e => ?_)
  · rw [if_pos ((nI_eq (b := 0) (by omega) (by omega)).mp e)] at h
    exact h
  · rw [if_neg (fun k => e (congrArg nI k))] at h
    exact h
theorem xq_signR {v z : Int32} {s cu cu' : Nat} (hs : s < 2) (hcu : cu' ≤ 4096) (hE : pv_sg (pv_sl bts s) cu v cu') (h : post v (qa1, qa2, qa3, qa4, (nI C), (nI R), (nI g), (nI (4 * C)), (nI (4 * R)), xcc, xdc, xpk, xfi, nI s, nI cu', xrf, xpx, xpy, xbc, xbl, xto, xwo, 0, pix, xmd, xvx, xvy, sem, sev, prd, rsd, bts, len, tgs, dam)) : wpX_carrySigned post (qa1, qa2, qa3, qa4, (nI C), (nI R), (nI g), (nI (4 * C)), (nI (4 * R)), xcc, xdc, xpk, xfi, nI s, nI cu, xrf, xpx, xpy, xbc, xbl, xto, xwo, 0, pix, xmd, xvx, xvy, sem, sev, prd, rsd, bts, len, tgs, dam) z := by
  obtain ⟨V, h1, h2, h3⟩ := hE
  subst h3
  have L : ∀ y : Int32, wX_carrySigned_17 post y qa1 qa2 qa3 qa4 (nI C) (nI R) (nI g) (nI (4 * C)) (nI (4 * R)) xcc xdc xpk xfi (nI s) (nI cu) xrf xpx xpy xbc xbl xto xwo 0 pix xmd xvx xvy sem sev prd rsd bts len tgs dam := fun y => by
    unfold wX_carrySigned_17
    refine xq_codeR hs hcu h1 ?_
    exact pv_dc_post (A := fun r => post r (qa1, qa2, qa3, qa4, (nI C), (nI R), (nI g), (nI (4 * C)), (nI (4 * R)), xcc, xdc, xpk, xfi, nI s, nI cu', xrf, xpx, xpy, xbc, xbl, xto, xwo, 0, pix, xmd, xvx, xvy, sem, sev, prd, rsd, bts, len, tgs, dam)) (by omega) h
  unfold wpX_carrySigned
  exact br_c (fun _ => L _) (fun _ => L _)
theorem xq_signW {v : Int32} {s cu : Nat} (hs : s < 2) (hcu : cu + 25 ≤ 4096) (hv : pv_bd 4095 v)
    (h : ∀ (b : Nat → Int32) (cu' : Nat), (∀ j, (j < 4096 * s + cu ∨ 4096 * s + cu' ≤ j) → b j = bts j) → (pv_01 bts → pv_01 b) → pv_sg (pv_sl b s) cu v cu' → post v (qa1, qa2, qa3, qa4, (nI C), (nI R), (nI g), (nI (4 * C)), (nI (4 * R)), xcc, xdc, xpk, xfi, nI s, nI cu', xrf, xpx, xpy, xbc, xbl, xto, xwo, 1, pix, xmd, xvx, xvy, sem, sev, prd, rsd, b, len, tgs, dam)) : wpX_carrySigned post (qa1, qa2, qa3, qa4, (nI C), (nI R), (nI g), (nI (4 * C)), (nI (4 * R)), xcc, xdc, xpk, xfi, nI s, nI cu, xrf, xpx, xpy, xbc, xbl, xto, xwo, 1, pix, xmd, xvx, xvy, sem, sev, prd, rsd, bts, len, tgs, dam) v := by
  have hc := pv_cd_lt hv
  have hd := pv_dc_cd hv
  have L : wX_carrySigned_17 post (nI (pv_cd v)) qa1 qa2 qa3 qa4 (nI C) (nI R) (nI g) (nI (4 * C)) (nI (4 * R)) xcc xdc xpk xfi (nI s) (nI cu) xrf xpx xpy xbc xbl xto xwo 1 pix xmd xvx xvy sem sev prd rsd bts len tgs dam := by
    unfold wX_carrySigned_17
    refine xq_codeW hs hcu hc (fun b cu' hb h01 hE => ?_)
    refine pv_dc_post (A := fun r => post r (qa1, qa2, qa3, qa4, (nI C), (nI R), (nI g), (nI (4 * C)), (nI (4 * R)), xcc, xdc, xpk, xfi, nI s, nI cu', xrf, xpx, xpy, xbc, xbl, xto, xwo, 1, pix, xmd, xvx, xvy, sem, sev, prd, rsd, b, len, tgs, dam)) (by omega) ?_
    rw [hd]
    exact h b cu' hb h01 ⟨pv_cd v, hE, hc, hd.symm⟩
  unfold wpX_carrySigned
  refine br_c (fun e => ?_) (fun e => ?_)
  · rw [pv_cd_neg hv e]
    exact L
  · rw [pv_cd_pos hv e]
    exact L
end
end
section
/-! X: a block, reading and writing -/
def pv_bt (B : Nat → Int32) (o m : Nat) (dx dy px py : Int32) (f : Nat → Int32) (o' : Nat) : Prop :=
  ∃ (o1 o2 o3 : Nat) (K : Nat → Nat), pv_eg B o (m - 1) o1 ∧ (m = 4 → pv_sg B o1 (dx - px) o2 ∧ pv_sg B o2 (dy - py) o3) ∧ (m ≠ 4 → o3 = o1) ∧ K 0 = o3 ∧ K 16 = o' ∧
    ∀ i, i < 16 → (m ≠ 5 → pv_sg B (K i) (f i) (K (i + 1))) ∧ (m = 5 → K (i + 1) = K i ∧ f i = 0)
def pv_vd (m : Nat) (dx dy px py : Int32) : Prop := 1 ≤ m ∧ m ≤ 5 ∧ (m < 4 → dx = 0 ∧ dy = 0) ∧ (m = 5 → dx = px ∧ dy = py)
theorem pv_rc_congr {q : Nat} {pr pr' f f' : Nat → Int32} (hp : ∀ i, i < 16 → pr i = pr' i) (hf : ∀ i, i < 16 → f i = f' i) {i : Nat} (hi : i < 16) : pv_rc q pr f i = pv_rc q pr' f' i := by
  unfold pv_rc pv_rs
  rw [hp i hi, hf i hi, pv_ir_congr (f := pv_ic fun j => f j * nI q) (f' := pv_ic fun j => f' j * nI q) (fun j hj => pv_ic_congr (fun j hj => by rw [hf j hj]) hj) hi]
theorem pv_K_mono {B : Nat → Int32} {m : Nat} {f : Nat → Int32} {K : Nat → Nat} (h : ∀ i, i < 16 → (m ≠ 5 → pv_sg B (K i) (f i) (K (i + 1))) ∧ (m = 5 → K (i + 1) = K i ∧ f i = 0)) : ∀ i, i ≤ 16 → ∀ j, j ≤ i → K j ≤ K i
  | 0, _ => fun j hj => by
    obtain rfl : j = 0 := by omega
    exact Nat.le_refl _
  | i + 1, hi => fun j hj => by
    have s : K i ≤ K (i + 1) := by
      by_cases e : m = 5
      · have := ((h i (by omega)).2 e).1
        omega
      · have := pv_sg_le ((h i (by omega)).1 e)
        omega
    by_cases e : j = i + 1
    · rw [e]
      exact Nat.le_refl _
    · have := pv_K_mono h i (by omega) j (by omega)
      omega
theorem pv_bt_le {B : Nat → Int32} {o m o' : Nat} {dx dy px py : Int32} {f : Nat → Int32} (h : pv_bt B o m dx dy px py f o') : o ≤ o' := by
  obtain ⟨o1, o2, o3, K, h1, h2, h3, h4, h5, h6⟩ := h
  have a := pv_eg_le h1
  have b := pv_K_mono h6 16 (by omega) 0 (by omega)
  by_cases e : m = 4
  · have c := h2 e
    have c1 := pv_sg_le c.1
    have c2 := pv_sg_le c.2
    omega
  · have := h3 e
    omega
theorem pv_bt_congr {B B' : Nat → Int32} {o m o' : Nat} {dx dy px py : Int32} {f : Nat → Int32} (h : pv_bt B o m dx dy px py f o') (hb : ∀ j, o ≤ j → j < o' → B' j = B j) : pv_bt B' o m dx dy px py f o' := by
  obtain ⟨o1, o2, o3, K, h1, h2, h3, h4, h5, h6⟩ := h
  have a := pv_eg_le h1
  have b := pv_K_mono h6
  have b16 := b 16 (by omega) 0 (by omega)
  have l13 : o1 ≤ o3 := by
    by_cases e : m = 4
    · have c := h2 e
      have c1 := pv_sg_le c.1
      have c2 := pv_sg_le c.2
      omega
    · have := h3 e
      omega
  refine ⟨o1, o2, o3, K, pv_eg_congr h1 (fun j a1 a2 => hb j a1 (by omega)), fun e => ?_, h3, h4, h5, fun i hi => ⟨fun e => ?_, (h6 i hi).2⟩⟩
  · have c := h2 e
    have c1 := pv_sg_le c.1
    have c2 := pv_sg_le c.2
    exact ⟨pv_sg_congr c.1 (fun j a1 a2 => hb j (by omega) (by omega)), pv_sg_congr c.2 (fun j a1 a2 => hb j (by omega) (by omega))⟩
  · have k1 := b i (by omega) 0 (by omega)
    have k2 := b 16 (by omega) (i + 1) (by omega)
    exact pv_sg_congr ((h6 i hi).1 e) (fun j a1 a2 => hb j (by omega) (by omega))
section
variable {C R g : Nat} {qa1 qa2 qa3 qa4 xcc xdc xpk xfi xsl xcu xrf xpx xpy xbc xbl xto xwo xwr : Int32} {pix xmd xvx xvy sem sev prd rsd bts len tgs dam : Nat → Int32} {post : SX → Prop}
theorem xq_bb168R {m c r q s : Nat} {f : Nat → Int32} {K : Nat → Nat} (hm : m < 6) (hc : c < 4) (hr : r < 2) (hq2 : q ≤ 40) (hs : s < 2) (hK : K 16 ≤ 4096)
    (hT : ∀ i, i < 16 → (m ≠ 5 → pv_sg (pv_sl bts s) (K i) (f i) (K (i + 1))) ∧ (m = 5 → K (i + 1) = K i ∧ f i = 0))
    (h : ∀ a f' : Nat → Int32, (∀ i, i < 16 → a (384 + pv_at c r i) = pv_rc q prd f i) → (∀ p, (∀ i, i < 16 → p ≠ 384 + pv_at c r i) → a p = pix p) → post (qa1, qa2, qa3, qa4, (nI C), (nI R), (nI g), (nI (4 * C)), (nI (4 * R)), xcc, xdc, xpk, xfi, nI s, nI (K 16), xrf, xpx, xpy, xbc, xbl, xto, xwo, 0, a, xmd, xvx, xvy, sem, sev, prd, f', bts, len, tgs, dam)) :
    ∃ n : Nat, wX_buildBlock_168 post (nI c) (nI r) (nI q) (nI m) n 0 qa1 qa2 qa3 qa4 (nI C) (nI R) (nI g) (nI (4 * C)) (nI (4 * R)) xcc xdc xpk xfi (nI s) (nI (K 0)) xrf xpx xpy xbc xbl xto xwo 0 pix xmd xvx xvy sem sev prd rsd bts len tgs dam := by
  have mono := pv_K_mono hT
  refine loop_0 (fun n i a => wX_buildBlock_168 post (nI c) (nI r) (nI q) (nI m) n (nI i) qa1 qa2 qa3 qa4 (nI C) (nI R) (nI g) (nI (4 * C)) (nI (4 * R)) xcc xdc xpk xfi (nI s) (nI (K i)) xrf xpx xpy xbc xbl xto xwo 0 pix xmd xvx xvy sem sev prd a bts len tgs dam) (fun i a => ∀ j, j < i → a j = f j) 16 rsd lt_0 (fun n a ha => ?_) (fun n i a hi ha ih => ?_)
  · refine br_t (nI_le (a := 16) (by omega) (by omega)) (xq_rebuild hc hr hq2 (fun p' f' h1 h2 => h p' f' (fun i hi => ?_) h2))
    rw [h1 i hi]
    exact pv_rc_congr (fun _ _ => rfl) ha hi
  · refine br_f (nI_ge (b := 16) hi (by omega)) ?_
    have ei : (nI i).toNatClampNeg = i := nI_clamp (by omega)
    have kl := mono 16 (by omega) (i + 1) (by omega)
    rw [ei]
    by_cases m5 : m = 5
    · obtain ⟨e1, e2⟩ := (hT i hi).2 m5
      rw [e1] at ih
      exact br_t (congrArg nI m5) ⟨vp_in_nI hi (by omega), nm_e (nm_r (nI_1 i) (ih _ (pv_lt_s ha e2.symm)))⟩
    · refine br_f (fun k => m5 ((nI_eq (b := 5) (by omega) (by omega)).mp k)) ⟨vp_in_nI hi (by omega), ?_⟩
      exact xq_signR hs (by omega) ((hT i hi).1 m5) ⟨vp_in_nI hi (by omega), nm_e (nm_r (nI_1 i) (ih _ (pv_lt_s ha rfl)))⟩
theorem xq_bb126R {m c r q s b B : Nat} {dx dy : Int32} {f : Nat → Int32} {K : Nat → Nat} (hC : C ≤ 4) (hR : R ≤ 2) (hm : m < 6) (hc : c < C) (hr : r < R) (hB : B ≤ 384) (hb : b < 8) (hq2 : q ≤ 40) (hs : s < 2) (hK : K 16 ≤ 4096)
    (hT : ∀ i, i < 16 → (m ≠ 5 → pv_sg (pv_sl bts s) (K i) (f i) (K (i + 1))) ∧ (m = 5 → K (i + 1) = K i ∧ f i = 0))
    (h : ∀ a f' p' : Nat → Int32, (∀ i, i < 16 → a (384 + pv_at c r i) = pv_rc q (pv_pr (fun p => pix (384 + p)) (fun p => pix (B + p)) C R m c r dx dy) f i) → (∀ p, (∀ i, i < 16 → p ≠ 384 + pv_at c r i) → a p = pix p) → post (qa1, qa2, qa3, qa4, (nI C), (nI R), (nI g), (nI (4 * C)), (nI (4 * R)), xcc, xdc, xpk, xfi, nI s, nI (K 16), nI B, xpx, xpy, xbc, xbl, xto, xwo, 0, a, upd xmd b (nI m), upd xvx b dx, upd xvy b dy, sem, sev, p', f', bts, len, tgs, dam)) :
    wX_buildBlock_126 post (nI c) (nI r) (nI q) (nI b) (nI m) dx dy qa1 qa2 qa3 qa4 (nI C) (nI R) (nI g) (nI (4 * C)) (nI (4 * R)) xcc xdc xpk xfi (nI s) (nI (K 0)) (nI B) xpx xpy xbc xbl xto xwo 0 pix xmd xvx xvy sem sev prd rsd bts len tgs dam := by
  unfold wX_buildBlock_126
  refine xq_setB hb (xq_predict hC hR hm hc hr hB (fun p' hp => br_t rfl (xq_bb168R hm (by omega) (by omega) hq2 hs hK hT (fun a f' h1 h2 => h a f' p' (fun i hi => ?_) h2))))
  rw [h1 i hi]
  exact pv_rc_congr hp (fun _ _ => rfl) hi
theorem pv_pxx (x p : Int32) : p + (x - p) = x := by
  rw [Int32.sub_eq_add_neg, Int32.add_comm x, ← Int32.add_assoc, Int32.add_right_neg, Int32.zero_add]
theorem xq_bb29R {m c r q s b B o o' : Nat} {dx dy : Int32} {f : Nat → Int32} (hC : C ≤ 4) (hR : R ≤ 2) (hv : pv_vd m dx dy xpx xpy) (hc : c < C) (hr : r < R) (hB : B ≤ 384) (hb : b < 8) (hq2 : q ≤ 40) (hs : s < 2) (ho : o' ≤ 4096)
    (hT : pv_bt (pv_sl bts s) o m dx dy xpx xpy f o')
    (h : ∀ a f' p' : Nat → Int32, (∀ i, i < 16 → a (384 + pv_at c r i) = pv_rc q (pv_pr (fun p => pix (384 + p)) (fun p => pix (B + p)) C R m c r dx dy) f i) → (∀ p, (∀ i, i < 16 → p ≠ 384 + pv_at c r i) → a p = pix p) → post (qa1, qa2, qa3, qa4, (nI C), (nI R), (nI g), (nI (4 * C)), (nI (4 * R)), xcc, xdc, xpk, xfi, nI s, nI o', nI B, xpx, xpy, xbc, xbl, xto, xwo, 0, a, upd xmd b (nI m), upd xvx b dx, upd xvy b dy, sem, sev, p', f', bts, len, tgs, dam)) :
    wX_buildBlock_29 post (nI c) (nI r) (nI q) (nI b) qa1 qa2 qa3 qa4 (nI C) (nI R) (nI g) (nI (4 * C)) (nI (4 * R)) xcc xdc xpk xfi (nI s) (nI o) (nI B) xpx xpy xbc xbl xto xwo 0 pix xmd xvx xvy sem sev prd rsd bts len tgs dam := by
  obtain ⟨o1, o2, o3, K, h1, h2, h3, h4, h5, h6⟩ := hT
  obtain ⟨m1, m5, v1, v2⟩ := hv
  have mono := pv_K_mono h6 16 (by omega) 0 (by omega)
  have l13 : o1 ≤ o3 := by
    by_cases e : m = 4
    · have c := h2 e
      have c1 := pv_sg_le c.1
      have c2 := pv_sg_le c.2
      omega
    · have := h3 e
      omega
  subst h5
  unfold wX_buildBlock_29
  refine ⟨vp_in_nI hb (by omega), xq_codeR hs (by omega) h1 (nm_r (e' := nI m) (by rw [nI_1]; exact congrArg nI (by omega)) ?_)⟩
  have fin : ∀ x y : Int32, (m ≠ 4 → x = dx ∧ y = dy) → (m = 4 → x = xpx ∧ y = xpy) → wX_buildBlock_76 post (nI c) (nI r) (nI q) (nI b) (nI m) x y qa1 qa2 qa3 qa4 (nI C) (nI R) (nI g) (nI (4 * C)) (nI (4 * R)) xcc xdc xpk xfi (nI s) (nI o1) (nI B) xpx xpy xbc xbl xto xwo 0 pix xmd xvx xvy sem sev prd rsd bts len tgs dam := fun x y hx hy => by
    unfold wX_buildBlock_76
    by_cases m4 : m = 4
    · obtain ⟨ex, ey⟩ := hy m4
      obtain ⟨g1, g2⟩ := h2 m4
      have l2 := pv_sg_le g2
      rw [ex, ey]
      refine br_t (congrArg nI m4) ⟨vp_in_nI (by omega) (by omega), xq_signR hs (by omega) g1 (nm_r (pv_pxx dx xpx) ⟨vp_in_nI (by omega) (by omega), xq_signR hs (by omega) g2 (nm_r (pv_pxx dy xpy) ?_)⟩)⟩
      rw [← h4]
      exact xq_bb126R hC hR (by omega) hc hr hB hb hq2 hs ho h6 h
    · obtain ⟨ex, ey⟩ := hx m4
      rw [ex, ey, ← h3 m4, ← h4]
      exact br_f (fun k => m4 ((nI_eq (b := 4) (by omega) (by omega)).mp k)) (xq_bb126R hC hR (by omega) hc hr hB hb hq2 hs ho h6 h)
  unfold wX_buildBlock_60
  by_cases m4 : 4 ≤ m
  · have g : ∀ k : m ≠ 4, xpx = dx ∧ xpy = dy := fun k => by
      have := v2 (by omega)
      exact ⟨this.1.symm, this.2.symm⟩
    exact br_t (nI_le (a := 4) m4 (by omega)) (br_t (nI_le (a := 4) m4 (by omega)) (fin _ _ g (fun _ => ⟨rfl, rfl⟩)))
  · have g : ∀ k : m ≠ 4, (0 : Int32) = dx ∧ (0 : Int32) = dy := fun k => by
      have := v1 (by omega)
      exact ⟨this.1.symm, this.2.symm⟩
    exact br_f (nI_ge (b := 4) (by omega) (by omega)) (br_f (nI_ge (b := 4) (by omega) (by omega)) (fin _ _ g (fun k => absurd k (by omega))))
theorem xq_blockR {m c r q s b B o o' : Nat} {dx dy kd : Int32} {f : Nat → Int32} (hC : C ≤ 4) (hR : R ≤ 2) (hx8 : xvx 8 = 0) (hy8 : xvy 8 = 0) (hv : pv_vd m dx dy (pv_gs xvx C c r) (pv_gs xvy C c r)) (hc : c < C) (hr : r < R) (hB : B ≤ 384) (hb : b = 4 * r + c) (hq2 : q ≤ 40) (hs : s < 2) (ho : o' ≤ 4096)
    (hT : pv_bt (pv_sl bts s) o m dx dy (pv_gs xvx C c r) (pv_gs xvy C c r) f o')
    (h : ∀ (a f' p' : Nat → Int32) (x y : Int32), (∀ i, i < 16 → a (384 + pv_at c r i) = pv_rc q (pv_pr (fun p => pix (384 + p)) (fun p => pix (B + p)) C R m c r dx dy) f i) → (∀ p, (∀ i, i < 16 → p ≠ 384 + pv_at c r i) → a p = pix p) → post (qa1, qa2, qa3, qa4, (nI C), (nI R), (nI g), (nI (4 * C)), (nI (4 * R)), xcc, xdc, xpk, xfi, nI s, nI o', nI B, x, y, xbc, xbl, xto, xwo, 0, a, upd xmd b (nI m), upd xvx b dx, upd xvy b dy, sem, sev, p', f', bts, len, tgs, dam)) :
    wpX_buildBlock post (qa1, qa2, qa3, qa4, (nI C), (nI R), (nI g), (nI (4 * C)), (nI (4 * R)), xcc, xdc, xpk, xfi, nI s, nI o, nI B, xpx, xpy, xbc, xbl, xto, xwo, 0, pix, xmd, xvx, xvy, sem, sev, prd, rsd, bts, len, tgs, dam) (nI c) (nI r) kd (nI q) := by
  unfold wpX_buildBlock
  refine nm_r (e' := nI b) (by rw [pv_4m, nI_add, hb]) ?_
  refine xq_predV hC hR hc hr hx8 hy8 (br_t rfl ?_)
  exact xq_bb29R hC hR hv hc hr hB (by omega) hq2 hs ho hT (fun a f' p' h1 h2 => h a f' p' _ _ h1 h2)
end
end
section
/-! X: a block, writing -/
section
variable {C R g : Nat} {qa1 qa2 qa3 qa4 xcc xdc xpk xfi xsl xcu xrf xpx xpy xbc xbl xto xwo xwr : Int32} {pix xmd xvx xvy sem sev prd rsd bts len tgs dam : Nat → Int32} {post : SX → Prop}
theorem xq_bb168W {m c r q s o : Nat} {f : Nat → Int32} (hm : m < 6) (hc : c < 4) (hr : r < 2) (hq2 : q ≤ 40) (hs : s < 2) (ho : o + 400 ≤ 4096)
    (hf : ∀ i, i < 16 → (m ≠ 5 → rsd i = f i ∧ pv_bd 4095 (f i)) ∧ (m = 5 → f i = 0))
    (h : ∀ (a f' b : Nat → Int32) (K : Nat → Nat), (∀ j, (j < 4096 * s + o ∨ 4096 * s + K 16 ≤ j) → b j = bts j) → (pv_01 bts → pv_01 b) → K 0 = o → K 16 ≤ o + 400 →
      (∀ i, i < 16 → (m ≠ 5 → pv_sg (pv_sl b s) (K i) (f i) (K (i + 1))) ∧ (m = 5 → K (i + 1) = K i ∧ f i = 0)) →
      (∀ i, i < 16 → a (384 + pv_at c r i) = pv_rc q prd f i) → (∀ p, (∀ i, i < 16 → p ≠ 384 + pv_at c r i) → a p = pix p) → post (qa1, qa2, qa3, qa4, (nI C), (nI R), (nI g), (nI (4 * C)), (nI (4 * R)), xcc, xdc, xpk, xfi, nI s, nI (K 16), xrf, xpx, xpy, xbc, xbl, xto, xwo, 1, a, xmd, xvx, xvy, sem, sev, prd, f', b, len, tgs, dam)) :
    ∃ n : Nat, wX_buildBlock_168 post (nI c) (nI r) (nI q) (nI m) n 0 qa1 qa2 qa3 qa4 (nI C) (nI R) (nI g) (nI (4 * C)) (nI (4 * R)) xcc xdc xpk xfi (nI s) (nI o) xrf xpx xpy xbc xbl xto xwo 1 pix xmd xvx xvy sem sev prd rsd bts len tgs dam := by
  refine loop_0 (fun n i (z : (Nat → Int32) × (Nat → Int32) × (Nat → Nat)) => wX_buildBlock_168 post (nI c) (nI r) (nI q) (nI m) n (nI i) qa1 qa2 qa3 qa4 (nI C) (nI R) (nI g) (nI (4 * C)) (nI (4 * R)) xcc xdc xpk xfi (nI s) (nI (z.2.2 i)) xrf xpx xpy xbc xbl xto xwo 1 pix xmd xvx xvy sem sev prd z.1 z.2.1 len tgs dam)
    (fun i z => (∀ j, j < i → z.1 j = f j) ∧ (∀ j, i ≤ j → z.1 j = rsd j) ∧ (∀ j, (j < 4096 * s + o ∨ 4096 * s + z.2.2 i ≤ j) → z.2.1 j = bts j) ∧ (pv_01 bts → pv_01 z.2.1) ∧ z.2.2 0 = o ∧ z.2.2 i ≤ o + 25 * i ∧ (∀ j, j ≤ i → z.2.2 j ≤ z.2.2 i) ∧
      (∀ j, j < i → (m ≠ 5 → pv_sg (pv_sl z.2.1 s) (z.2.2 j) (f j) (z.2.2 (j + 1))) ∧ (m = 5 → z.2.2 (j + 1) = z.2.2 j ∧ f j = 0))) 16 (rsd, bts, fun _ => o)
    ⟨lt_0, fun _ _ => rfl, fun _ _ => rfl, fun z => z, rfl, by dsimp only; omega, fun _ _ => Nat.le_refl _, lt_0⟩ (fun n z hz => ?_) (fun n i z hi hz ih => ?_)
  · obtain ⟨a, b, K⟩ := z
    obtain ⟨z1, z2, z3, z4, z5, z6, z7, z8⟩ := hz
    dsimp only at z1 z2 z3 z4 z5 z6 z7 z8
    refine br_t (nI_le (a := 16) (by omega) (by omega)) (xq_rebuild hc hr hq2 (fun p' f' h1 h2 => h p' f' b K z3 z4 z5 (by omega) z8 (fun i hi => ?_) h2))
    rw [h1 i hi]
    exact pv_rc_congr (fun _ _ => rfl) z1 hi
  · obtain ⟨a, b, K⟩ := z
    obtain ⟨z1, z2, z3, z4, z5, z6, z7, z8⟩ := hz
    dsimp only at z1 z2 z3 z4 z5 z6 z7 z8
    refine br_f (nI_ge (b := 16) hi (by omega)) ?_
    have ei : (nI i).toNatClampNeg = i := nI_clamp (by omega)
    dsimp only
    rw [ei]
    have k0 : (fun j => if j = i + 1 then K i else K j) (i + 1) = K i := if_pos rfl
    by_cases m5 : m = 5
    · refine br_t (congrArg nI m5) ⟨vp_in_nI hi (by omega), nm_e (nm_r (nI_1 i) ?_)⟩
      have e0 := (hf i hi).2 m5
      have w := ih (upd a i 0, b, fun j => if j = i + 1 then K i else K j) ⟨pv_lt_s z1 e0.symm, fun j hj => ?_, ?_, z4, ?_, ?_, ?_, ?_⟩
      · dsimp only at w
        rw [if_pos rfl] at w
        exact w
      · show upd a i 0 j = rsd j
        rw [pk_un (by omega)]
        exact z2 j (by omega)
      · dsimp only
        rw [if_pos rfl]
        exact z3
      · dsimp only
        rw [if_neg (by omega)]
        exact z5
      · dsimp only
        rw [if_pos rfl]
        omega
      · intro j hj
        dsimp only
        rw [if_pos rfl]
        by_cases e : j = i + 1
        · rw [if_pos e]
          exact Nat.le_refl _
        · rw [if_neg e]
          exact z7 j (by omega)
      · intro j hj
        refine ⟨fun k => absurd m5 k, fun _ => ⟨?_, (hf j (by omega)).2 m5⟩⟩
        dsimp only
        by_cases e : j = i
        · rw [if_pos (by omega), if_neg (by omega), e]
        · rw [if_neg (by omega), if_neg (by omega)]
          exact ((z8 j (by omega)).2 m5).1
    · refine br_f (fun k => m5 ((nI_eq (b := 5) (by omega) (by omega)).mp k)) ⟨vp_in_nI hi (by omega), ?_⟩
      obtain ⟨f1, f2⟩ := (hf i hi).1 m5
      have ea : a i = f i := by rw [z2 i (by omega), f1]
      rw [ea]
      refine xq_signW hs (by omega) f2 (fun b' cu' b1 b2 b3 => ⟨vp_in_nI hi (by omega), nm_e (nm_r (nI_1 i) ?_)⟩)
      have hl := pv_sg_le b3
      have w := ih (upd a i (f i), b', fun j => if j = i + 1 then cu' else K j) ⟨pv_lt_s z1 rfl, fun j hj => ?_, ?_, fun z => b2 (z4 z), ?_, ?_, ?_, ?_⟩
      · dsimp only at w
        rw [if_pos rfl] at w
        exact w
      · show upd a i (f i) j = rsd j
        rw [pk_un (by omega)]
        exact z2 j (by omega)
      · dsimp only
        rw [if_pos rfl]
        intro j hj
        have k0 := z7 0 (by omega)
        rw [b1 j (by omega), z3 j (by omega)]
      · dsimp only
        rw [if_neg (by omega)]
        exact z5
      · dsimp only
        rw [if_pos rfl]
        omega
      · intro j hj
        dsimp only
        rw [if_pos rfl]
        by_cases e : j = i + 1
        · rw [if_pos e]
          exact Nat.le_refl _
        · rw [if_neg e]
          have := z7 j (by omega)
          omega
      · intro j hj
        refine ⟨fun _ => ?_, fun k => absurd k m5⟩
        dsimp only
        by_cases e : j = i
        · rw [if_neg (show ¬ j = i + 1 by omega), if_pos (show j + 1 = i + 1 by omega), e]
          exact b3
        · rw [if_neg (by omega), if_neg (by omega)]
          have k1 := z7 (j + 1) (by omega)
          exact pv_sg_congr ((z8 j (by omega)).1 m5) (fun t t1 t2 => b1 _ (by omega))
theorem xq_bb126W {m c r q s b B o : Nat} {dx dy : Int32} {f : Nat → Int32} (hC : C ≤ 4) (hR : R ≤ 2) (hm : m < 6) (hc : c < C) (hr : r < R) (hB : B ≤ 384) (hb : b < 8) (hq2 : q ≤ 40) (hs : s < 2) (ho : o + 400 ≤ 4096)
    (hf : ∀ i, i < 16 → (m ≠ 5 → pv_ms q (fun j => pix (pv_at c r j) - pv_pr (fun p => pix (384 + p)) (fun p => pix (B + p)) C R m c r dx dy j) i = f i ∧ pv_bd 4095 (f i)) ∧ (m = 5 → f i = 0))
    (h : ∀ (a f' p' b' : Nat → Int32) (K : Nat → Nat), (∀ j, (j < 4096 * s + o ∨ 4096 * s + K 16 ≤ j) → b' j = bts j) → (pv_01 bts → pv_01 b') → K 0 = o → K 16 ≤ o + 400 →
      (∀ i, i < 16 → (m ≠ 5 → pv_sg (pv_sl b' s) (K i) (f i) (K (i + 1))) ∧ (m = 5 → K (i + 1) = K i ∧ f i = 0)) →
      (∀ i, i < 16 → a (384 + pv_at c r i) = pv_rc q (pv_pr (fun p => pix (384 + p)) (fun p => pix (B + p)) C R m c r dx dy) f i) → (∀ p, (∀ i, i < 16 → p ≠ 384 + pv_at c r i) → a p = pix p) → post (qa1, qa2, qa3, qa4, (nI C), (nI R), (nI g), (nI (4 * C)), (nI (4 * R)), xcc, xdc, xpk, xfi, nI s, nI (K 16), nI B, xpx, xpy, xbc, xbl, xto, xwo, 1, a, upd xmd b (nI m), upd xvx b dx, upd xvy b dy, sem, sev, p', f', b', len, tgs, dam)) :
    wX_buildBlock_126 post (nI c) (nI r) (nI q) (nI b) (nI m) dx dy qa1 qa2 qa3 qa4 (nI C) (nI R) (nI g) (nI (4 * C)) (nI (4 * R)) xcc xdc xpk xfi (nI s) (nI o) (nI B) xpx xpy xbc xbl xto xwo 1 pix xmd xvx xvy sem sev prd rsd bts len tgs dam := by
  unfold wX_buildBlock_126
  refine xq_setB hb (xq_predict hC hR hm hc hr hB (fun p' hp => br_f (by decide) (xq_measure (by omega) (by omega) hq2 (fun f0 hf0 => ?_))))
  refine xq_bb168W hm (by omega) (by omega) hq2 hs ho (f := f) (fun i hi => ⟨fun k => ?_, (hf i hi).2⟩) (fun a f' b' K h1 h2 h3 h4 h5 h6 h7 => h a f' p' b' K h1 h2 h3 h4 h5 (fun i hi => ?_) h7)
  · refine ⟨?_, ((hf i hi).1 k).2⟩
    rw [hf0 i hi, ← ((hf i hi).1 k).1]
    exact pv_ms_congr (fun j hj => by rw [hp j hj]) hi
  · rw [h6 i hi]
    exact pv_rc_congr hp (fun _ _ => rfl) hi
theorem xq_bb76W {m c r q s b B o : Nat} {x y dx dy : Int32} {f : Nat → Int32} (hC : C ≤ 4) (hR : R ≤ 2) (m1 : 1 ≤ m) (m5 : m ≤ 5) (hx : m ≠ 4 → x = dx ∧ y = dy) (hy : m = 4 → x = xpx ∧ y = xpy) (hc : c < C) (hr : r < R) (hB : B ≤ 384) (hb : b < 8) (hq2 : q ≤ 40) (hs : s < 2) (ho : o + 450 ≤ 4096)
    (hb4 : m = 4 → pv_bd 4095 (dx - xpx) ∧ pv_bd 4095 (dy - xpy)) (hvx : xvx b = dx) (hvy : xvy b = dy)
    (hf : ∀ i, i < 16 → (m ≠ 5 → pv_ms q (fun j => pix (pv_at c r j) - pv_pr (fun p => pix (384 + p)) (fun p => pix (B + p)) C R m c r dx dy j) i = f i ∧ pv_bd 4095 (f i)) ∧ (m = 5 → f i = 0))
    (h : ∀ (a f' p' b' : Nat → Int32) (o2 o3 : Nat) (K : Nat → Nat), (∀ j, (j < 4096 * s + o ∨ 4096 * s + K 16 ≤ j) → b' j = bts j) → (pv_01 bts → pv_01 b') → (m = 4 → pv_sg (pv_sl b' s) o (dx - xpx) o2 ∧ pv_sg (pv_sl b' s) o2 (dy - xpy) o3) → (m ≠ 4 → o3 = o) → K 0 = o3 → K 16 ≤ o + 450 →
      (∀ i, i < 16 → (m ≠ 5 → pv_sg (pv_sl b' s) (K i) (f i) (K (i + 1))) ∧ (m = 5 → K (i + 1) = K i ∧ f i = 0)) →
      (∀ i, i < 16 → a (384 + pv_at c r i) = pv_rc q (pv_pr (fun p => pix (384 + p)) (fun p => pix (B + p)) C R m c r dx dy) f i) → (∀ p, (∀ i, i < 16 → p ≠ 384 + pv_at c r i) → a p = pix p) → post (qa1, qa2, qa3, qa4, (nI C), (nI R), (nI g), (nI (4 * C)), (nI (4 * R)), xcc, xdc, xpk, xfi, nI s, nI (K 16), nI B, xpx, xpy, xbc, xbl, xto, xwo, 1, a, upd xmd b (nI m), upd xvx b dx, upd xvy b dy, sem, sev, p', f', b', len, tgs, dam)) :
    wX_buildBlock_76 post (nI c) (nI r) (nI q) (nI b) (nI m) x y qa1 qa2 qa3 qa4 (nI C) (nI R) (nI g) (nI (4 * C)) (nI (4 * R)) xcc xdc xpk xfi (nI s) (nI o) (nI B) xpx xpy xbc xbl xto xwo 1 pix xmd xvx xvy sem sev prd rsd bts len tgs dam := by
  unfold wX_buildBlock_76
  by_cases m4 : m = 4
  · obtain ⟨ex, ey⟩ := hy m4
    obtain ⟨g1, g2⟩ := hb4 m4
    rw [ex, ey, nI_clamp (by omega), hvx]
    refine br_t (congrArg nI m4) ⟨vp_in_nI (by omega) (by omega), xq_signW hs (by omega) g1 (fun b1 o2 t1 t2 t3 => nm_r (pv_pxx dx xpx) ⟨vp_in_nI (by omega) (by omega), ?_⟩)⟩
    have l1 := pv_sg_le t3
    rw [hvy]
    refine xq_signW hs (by omega) g2 (fun b2 o3 u1 u2 u3 => nm_r (pv_pxx dy xpy) ?_)
    have l2 := pv_sg_le u3
    refine xq_bb126W hC hR (by omega) hc hr hB hb hq2 hs (by omega) hf (fun a f' p' b' K w1 w2 w3 w4 w5 w6 w7 => h a f' p' b' o2 o3 K (fun j hj => ?_) (fun z => w2 (u2 (t2 z))) (fun _ => ⟨?_, ?_⟩) (fun k => absurd m4 k) w3 (by omega) w5 w6 w7)
    · have mono := pv_K_mono w5 16 (by omega) 0 (by omega)
      rw [w1 j (by omega), u1 j (by omega), t1 j (by omega)]
    · refine pv_sg_congr t3 (fun j j1 j2 => ?_)
      show b' _ = b1 _
      rw [w1 _ (by omega), u1 _ (by omega)]
    · exact pv_sg_congr u3 (fun j j1 j2 => w1 _ (by omega))
  · obtain ⟨ex, ey⟩ := hx m4
    rw [ex, ey]
    refine br_f (fun k => m4 ((nI_eq (b := 4) (by omega) (by omega)).mp k)) (xq_bb126W hC hR (by omega) hc hr hB hb hq2 hs (by omega) hf (fun a f' p' b' K w1 w2 w3 w4 w5 w6 w7 => h a f' p' b' o o K w1 w2 (fun k => absurd k m4) (fun _ => rfl) w3 (by omega) w5 w6 w7))
theorem xq_bb29W {m c r q s b B o : Nat} {dx dy : Int32} {f : Nat → Int32} (hC : C ≤ 4) (hR : R ≤ 2) (hv : pv_vd m dx dy xpx xpy) (hc : c < C) (hr : r < R) (hB : B ≤ 384) (hb : b < 8) (hq2 : q ≤ 40) (hs : s < 2) (ho : o + 475 ≤ 4096)
    (hb4 : m = 4 → pv_bd 4095 (dx - xpx) ∧ pv_bd 4095 (dy - xpy))
    (hf : ∀ i, i < 16 → (m ≠ 5 → pv_ms q (fun j => pix (pv_at c r j) - pv_pr (fun p => pix (384 + p)) (fun p => pix (B + p)) C R m c r dx dy j) i = f i ∧ pv_bd 4095 (f i)) ∧ (m = 5 → f i = 0))
    (h : ∀ (a f' p' b' : Nat → Int32) (o' : Nat), (∀ j, (j < 4096 * s + o ∨ 4096 * s + o' ≤ j) → b' j = bts j) → (pv_01 bts → pv_01 b') → pv_bt (pv_sl b' s) o m dx dy xpx xpy f o' → o' ≤ o + 475 →
      (∀ i, i < 16 → a (384 + pv_at c r i) = pv_rc q (pv_pr (fun p => pix (384 + p)) (fun p => pix (B + p)) C R m c r dx dy) f i) → (∀ p, (∀ i, i < 16 → p ≠ 384 + pv_at c r i) → a p = pix p) → post (qa1, qa2, qa3, qa4, (nI C), (nI R), (nI g), (nI (4 * C)), (nI (4 * R)), xcc, xdc, xpk, xfi, nI s, nI o', nI B, xpx, xpy, xbc, xbl, xto, xwo, 1, a, upd xmd b (nI m), upd xvx b dx, upd xvy b dy, sem, sev, p', f', b', len, tgs, dam)) :
    wX_buildBlock_29 post (nI c) (nI r) (nI q) (nI b) qa1 qa2 qa3 qa4 (nI C) (nI R) (nI g) (nI (4 * C)) (nI (4 * R)) xcc xdc xpk xfi (nI s) (nI o) (nI B) xpx xpy xbc xbl xto xwo 1 pix (upd xmd b (nI m)) (upd xvx b dx) (upd xvy b dy) sem sev prd rsd bts len tgs dam := by
  obtain ⟨m1, m5, v1, v2⟩ := hv
  unfold wX_buildBlock_29
  refine ⟨vp_in_nI hb (by omega), ?_⟩
  rw [nI_clamp (by omega), pk_us, pv_s1 m1]
  refine xq_codeW hs (by omega) (by omega) (fun b1 o1 t1 t2 t3 => (nm_r (e' := nI m) (by rw [nI_1]; exact congrArg nI (by omega)) ?_))
  have l1 := pv_eg_le t3
  have fin : ∀ x y : Int32, (m ≠ 4 → x = dx ∧ y = dy) → (m = 4 → x = xpx ∧ y = xpy) → wX_buildBlock_76 post (nI c) (nI r) (nI q) (nI b) (nI m) x y qa1 qa2 qa3 qa4 (nI C) (nI R) (nI g) (nI (4 * C)) (nI (4 * R)) xcc xdc xpk xfi (nI s) (nI o1) (nI B) xpx xpy xbc xbl xto xwo 1 pix (upd xmd b (nI m)) (upd xvx b dx) (upd xvy b dy) sem sev prd rsd b1 len tgs dam := fun x y hx hy => by
    refine xq_bb76W hC hR m1 m5 hx hy hc hr hB hb hq2 hs (by omega) hb4 pk_us pk_us hf (fun a f' p' b' o2 o3 K w1 w2 w3 w4 w5 w6 w7 w8 w9 => ?_)
    rw [pv_uu, pv_uu, pv_uu]
    have mono := pv_K_mono w7 16 (by omega) 0 (by omega)
    have l13 : o1 ≤ o3 := by
      by_cases e : m = 4
      · have c1 := pv_sg_le (w3 e).1
        have c2 := pv_sg_le (w3 e).2
        omega
      · have := w4 e
        omega
    refine h a f' p' b' (K 16) (fun j hj => ?_) (fun z => w2 (t2 z)) ⟨o1, o2, o3, K, ?_, w3, w4, w5, rfl, w7⟩ (by omega) w8 w9
    · rw [w1 j (by omega), t1 j (by omega)]
    · exact pv_eg_congr t3 (fun j j1 j2 => w1 _ (by omega))
  unfold wX_buildBlock_60
  by_cases m4 : 4 ≤ m
  · have g : ∀ k : m ≠ 4, xpx = dx ∧ xpy = dy := fun k => by
      have := v2 (by omega)
      exact ⟨this.1.symm, this.2.symm⟩
    exact br_t (nI_le (a := 4) m4 (by omega)) (br_t (nI_le (a := 4) m4 (by omega)) (fin _ _ g (fun _ => ⟨rfl, rfl⟩)))
  · have g : ∀ k : m ≠ 4, (0 : Int32) = dx ∧ (0 : Int32) = dy := fun k => by
      have := v1 (by omega)
      exact ⟨this.1.symm, this.2.symm⟩
    exact br_f (nI_ge (b := 4) (by omega) (by omega)) (br_f (nI_ge (b := 4) (by omega) (by omega)) (fin _ _ g (fun k => absurd k (by omega))))
theorem xq_blockW {m c r q s b B o kind : Nat} {dx dy : Int32} {f : Nat → Int32} {T : Nat → Int32 → Int32 → Int32} (hC : C ≤ 4) (hR : R ≤ 2) (hg : g ≤ 3) (hx8 : xvx 8 = 0) (hy8 : xvy 8 = 0) (hv : pv_vd m dx dy (pv_gs xvx C c r) (pv_gs xvy C c r)) (hc : c < C) (hr : r < R) (hB : B ≤ 384) (hb : b = 4 * r + c) (hk : kind < 2) (hq2 : q ≤ 40) (hs : s < 2) (ho : o + 475 ≤ 4096)
    (hT : ∀ m dx dy, T m dx dy = pv_T pix (fun p => pix (384 + p)) (fun p => pix (B + p)) C R c r m dx dy)
    (hch : pv_ch T (pv_W pix (fun p => pix (384 + p)) (fun p => pix (B + p)) C R c r 5 (pv_gs xvx C c r) (pv_gs xvy C c r)) kind q g c r (pv_gs xvx C c r) (pv_gs xvy C c r) xbl (xmd b) (xvx b) (xvy b) = (nI m, dx, dy))
    (hb4 : m = 4 → pv_bd 4095 (dx - pv_gs xvx C c r) ∧ pv_bd 4095 (dy - pv_gs xvy C c r))
    (hf : ∀ i, i < 16 → (m ≠ 5 → pv_ms q (fun j => pix (pv_at c r j) - pv_pr (fun p => pix (384 + p)) (fun p => pix (B + p)) C R m c r dx dy j) i = f i ∧ pv_bd 4095 (f i)) ∧ (m = 5 → f i = 0))
    (h : ∀ (a f' p' b' : Nat → Int32) (o' : Nat) (x y bc bl t w : Int32), (∀ j, (j < 4096 * s + o ∨ 4096 * s + o' ≤ j) → b' j = bts j) → (pv_01 bts → pv_01 b') → pv_bt (pv_sl b' s) o m dx dy (pv_gs xvx C c r) (pv_gs xvy C c r) f o' → o' ≤ o + 475 →
      (∀ i, i < 16 → a (384 + pv_at c r i) = pv_rc q (pv_pr (fun p => pix (384 + p)) (fun p => pix (B + p)) C R m c r dx dy) f i) → (∀ p, (∀ i, i < 16 → p ≠ 384 + pv_at c r i) → a p = pix p) → post (qa1, qa2, qa3, qa4, (nI C), (nI R), (nI g), (nI (4 * C)), (nI (4 * R)), xcc, xdc, xpk, xfi, nI s, nI o', nI B, x, y, bc, bl, t, w, 1, a, upd xmd b (nI m), upd xvx b dx, upd xvy b dy, sem, sev, p', f', b', len, tgs, dam)) :
    wpX_buildBlock post (qa1, qa2, qa3, qa4, (nI C), (nI R), (nI g), (nI (4 * C)), (nI (4 * R)), xcc, xdc, xpk, xfi, nI s, nI o, nI B, xpx, xpy, xbc, xbl, xto, xwo, 1, pix, xmd, xvx, xvy, sem, sev, prd, rsd, bts, len, tgs, dam) (nI c) (nI r) (nI kind) (nI q) := by
  unfold wpX_buildBlock
  refine nm_r (e' := nI b) (by rw [pv_4m, nI_add, hb]) ?_
  refine xq_predV hC hR hc hr hx8 hy8 (br_f (by decide) ?_)
  refine xq_choose (T := T) hC hR hg hc hr hB hb hk hq2 hT (fun p0 bc bl t w st est => ?_)
  rw [hch] at est
  subst est
  exact xq_bb29W hC hR hv hc hr hB (by omega) hq2 hs ho hb4 hf (fun a f' p' b' o' w1 w2 w3 w4 w5 w6 => h a f' p' b' o' _ _ _ _ _ _ w1 w2 w3 w4 w5 w6)
end
end
section
/-! X: the edge filter, the copy -/
def pv_ee (a b c d t : Int32) : Int32 := pv_cl ((((4 * (c - b)) + (a - d)) + 4) >>> ((3 : Int32) &&& 31)) (-t) t
def pv_ft (m n : Int32) (q : Nat) : Int32 := if m < 4 ∨ n < 4 then 1 + nI (q / 4) + 1 else 1 + nI (q / 4)
def pv_fw2 (N : Nat → Int32) (i j : Nat) (b c e : Int32) : Nat → Int32 := upd (upd N i (pv_cl (b + e) 0 255)) j (pv_cl (c - e) 0 255)
def pv_fln (M : Nat → Int32) (q : Nat) (e : Nat × Nat) (N : Nat → Int32) : Nat → Int32 :=
  if M (pv_bk (e.1 - e.2)) = 5 ∧ M (pv_bk e.1) = 5 then N
  else if 4 + 2 * nI q ≤ pv_ab (N (e.1 - e.2) - N e.1) then N
  else if 2 + nI q ≤ pv_ab (N (e.1 - 2 * e.2) - N (e.1 - e.2)) then N
  else if pv_ab (N (e.1 + e.2) - N e.1) < 2 + nI q then
    pv_fw2 N (e.1 - e.2) e.1 (N (e.1 - e.2)) (N e.1) (pv_ee (N (e.1 - 2 * e.2)) (N (e.1 - e.2)) (N e.1) (N (e.1 + e.2)) (pv_ft (M (pv_bk (e.1 - e.2))) (M (pv_bk e.1)) q))
  else N
def pv_fe (M : Nat → Int32) (q : Nat) (l : List (Nat × Nat)) (N : Nat → Int32) : Nat → Int32 := l.foldl (fun N e => pv_fln M q e N) N
def pv_ev (j n : Nat) : List (Nat × Nat) := (List.range n).map (fun y => (16 * y + 4 * (j + 1), 1))
def pv_eh (j n : Nat) : List (Nat × Nat) := (List.range n).map (fun x => (16 * (4 * (j + 1)) + x, 16))
def pv_evs (R n : Nat) : List (Nat × Nat) := (List.range n).flatMap (fun j => pv_ev j (4 * R))
def pv_ehs (C n : Nat) : List (Nat × Nat) := (List.range n).flatMap (fun j => pv_eh j (4 * C))
def pv_edges (C R : Nat) : List (Nat × Nat) := pv_evs R (C - 1) ++ pv_ehs C (R - 1)
theorem pv_ev_s (j n : Nat) : pv_ev j (n + 1) = pv_ev j n ++ [(16 * n + 4 * (j + 1), 1)] := by
  unfold pv_ev
  rw [List.range_succ, List.map_append]
  rfl
theorem pv_eh_s (j n : Nat) : pv_eh j (n + 1) = pv_eh j n ++ [(16 * (4 * (j + 1)) + n, 16)] := by
  unfold pv_eh
  rw [List.range_succ, List.map_append]
  rfl
theorem pv_evs_s (R n : Nat) : pv_evs R (n + 1) = pv_evs R n ++ pv_ev n (4 * R) := by
  unfold pv_evs
  rw [List.range_succ, List.flatMap_append]
  simp only [List.flatMap_cons, List.flatMap_nil, List.append_nil]
theorem pv_ehs_s (C n : Nat) : pv_ehs C (n + 1) = pv_ehs C n ++ pv_eh n (4 * C) := by
  unfold pv_ehs
  rw [List.range_succ, List.flatMap_append]
  simp only [List.flatMap_cons, List.flatMap_nil, List.append_nil]
theorem pv_fe_a (M : Nat → Int32) (q : Nat) (l l' : List (Nat × Nat)) (N : Nat → Int32) : pv_fe M q (l ++ l') N = pv_fe M q l' (pv_fe M q l N) := by
  unfold pv_fe
  rw [List.foldl_append]
theorem pv_u384 (pix : Nat → Int32) (i : Nat) (v : Int32) : (fun p => upd pix (384 + i) v (384 + p)) = upd (fun p => pix (384 + p)) i v := by
  funext p
  show (if 384 + p = 384 + i then v else pix (384 + p)) = (if p = i then v else pix (384 + p))
  by_cases h : p = i
  · rw [if_pos h, if_pos (by omega)]
  · rw [if_neg h, if_neg (by omega)]
theorem pv_u384w (pix : Nat → Int32) (i j : Nat) (b c e : Int32) : (fun p => pv_fw2 pix (384 + i) (384 + j) b c e (384 + p)) = pv_fw2 (fun p => pix (384 + p)) i j b c e := by
  unfold pv_fw2
  rw [pv_u384, pv_u384]
theorem pv_bkI {p : Nat} (hp : p < 128) : 4 * (nI p >>> ((6 : Int32) &&& 31)) + ((nI p &&& 15) >>> ((2 : Int32) &&& 31)) = nI (pv_bk p) := by
  rw [pv_shr6 (by omega), pv_and15 (by omega), pv_shr2 (by omega), pv_4m, nI_add]
  rfl
theorem pv_bk_lt {p : Nat} (hp : p < 128) : pv_bk p < 8 := by
  unfold pv_bk
  omega
section
variable {C R g : Nat} {qa1 qa2 qa3 qa4 xcc xdc xpk xfi xsl xcu xrf xpx xpy xbc xbl xto xwo xwr : Int32} {pix xmd xvx xvy sem sev prd rsd bts len tgs dam : Nat → Int32} {post : SX → Prop}
theorem xq_fln160 {pl st : Nat} {a b c d z0 z1 t : Int32} (h1 : st ≤ pl) (h2 : pl < 128) (ht : z1 + z0 = t) (h : post (qa1, qa2, qa3, qa4, (nI C), (nI R), (nI g), (nI (4 * C)), (nI (4 * R)), xcc, xdc, xpk, xfi, xsl, xcu, xrf, xpx, xpy, xbc, xbl, xto, xwo, xwr, pv_fw2 pix (384 + (pl - st)) (384 + pl) b c (pv_ee a b c d t), xmd, xvx, xvy, sem, sev, prd, rsd, bts, len, tgs, dam)) :
    wX_filterLine_160 post (nI st) (nI (384 + pl)) a b c d z0 z1 qa1 qa2 qa3 qa4 (nI C) (nI R) (nI g) (nI (4 * C)) (nI (4 * R)) xcc xdc xpk xfi xsl xcu xrf xpx xpy xbc xbl xto xwo xwr pix xmd xvx xvy sem sev prd rsd bts len tgs dam := by
  unfold wX_filterLine_160
  have e : nI (384 + pl) - nI st = nI (384 + (pl - st)) := by
    rw [pk_sub (by omega)]
    exact congrArg nI (by omega)
  refine nm_r ht (xq_clamp (xq_clamp ?_))
  rw [e, nI_clamp (by omega), nI_clamp (by omega)]
  exact ⟨vp_in_nI (by omega) (by omega), nm_e (xq_clamp ⟨vp_in_nI (by omega) (by omega), nm_e h⟩)⟩
theorem xq_fln90 {pl st q : Nat} {a b c d m n : Int32} (h1 : st ≤ pl) (h2 : pl < 128) (hq : q ≤ 40)
    (h : post (qa1, qa2, qa3, qa4, (nI C), (nI R), (nI g), (nI (4 * C)), (nI (4 * R)), xcc, xdc, xpk, xfi, xsl, xcu, xrf, xpx, xpy, xbc, xbl, xto, xwo, xwr, (if 4 + 2 * nI q ≤ pv_ab (b - c) then pix else if 2 + nI q ≤ pv_ab (a - b) then pix else if pv_ab (d - c) < 2 + nI q then pv_fw2 pix (384 + (pl - st)) (384 + pl) b c (pv_ee a b c d (pv_ft m n q)) else pix), xmd, xvx, xvy, sem, sev, prd, rsd, bts, len, tgs, dam)) :
    wX_filterLine_90 post (nI st) (nI q) (nI (384 + pl)) a b c d m n qa1 qa2 qa3 qa4 (nI C) (nI R) (nI g) (nI (4 * C)) (nI (4 * R)) xcc xdc xpk xfi xsl xcu xrf xpx xpy xbc xbl xto xwo xwr pix xmd xvx xvy sem sev prd rsd bts len tgs dam := by
  unfold wX_filterLine_90 wX_filterLine_155
  have eq : nI q >>> ((2 : Int32) &&& 31) = nI (q / 4) := pv_shr2 (by omega)
  rw [eq]
  refine xq_abs ?_
  by_cases c1 : 4 + 2 * nI q ≤ pv_ab (b - c)
  · rw [if_pos c1] at h
    exact br_t c1 h
  · rw [if_neg c1] at h
    refine br_f c1 (xq_abs ?_)
    by_cases c2 : 2 + nI q ≤ pv_ab (a - b)
    · rw [if_pos c2] at h
      exact br_t c2 h
    · rw [if_neg c2] at h
      refine br_f c2 (xq_abs ?_)
      by_cases c3 : pv_ab (d - c) < 2 + nI q
      · rw [if_pos c3] at h
        refine br_t c3 ?_
        unfold pv_ft at h
        by_cases c4 : m < 4
        · rw [if_pos (Or.inl c4)] at h
          exact br_t c4 (xq_fln160 h1 h2 rfl h)
        · refine br_f c4 ?_
          by_cases c5 : n < 4
          · rw [if_pos (Or.inr c5)] at h
            exact br_f (Int32.not_le.mpr c5) (xq_fln160 h1 h2 rfl h)
          · rw [if_neg (fun k => k.elim c4 c5)] at h
            exact br_t (Int32.not_lt.mp c5) (xq_fln160 h1 h2 (Int32.add_zero _) h)
      · rw [if_neg c3] at h
        exact br_f c3 h
theorem xq_fline {pl st q : Nat} (h1 : 2 * st ≤ pl) (h2 : pl + st < 128) (hq : q ≤ 40) (h : ∀ a : Nat → Int32, (∀ p, a (384 + p) = pv_fln xmd q (pl, st) (fun p => pix (384 + p)) p) → (∀ p, p < 384 → a p = pix p) → post (qa1, qa2, qa3, qa4, (nI C), (nI R), (nI g), (nI (4 * C)), (nI (4 * R)), xcc, xdc, xpk, xfi, xsl, xcu, xrf, xpx, xpy, xbc, xbl, xto, xwo, xwr, a, xmd, xvx, xvy, sem, sev, prd, rsd, bts, len, tgs, dam)) : wpX_filterLine post (qa1, qa2, qa3, qa4, (nI C), (nI R), (nI g), (nI (4 * C)), (nI (4 * R)), xcc, xdc, xpk, xfi, xsl, xcu, xrf, xpx, xpy, xbc, xbl, xto, xwo, xwr, pix, xmd, xvx, xvy, sem, sev, prd, rsd, bts, len, tgs, dam) (nI pl) (nI st) (nI q) := by
  unfold wpX_filterLine
  have e0 : nI (384 + pl) - 2 * nI st = nI (384 + (pl - 2 * st)) := by
    rw [pv_2m, pk_sub (by omega)]
    exact congrArg nI (by omega)
  have e1 : nI (384 + pl) - nI st = nI (384 + (pl - st)) := by
    rw [pk_sub (by omega)]
    exact congrArg nI (by omega)
  have e2 : nI (384 + pl) + nI st = nI (384 + (pl + st)) := by
    rw [nI_add, Nat.add_assoc]
  have e3 : nI pl - nI st = nI (pl - st) := pk_sub (by omega)
  have k1 := pv_bk_lt (p := pl - st) (by omega)
  have k2 := pv_bk_lt (p := pl) (by omega)
  refine nm_r (pv_384 pl) ?_
  rw [e0, e1, e2, e3]
  refine ⟨vp_in_nI (by omega) (by omega), nm_r (congrArg pix (nI_clamp (by omega))) ⟨vp_in_nI (by omega) (by omega), nm_r (congrArg pix (nI_clamp (by omega))) ⟨vp_in_nI (by omega) (by omega), nm_r (congrArg pix (nI_clamp (by omega))) ⟨vp_in_nI (by omega) (by omega), nm_r (congrArg pix (nI_clamp (by omega))) ?_⟩⟩⟩⟩
  show wpX_blockOf _ _ _
  have bl : ∀ {u : SX} {p : Nat} {Q : Int32 → Prop}, p < 128 → Q (nI (pv_bk p)) → wpX_blockOf Q u (nI p) := fun {u p Q} hp hQ => by
    show Q (4 * (nI p >>> ((6 : Int32) &&& 31)) + ((nI p &&& 15) >>> ((2 : Int32) &&& 31)))
    rw [pv_bkI hp]
    exact hQ
  refine bl (by omega) ⟨vp_in_nI k1 (by omega), nm_r (congrArg xmd (nI_clamp (by omega))) ?_⟩
  refine bl (by omega) ⟨vp_in_nI k2 (by omega), nm_r (congrArg xmd (nI_clamp (by omega))) ?_⟩
  have same : ∀ (hh : pv_fln xmd q (pl, st) (fun p => pix (384 + p)) = (fun p => pix (384 + p))), post (qa1, qa2, qa3, qa4, (nI C), (nI R), (nI g), (nI (4 * C)), (nI (4 * R)), xcc, xdc, xpk, xfi, xsl, xcu, xrf, xpx, xpy, xbc, xbl, xto, xwo, xwr, pix, xmd, xvx, xvy, sem, sev, prd, rsd, bts, len, tgs, dam) := fun hh => h pix (fun p => by rw [hh]) (fun _ _ => rfl)
  have rest : ¬ (xmd (pv_bk (pl - st)) = 5 ∧ xmd (pv_bk pl) = 5) → wX_filterLine_90 post (nI st) (nI q) (nI (384 + pl)) (pix (384 + (pl - 2 * st))) (pix (384 + (pl - st))) (pix (384 + pl)) (pix (384 + (pl + st))) (xmd (pv_bk (pl - st))) (xmd (pv_bk pl)) qa1 qa2 qa3 qa4 (nI C) (nI R) (nI g) (nI (4 * C)) (nI (4 * R)) xcc xdc xpk xfi xsl xcu xrf xpx xpy xbc xbl xto xwo xwr pix xmd xvx xvy sem sev prd rsd bts len tgs dam := fun hn => by
    refine xq_fln90 (by omega) (by omega) hq (h _ (fun p => ?_) (fun p hp => ?_))
    · unfold pv_fln
      rw [if_neg hn]
      dsimp only
      by_cases c1 : 4 + 2 * nI q ≤ pv_ab (pix (384 + (pl - st)) - pix (384 + pl))
      · rw [if_pos c1, if_pos c1]
      · rw [if_neg c1, if_neg c1]
        by_cases c2 : 2 + nI q ≤ pv_ab (pix (384 + (pl - 2 * st)) - pix (384 + (pl - st)))
        · rw [if_pos c2, if_pos c2]
        · rw [if_neg c2, if_neg c2]
          by_cases c3 : pv_ab (pix (384 + (pl + st)) - pix (384 + pl)) < 2 + nI q
          · rw [if_pos c3, if_pos c3]
            exact congrFun (pv_u384w pix (pl - st) pl _ _ _) p
          · rw [if_neg c3, if_neg c3]
    · split
      · rfl
      · split
        · rfl
        · split
          · unfold pv_fw2
            rw [pk_un (by omega), pk_un (by omega)]
          · rfl
  by_cases c1 : xmd (pv_bk (pl - st)) = 5
  · refine br_t c1 ?_
    by_cases c2 : xmd (pv_bk pl) = 5
    · exact br_t c2 (same (if_pos ⟨c1, c2⟩))
    · exact br_f c2 (rest (fun k => c2 k.2))
  · exact br_f c1 (rest (fun k => c1 k.1))
theorem xq_fe56 {J : Int32 → Int32 → Int32 → Int32 → Int32 → Int32 → Int32 → Int32 → Int32 → Int32 → Int32 → Int32 → Int32 → Int32 → Int32 → Int32 → Int32 → Int32 → Int32 → Int32 → Int32 → Int32 → Int32 → Int32 → (Nat → Int32) → (Nat → Int32) → (Nat → Int32) → (Nat → Int32) → (Nat → Int32) → (Nat → Int32) → (Nat → Int32) → (Nat → Int32) → (Nat → Int32) → (Nat → Int32) → (Nat → Int32) → (Nat → Int32) → Prop} {q j : Nat} {N : Nat → Int32} {l : List (Nat × Nat)} (hC : C ≤ 4) (hR : R ≤ 2) (hq : q ≤ 40) (hj : j < R - 1) (hN : ∀ p, pix (384 + p) = pv_fe xmd q l N p)
    (h : ∀ a : Nat → Int32, (∀ p, a (384 + p) = pv_fe xmd q (l ++ pv_eh j (4 * C)) N p) → (∀ p, p < 384 → a p = pix p) → J (nI (4 * (j + 1 + 1))) qa1 qa2 qa3 qa4 (nI C) (nI R) (nI g) (nI (4 * C)) (nI (4 * R)) xcc xdc xpk xfi xsl xcu xrf xpx xpy xbc xbl xto xwo xwr a xmd xvx xvy sem sev prd rsd bts len tgs dam) : ∃ n : Nat, wX_filterEdges_56 post J (nI q) (nI (4 * (j + 1))) n 0 qa1 qa2 qa3 qa4 (nI C) (nI R) (nI g) (nI (4 * C)) (nI (4 * R)) xcc xdc xpk xfi xsl xcu xrf xpx xpy xbc xbl xto xwo xwr pix xmd xvx xvy sem sev prd rsd bts len tgs dam := by
  refine loop_0 (fun n i a => wX_filterEdges_56 post J (nI q) (nI (4 * (j + 1))) n (nI i) qa1 qa2 qa3 qa4 (nI C) (nI R) (nI g) (nI (4 * C)) (nI (4 * R)) xcc xdc xpk xfi xsl xcu xrf xpx xpy xbc xbl xto xwo xwr a xmd xvx xvy sem sev prd rsd bts len tgs dam) (fun i a => (∀ p, a (384 + p) = pv_fe xmd q (l ++ pv_eh j i) N p) ∧ (∀ p, p < 384 → a p = pix p)) (4 * C) pix ⟨fun p => ?_, fun _ _ => rfl⟩ (fun n a ha => ?_) (fun n i a hi ha ih => ?_)
  · rw [hN p]
    show _ = pv_fe xmd q (l ++ []) N p
    rw [List.append_nil]
  · exact br_t (nI_le (by omega) (by omega)) (nm_r (pv_a4 _) (h a ha.1 ha.2))
  · refine br_f (nI_ge hi (by omega)) ?_
    rw [pv_16m, nI_add]
    refine xq_fline (st := 16) (by omega) (by omega) hq (fun a' h1 h2 => nm_r (nI_1 i) (ih a' ⟨fun p => ?_, fun p hp => ?_⟩))
    · have e : (fun p => a (384 + p)) = pv_fe xmd q (l ++ pv_eh j i) N := funext ha.1
      rw [h1 p, e, pv_eh_s, ← List.append_assoc, pv_fe_a _ _ (l ++ pv_eh j i)]
      rfl
    · rw [h2 p hp, ha.2 p hp]
theorem xq_fe46 {q : Nat} {N : Nat → Int32} {l : List (Nat × Nat)} (hC : C ≤ 4) (hR : R ≤ 2) (hR0 : 1 ≤ R) (hq : q ≤ 40) (hN : ∀ p, pix (384 + p) = pv_fe xmd q l N p)
    (h : ∀ a : Nat → Int32, (∀ p, a (384 + p) = pv_fe xmd q (l ++ pv_ehs C (R - 1)) N p) → (∀ p, p < 384 → a p = pix p) → post (qa1, qa2, qa3, qa4, (nI C), (nI R), (nI g), (nI (4 * C)), (nI (4 * R)), xcc, xdc, xpk, xfi, xsl, xcu, xrf, xpx, xpy, xbc, xbl, xto, xwo, xwr, a, xmd, xvx, xvy, sem, sev, prd, rsd, bts, len, tgs, dam)) : ∃ n : Nat, wX_filterEdges_46 post (nI q) n 4 qa1 qa2 qa3 qa4 (nI C) (nI R) (nI g) (nI (4 * C)) (nI (4 * R)) xcc xdc xpk xfi xsl xcu xrf xpx xpy xbc xbl xto xwo xwr pix xmd xvx xvy sem sev prd rsd bts len tgs dam := by
  refine loop_0 (fun n j a => wX_filterEdges_46 post (nI q) n (nI (4 * (j + 1))) qa1 qa2 qa3 qa4 (nI C) (nI R) (nI g) (nI (4 * C)) (nI (4 * R)) xcc xdc xpk xfi xsl xcu xrf xpx xpy xbc xbl xto xwo xwr a xmd xvx xvy sem sev prd rsd bts len tgs dam) (fun j a => (∀ p, a (384 + p) = pv_fe xmd q (l ++ pv_ehs C j) N p) ∧ (∀ p, p < 384 → a p = pix p)) (R - 1) pix ⟨fun p => ?_, fun _ _ => rfl⟩ (fun n a ha => ?_) (fun n j a hj ha ih => ?_)
  · rw [hN p]
    show _ = pv_fe xmd q (l ++ []) N p
    rw [List.append_nil]
  · exact br_t (nI_le (by omega) (by omega)) (h a ha.1 ha.2)
  · refine br_f (nI_ge (by omega) (by omega)) (xq_fe56 (N := N) (l := l ++ pv_ehs C j) hC hR hq hj ha.1 (fun a' h1 h2 => ih a' ⟨fun p => ?_, fun p hp => ?_⟩))
    · rw [h1 p, pv_ehs_s, List.append_assoc]
    · rw [h2 p hp, ha.2 p hp]
theorem xq_fe12 {J : Int32 → Int32 → Int32 → Int32 → Int32 → Int32 → Int32 → Int32 → Int32 → Int32 → Int32 → Int32 → Int32 → Int32 → Int32 → Int32 → Int32 → Int32 → Int32 → Int32 → Int32 → Int32 → Int32 → Int32 → (Nat → Int32) → (Nat → Int32) → (Nat → Int32) → (Nat → Int32) → (Nat → Int32) → (Nat → Int32) → (Nat → Int32) → (Nat → Int32) → (Nat → Int32) → (Nat → Int32) → (Nat → Int32) → (Nat → Int32) → Prop} {q j : Nat} {N : Nat → Int32} {l : List (Nat × Nat)} (hC : C ≤ 4) (hR : R ≤ 2) (hq : q ≤ 40) (hj : j < C - 1) (hN : ∀ p, pix (384 + p) = pv_fe xmd q l N p)
    (h : ∀ a : Nat → Int32, (∀ p, a (384 + p) = pv_fe xmd q (l ++ pv_ev j (4 * R)) N p) → (∀ p, p < 384 → a p = pix p) → J (nI (4 * (j + 1 + 1))) qa1 qa2 qa3 qa4 (nI C) (nI R) (nI g) (nI (4 * C)) (nI (4 * R)) xcc xdc xpk xfi xsl xcu xrf xpx xpy xbc xbl xto xwo xwr a xmd xvx xvy sem sev prd rsd bts len tgs dam) : ∃ n : Nat, wX_filterEdges_12 post J (nI q) (nI (4 * (j + 1))) n 0 qa1 qa2 qa3 qa4 (nI C) (nI R) (nI g) (nI (4 * C)) (nI (4 * R)) xcc xdc xpk xfi xsl xcu xrf xpx xpy xbc xbl xto xwo xwr pix xmd xvx xvy sem sev prd rsd bts len tgs dam := by
  refine loop_0 (fun n i a => wX_filterEdges_12 post J (nI q) (nI (4 * (j + 1))) n (nI i) qa1 qa2 qa3 qa4 (nI C) (nI R) (nI g) (nI (4 * C)) (nI (4 * R)) xcc xdc xpk xfi xsl xcu xrf xpx xpy xbc xbl xto xwo xwr a xmd xvx xvy sem sev prd rsd bts len tgs dam) (fun i a => (∀ p, a (384 + p) = pv_fe xmd q (l ++ pv_ev j i) N p) ∧ (∀ p, p < 384 → a p = pix p)) (4 * R) pix ⟨fun p => ?_, fun _ _ => rfl⟩ (fun n a ha => ?_) (fun n i a hi ha ih => ?_)
  · rw [hN p]
    show _ = pv_fe xmd q (l ++ []) N p
    rw [List.append_nil]
  · exact br_t (nI_le (by omega) (by omega)) (nm_r (pv_a4 _) (h a ha.1 ha.2))
  · refine br_f (nI_ge hi (by omega)) ?_
    rw [pv_16m, nI_add]
    refine xq_fline (st := 1) (by omega) (by omega) hq (fun a' h1 h2 => nm_r (nI_1 i) (ih a' ⟨fun p => ?_, fun p hp => ?_⟩))
    · have e : (fun p => a (384 + p)) = pv_fe xmd q (l ++ pv_ev j i) N := funext ha.1
      rw [h1 p, e, pv_ev_s, ← List.append_assoc, pv_fe_a _ _ (l ++ pv_ev j i)]
      rfl
    · rw [h2 p hp, ha.2 p hp]
theorem xq_filter {q : Nat} (hC : C ≤ 4) (hR : R ≤ 2) (hC0 : 1 ≤ C) (hR0 : 1 ≤ R) (hq : q ≤ 40)
    (h : ∀ a : Nat → Int32, (∀ p, a (384 + p) = pv_fe xmd q (pv_edges C R) (fun p => pix (384 + p)) p) → (∀ p, p < 384 → a p = pix p) → post (qa1, qa2, qa3, qa4, (nI C), (nI R), (nI g), (nI (4 * C)), (nI (4 * R)), xcc, xdc, xpk, xfi, xsl, xcu, xrf, xpx, xpy, xbc, xbl, xto, xwo, xwr, a, xmd, xvx, xvy, sem, sev, prd, rsd, bts, len, tgs, dam)) : wpX_filterEdges post (qa1, qa2, qa3, qa4, (nI C), (nI R), (nI g), (nI (4 * C)), (nI (4 * R)), xcc, xdc, xpk, xfi, xsl, xcu, xrf, xpx, xpy, xbc, xbl, xto, xwo, xwr, pix, xmd, xvx, xvy, sem, sev, prd, rsd, bts, len, tgs, dam) (nI q) := by
  unfold wpX_filterEdges
  refine loop_0 (fun n j a => wX_filterEdges_2 post (nI q) n (nI (4 * (j + 1))) qa1 qa2 qa3 qa4 (nI C) (nI R) (nI g) (nI (4 * C)) (nI (4 * R)) xcc xdc xpk xfi xsl xcu xrf xpx xpy xbc xbl xto xwo xwr a xmd xvx xvy sem sev prd rsd bts len tgs dam) (fun j a => (∀ p, a (384 + p) = pv_fe xmd q (pv_evs R j) (fun p => pix (384 + p)) p) ∧ (∀ p, p < 384 → a p = pix p)) (C - 1) pix ⟨fun _ => rfl, fun _ _ => rfl⟩ (fun n a ha => ?_) (fun n j a hj ha ih => ?_)
  · exact br_t (nI_le (by omega) (by omega)) (xq_fe46 (N := fun p => pix (384 + p)) (l := pv_evs R (C - 1)) hC hR hR0 hq ha.1 (fun a' h1 h2 => h a' h1 (fun p hp => (h2 p hp).trans (ha.2 p hp))))
  · refine br_f (nI_ge (by omega) (by omega)) (xq_fe12 (N := fun p => pix (384 + p)) (l := pv_evs R j) hC hR hq hj ha.1 (fun a' h1 h2 => ih a' ⟨fun p => ?_, fun p hp => ?_⟩))
    · rw [h1 p, pv_evs_s]
    · rw [h2 p hp, ha.2 p hp]
theorem xq_copy {B : Nat} (hB : B + 128 ≤ 384) (h : ∀ a : Nat → Int32, (∀ p, p < 128 → a (B + p) = pix (384 + p)) → (∀ p, (p < B ∨ B + 128 ≤ p) → a p = pix p) → post (qa1, qa2, qa3, qa4, (nI C), (nI R), (nI g), (nI (4 * C)), (nI (4 * R)), xcc, xdc, xpk, xfi, xsl, xcu, xrf, xpx, xpy, xbc, xbl, xto, xwo, xwr, a, xmd, xvx, xvy, sem, sev, prd, rsd, bts, len, tgs, dam)) : ∃ n : Nat, wX_buildFrame_63 post (nI B) qa1 qa2 qa3 qa4 (nI C) (nI R) (nI g) (nI (4 * C)) (nI (4 * R)) xcc xdc xpk xfi xsl xcu xrf xpx xpy xbc xbl xto xwo xwr n 0 pix xmd xvx xvy sem sev prd rsd bts len tgs dam := by
  refine loop_0 (fun n i a => wX_buildFrame_63 post (nI B) qa1 qa2 qa3 qa4 (nI C) (nI R) (nI g) (nI (4 * C)) (nI (4 * R)) xcc xdc xpk xfi xsl xcu xrf xpx xpy xbc xbl xto xwo xwr n (nI i) a xmd xvx xvy sem sev prd rsd bts len tgs dam) (fun i a => (∀ p, p < i → a (B + p) = pix (384 + p)) ∧ (∀ p, (p < B ∨ B + i ≤ p) → a p = pix p)) 128 pix ⟨lt_0, fun _ _ => rfl⟩ (fun n a ha => ?_) (fun n i a hi ha ih => ?_)
  · exact br_t (nI_le (a := 128) (by omega) (by omega)) (h a ha.1 ha.2)
  · refine br_f (nI_ge (b := 128) hi (by omega)) ?_
    rw [pv_384, nI_add, nI_clamp (by omega), nI_clamp (by omega)]
    refine ⟨vp_in_nI (by omega) (by omega), vp_in_nI (by omega) (by omega), nm_e (nm_r (nI_1 i) (ih _ ⟨fun p hp => ?_, fun p hp => ?_⟩))⟩
    · by_cases e : p = i
      · rw [e, pk_us, ha.2 _ (by omega)]
      · rw [pk_un (by omega), ha.1 p (by omega)]
    · rw [pk_un (by omega), ha.2 p (by omega)]
end
end
section
/-! frames: what a prediction reads; X reads a frame -/
def pv_dn (C R b p : Nat) : Prop := pv_is C R p ∧ pv_bk p < b
theorem pv_gs_congr {V V' : Nat → Int32} {C R c r : Nat} (hc : c < C) (hr : r < R) (h : ∀ c' r', c' < C → r' < R → 4 * r' + c' < 4 * r + c → V (4 * r' + c') = V' (4 * r' + c')) (hC : C ≤ 4) : pv_gs V C c r = pv_gs V' C c r := by
  have e1 : pv_lf V c r = pv_lf V' c r := by
    unfold pv_lf
    by_cases c0 : 0 < c
    · rw [if_pos c0, if_pos c0, h (c - 1) r (by omega) hr (by omega)]
    · rw [if_neg c0, if_neg c0]
  have e2 : pv_up V c r = pv_up V' c r := by
    unfold pv_up
    by_cases r0 : 0 < r
    · rw [if_pos r0, if_pos r0, h c (r - 1) hc (by omega) (by omega)]
    · rw [if_neg r0, if_neg r0]
  have e3 : pv_th V C c r = pv_th V' C c r := by
    unfold pv_th
    by_cases c1 : c + 1 < C
    · rw [if_pos c1, if_pos c1]
      by_cases r0 : 0 < r
      · rw [if_pos r0, if_pos r0, h (c + 1) (r - 1) c1 (by omega) (by omega)]
      · rw [if_neg r0, if_neg r0]
    · rw [if_neg c1, if_neg c1]
      by_cases c0 : 0 < c
      · rw [if_pos c0, if_pos c0]
        by_cases r0 : 0 < r
        · rw [if_pos r0, if_pos r0, h (c - 1) (r - 1) (by omega) (by omega) (by omega)]
        · rw [if_neg r0, if_neg r0]
      · rw [if_neg c0, if_neg c0]
  unfold pv_gs
  rw [e1, e2, e3]
theorem pv_top_dn {C R c r k : Nat} (hC : C ≤ 4) (hc : c < C) (hr : r < R) (r0 : 0 < r) (hk : k < 4) : pv_dn C R (4 * r + c) (64 * r + 4 * c - 16 + k) := by
  unfold pv_dn pv_is pv_bk
  omega
theorem pv_lef_dn {C R c r k : Nat} (hC : C ≤ 4) (hc : c < C) (hr : r < R) (c0 : 0 < c) (hk : k < 4) : pv_dn C R (4 * r + c) (64 * r + 4 * c - 1 + 16 * k) := by
  unfold pv_dn pv_is pv_bk
  omega
theorem pv_fs_congr {N N' : Nat → Int32} {C R c r : Nat} (hC : C ≤ 4) (hc : c < C) (hr : r < R) (h : ∀ p, pv_dn C R (4 * r + c) p → N p = N' p) : ∀ k, k ≤ 4 → pv_fs N c r k = pv_fs N' c r k
  | 0, _ => rfl
  | k + 1, hk => by
    have a := pv_fs_congr hC hc hr h k (by omega)
    show pv_fs N c r k + (pv_top N c r k + pv_lef N c r k) = pv_fs N' c r k + (pv_top N' c r k + pv_lef N' c r k)
    have e1 : pv_top N c r k = pv_top N' c r k := by
      unfold pv_top
      by_cases r0 : 0 < r
      · rw [if_pos r0, if_pos r0, h _ (pv_top_dn hC hc hr r0 (by omega))]
      · rw [if_neg r0, if_neg r0]
    have e2 : pv_lef N c r k = pv_lef N' c r k := by
      unfold pv_lef
      by_cases c0 : 0 < c
      · rw [if_pos c0, if_pos c0, h _ (pv_lef_dn hC hc hr c0 (by omega))]
      · rw [if_neg c0, if_neg c0]
    rw [a, e1, e2]
theorem pv_fl_congr {N N' : Nat → Int32} {C R c r : Nat} (hC : C ≤ 4) (hc : c < C) (hr : r < R) (h : ∀ p, pv_dn C R (4 * r + c) p → N p = N' p) : pv_fl N c r = pv_fl N' c r := by
  unfold pv_fl
  rw [pv_fs_congr hC hc hr h 4 (by omega)]
theorem pv_rf_congr {P P' : Nat → Int32} {C R : Nat} {x y : Int32} (hC : C ≤ 4) (hR : R ≤ 2) (hC0 : 1 ≤ C) (hR0 : 1 ≤ R) (h : ∀ p, pv_is C R p → P p = P' p) : pv_rf P C R x y = pv_rf P' C R x y := by
  unfold pv_rf
  have ex := (pv_cn_ok x (m := 4 * C - 1) (by omega)).2
  have ey := (pv_cn_ok y (m := 4 * R - 1) (by omega)).2
  refine h _ ?_
  unfold pv_is
  omega
theorem pv_pr_congr {N N' P P' : Nat → Int32} {C R m c r i : Nat} {dx dy : Int32} (hC : C ≤ 4) (hR : R ≤ 2) (hc : c < C) (hr : r < R) (hi : i < 16) (hN : ∀ p, pv_dn C R (4 * r + c) p → N p = N' p) (hP : 4 ≤ m → ∀ p, pv_is C R p → P p = P' p) : pv_pr N P C R m c r dx dy i = pv_pr N' P' C R m c r dx dy i := by
  unfold pv_pr
  by_cases m4 : 4 ≤ m
  · rw [if_pos m4, if_pos m4]
    exact pv_rf_congr hC hR (by omega) (by omega) (hP m4)
  · rw [if_neg m4, if_neg m4]
    by_cases c2 : m = 2 ∧ 0 < r
    · rw [if_pos c2, if_pos c2]
      exact hN _ (pv_top_dn hC hc hr c2.2 (by omega))
    · rw [if_neg c2, if_neg c2]
      by_cases c3 : m = 3 ∧ 0 < c
      · rw [if_pos c3, if_pos c3]
        exact hN _ (pv_lef_dn hC hc hr c3.2 (by omega))
      · rw [if_neg c3, if_neg c3]
        exact pv_fl_congr hC hc hr hN
theorem pv_bk_at {c r i : Nat} (hc : c < 4) (hi : i < 16) : pv_bk (pv_at c r i) = 4 * r + c := by
  unfold pv_bk pv_at
  omega
theorem pv_at_is {C R c r i : Nat} (hC : C ≤ 4) (hc : c < C) (hr : r < R) (hi : i < 16) : pv_is C R (pv_at c r i) := by
  unfold pv_is pv_at
  omega
theorem pv_at_ex {p c r : Nat} (hc : c < 4) (h : pv_bk p = 4 * r + c) : ∃ i, i < 16 ∧ p = pv_at c r i := by
  unfold pv_bk at h
  refine ⟨4 * (p / 16 % 4) + p % 4, by omega, ?_⟩
  unfold pv_at
  omega
theorem pv_dn_s {C R c r : Nat} {A : Nat → Prop} (hc : c < 4) (h : ∀ p, pv_dn C R (4 * r + c) p → A p) (h2 : ∀ i, i < 16 → A (pv_at c r i)) : ∀ p, pv_dn C R (4 * r + (c + 1)) p → A p := by
  intro p hp
  by_cases e : pv_bk p = 4 * r + c
  · obtain ⟨i, hi, rfl⟩ := pv_at_ex hc e
    exact h2 i hi
  · exact h p ⟨hp.1, by have := hp.2; omega⟩
theorem pv_dn_row {C R r : Nat} {A : Nat → Prop} (hC : C ≤ 4) (h : ∀ p, pv_dn C R (4 * r + C) p → A p) : ∀ p, pv_dn C R (4 * (r + 1) + 0) p → A p := by
  intro p hp
  refine h p ⟨hp.1, ?_⟩
  have h1 := hp.1
  have h2 := hp.2
  unfold pv_is at h1
  unfold pv_bk at *
  omega
theorem pv_dn_all {C R : Nat} {A : Nat → Prop} (h : ∀ p, pv_dn C R (4 * R + 0) p → A p) : ∀ p, pv_is C R p → A p := by
  intro p hp
  refine h p ⟨hp, ?_⟩
  unfold pv_is at hp
  unfold pv_bk
  omega
/-- the record of a frame -/
def pv_FR (C R q kind : Nat) (P NE : Nat → Int32) (md : Nat → Nat) (vx vy : Nat → Int32) (rs : Nat → Nat → Int32) : Prop :=
  ∀ c r, c < C → r < R → pv_vd (md (4 * r + c)) (vx (4 * r + c)) (vy (4 * r + c)) (pv_gs vx C c r) (pv_gs vy C c r) ∧ (kind = 0 → md (4 * r + c) < 4) ∧
    ∀ i, i < 16 → NE (pv_at c r i) = pv_rc q (pv_pr NE P C R (md (4 * r + c)) c r (vx (4 * r + c)) (vy (4 * r + c))) (rs (4 * r + c)) i
def pv_TR (B : Nat → Int32) (C R : Nat) (md : Nat → Nat) (vx vy : Nat → Int32) (rs : Nat → Nat → Int32) (K : Nat → Nat) : Prop :=
  K 0 = 44 ∧ (∀ n, n ≤ R * C → K n ≤ 4096) ∧ ∀ c r, c < C → r < R → pv_bt B (K (r * C + c)) (md (4 * r + c)) (vx (4 * r + c)) (vy (4 * r + c)) (pv_gs vx C c r) (pv_gs vy C c r) (rs (4 * r + c)) (K (r * C + (c + 1)))
def pv_mv (C R b : Nat) (M VX VY : Nat → Int32) (md : Nat → Nat) (vx vy : Nat → Int32) : Prop :=
  ∀ c r, c < C → r < R → 4 * r + c < b → M (4 * r + c) = nI (md (4 * r + c)) ∧ VX (4 * r + c) = vx (4 * r + c) ∧ VY (4 * r + c) = vy (4 * r + c)
theorem pv_mv_s {C R c r : Nat} {M VX VY : Nat → Int32} {md : Nat → Nat} {vx vy : Nat → Int32} (hC : C ≤ 4) (hc : c < C) (h : pv_mv C R (4 * r + c) M VX VY md vx vy) :
    pv_mv C R (4 * r + (c + 1)) (upd M (4 * r + c) (nI (md (4 * r + c)))) (upd VX (4 * r + c) (vx (4 * r + c))) (upd VY (4 * r + c) (vy (4 * r + c))) md vx vy := by
  intro c' r' hc' hr' hb
  by_cases e : 4 * r' + c' = 4 * r + c
  · rw [e, pk_us, pk_us, pk_us]
    exact ⟨rfl, rfl, rfl⟩
  · rw [pk_un e, pk_un e, pk_un e]
    exact h c' r' hc' hr' (by omega)
theorem pv_mv_row {C R r : Nat} {M VX VY : Nat → Int32} {md : Nat → Nat} {vx vy : Nat → Int32} (hC : C ≤ 4) (h : pv_mv C R (4 * r + C) M VX VY md vx vy) : pv_mv C R (4 * (r + 1) + 0) M VX VY md vx vy :=
  fun c' r' hc' hr' hb => h c' r' hc' hr' (by omega)
section
variable {C R g : Nat} {qa1 qa2 qa3 qa4 xcc xdc xpk xfi xsl xcu xrf xpx xpy xbc xbl xto xwo xwr : Int32} {pix xmd xvx xvy sem sev prd rsd bts len tgs dam : Nat → Int32} {post : SX → Prop}
theorem xq_bf20R {J : Int32 → Int32 → Int32 → Int32 → Int32 → Int32 → Int32 → Int32 → Int32 → Int32 → Int32 → Int32 → Int32 → Int32 → Int32 → Int32 → Int32 → Int32 → Int32 → Int32 → Int32 → Int32 → Int32 → Int32 → (Nat → Int32) → (Nat → Int32) → (Nat → Int32) → (Nat → Int32) → (Nat → Int32) → (Nat → Int32) → (Nat → Int32) → (Nat → Int32) → (Nat → Int32) → (Nat → Int32) → (Nat → Int32) → (Nat → Int32) → Prop} {q s B kind r : Nat} {kd : Int32} {P NE : Nat → Int32} {md : Nat → Nat} {vx vy : Nat → Int32} {rs : Nat → Nat → Int32} {K : Nat → Nat}
    (hC : C ≤ 4) (hR : R ≤ 2) (hr : r < R) (hB : B + 128 ≤ 384) (hq2 : q ≤ 40) (hs : s < 2)
    (hF : pv_FR C R q kind P NE md vx vy rs) (hT : pv_TR (pv_sl bts s) C R md vx vy rs K) (hP : kind = 0 ∨ (kind = 1 ∧ ∀ p, pv_is C R p → pix (B + p) = P p))
    (hx8 : xvx 8 = 0) (hy8 : xvy 8 = 0) (hmv : pv_mv C R (4 * r + 0) xmd xvx xvy md vx vy) (hN : ∀ p, pv_dn C R (4 * r + 0) p → pix (384 + p) = NE p)
    (h : ∀ (a f' p' M VX VY : Nat → Int32) (x y : Int32), (∀ p, p < 384 → a p = pix p) → (∀ p, pv_dn C R (4 * (r + 1) + 0) p → a (384 + p) = NE p) → pv_mv C R (4 * (r + 1) + 0) M VX VY md vx vy → VX 8 = 0 → VY 8 = 0 → J (nI (r + 1)) qa1 qa2 qa3 qa4 (nI C) (nI R) (nI g) (nI (4 * C)) (nI (4 * R)) xcc xdc xpk xfi (nI s) (nI (K ((r + 1) * C + 0))) (nI B) x y xbc xbl xto xwo 0 a M VX VY sem sev p' f' bts len tgs dam) :
    ∃ n : Nat, wX_buildFrame_20 post J kd (nI q) (nI B) (nI r) n 0 qa1 qa2 qa3 qa4 (nI C) (nI R) (nI g) (nI (4 * C)) (nI (4 * R)) xcc xdc xpk xfi (nI s) (nI (K (r * C + 0))) (nI B) xpx xpy xbc xbl xto xwo 0 pix xmd xvx xvy sem sev prd rsd bts len tgs dam := by
  refine loop_0 (fun n c (z : Int32 × Int32 × (Nat → Int32) × (Nat → Int32) × (Nat → Int32) × (Nat → Int32) × (Nat → Int32) × (Nat → Int32)) => wX_buildFrame_20 post J kd (nI q) (nI B) (nI r) n (nI c) qa1 qa2 qa3 qa4 (nI C) (nI R) (nI g) (nI (4 * C)) (nI (4 * R)) xcc xdc xpk xfi (nI s) (nI (K (r * C + c))) (nI B) z.1 z.2.1 xbc xbl xto xwo 0 z.2.2.1 z.2.2.2.2.2.1 z.2.2.2.2.2.2.1 z.2.2.2.2.2.2.2 sem sev z.2.2.2.2.1 z.2.2.2.1 bts len tgs dam)
    (fun c z => (∀ p, p < 384 → z.2.2.1 p = pix p) ∧ (∀ p, pv_dn C R (4 * r + c) p → z.2.2.1 (384 + p) = NE p) ∧ pv_mv C R (4 * r + c) z.2.2.2.2.2.1 z.2.2.2.2.2.2.1 z.2.2.2.2.2.2.2 md vx vy ∧ z.2.2.2.2.2.2.1 8 = 0 ∧ z.2.2.2.2.2.2.2 8 = 0) C (xpx, xpy, pix, rsd, prd, xmd, xvx, xvy) ⟨fun _ _ => rfl, hN, hmv, hx8, hy8⟩ (fun n z hz => ?_) (fun n c z hc hz ih => ?_)
  · obtain ⟨x, y, a, f', p', M, VX, VY⟩ := z
    obtain ⟨z1, z2, z3, z4, z5⟩ := hz
    dsimp only at z1 z2 z3 z4 z5
    have ek : r * C + C = (r + 1) * C + 0 := by rw [Nat.add_mul, Nat.one_mul, Nat.add_zero]
    dsimp only
    rw [ek]
    exact br_t (nI_le (by omega) (by omega)) (nm_r (nI_1 r) (h a f' p' M VX VY x y z1 (pv_dn_row hC z2) (pv_mv_row hC z3) z4 z5))
  · obtain ⟨x, y, a, f', p', M, VX, VY⟩ := z
    obtain ⟨z1, z2, z3, z4, z5⟩ := hz
    dsimp only at z1 z2 z3 z4 z5
    dsimp only
    refine br_f (nI_ge hc (by omega)) ?_
    obtain ⟨f1, f2, f3⟩ := hF c r hc hr
    obtain ⟨t1, t2, t3⟩ := hT
    have t4 := t3 c r hc hr
    have ex : pv_gs VX C c r = pv_gs vx C c r := pv_gs_congr hc hr (fun c' r' a1 a2 a3 => (z3 c' r' a1 a2 a3).2.1) hC
    have ey : pv_gs VY C c r = pv_gs vy C c r := pv_gs_congr hc hr (fun c' r' a1 a2 a3 => (z3 c' r' a1 a2 a3).2.2) hC
    rw [← ex, ← ey] at f1 t4
    have hk : r * C + (c + 1) ≤ R * C := by
      have : (r + 1) * C ≤ R * C := Nat.mul_le_mul_right C hr
      rw [Nat.add_mul, Nat.one_mul] at this
      omega
    refine xq_blockR (b := 4 * r + c) hC hR z4 z5 f1 hc hr (by omega) rfl hq2 hs (t2 _ hk) t4 (fun a' f2' p2' x' y' w1 w2 => nm_r (nI_1 c) (ih (x', y', a', f2', p2', _, _, _) ⟨fun p hp => ?_, pv_dn_s (by omega) (fun p hp => ?_) (fun i hi => ?_), pv_mv_s hC hc z3, ?_, ?_⟩))
    · show a' p = pix p
      rw [w2 p (fun i hi => by omega)]
      exact z1 p hp
    · show a' (384 + p) = NE p
      rw [w2 (384 + p) (fun i hi k => ?_)]
      · exact z2 p hp
      · have e : p = pv_at c r i := by omega
        have b1 := hp.2
        rw [e, pv_bk_at (by omega) hi] at b1
        omega
    · show a' (384 + pv_at c r i) = NE (pv_at c r i)
      rw [w1 i hi, f3 i hi]
      refine pv_rc_congr (fun j hj => pv_pr_congr hC hR hc hr hj z2 (fun m4 p hp => ?_)) (fun _ _ => rfl) hi
      cases hP with
      | inl k0 => exact absurd (f2 k0) (by omega)
      | inr k1 =>
        show a (B + p) = P p
        have hp2 := hp.2
        rw [z1 (B + p) (by omega)]
        exact k1.2 p hp
    · show upd VX (4 * r + c) (vx (4 * r + c)) 8 = 0
      rw [pk_un (by omega)]
      exact z4
    · show upd VY (4 * r + c) (vy (4 * r + c)) 8 = 0
      rw [pk_un (by omega)]
      exact z5
def pv_FP (C R q : Nat) (M : Nat → Int32) (N : Nat → Int32) : Nat → Int32 := if q = 0 then N else pv_fe M q (pv_edges C R) N
theorem xq_tail {q B n : Nat} {x1 : Int32} (hC : C ≤ 4) (hR : R ≤ 2) (hC0 : 1 ≤ C) (hR0 : 1 ≤ R) (hB : B + 128 ≤ 384) (hq2 : q ≤ 40)
    (h : ∀ a : Nat → Int32, (∀ p, p < 128 → a (B + p) = pv_FP C R q xmd (fun p => pix (384 + p)) p) → (∀ p, p < 384 → (p < B ∨ B + 128 ≤ p) → a p = pix p) → post (qa1, qa2, qa3, qa4, (nI C), (nI R), (nI g), (nI (4 * C)), (nI (4 * R)), xcc, xdc, xpk, xfi, xsl, xcu, xrf, xpx, xpy, xbc, xbl, xto, xwo, xwr, a, xmd, xvx, xvy, sem, sev, prd, rsd, bts, len, tgs, dam)) :
    wX_buildFrame_8 post x1 (nI q) (nI B) (n + 1) (nI R) qa1 qa2 qa3 qa4 (nI C) (nI R) (nI g) (nI (4 * C)) (nI (4 * R)) xcc xdc xpk xfi xsl xcu xrf xpx xpy xbc xbl xto xwo xwr pix xmd xvx xvy sem sev prd rsd bts len tgs dam := by
  refine br_t (nI_le (Nat.le_refl _) (by omega)) ?_
  unfold pv_FP at h
  by_cases q0 : q = 0
  · rw [if_pos q0] at h
    exact br_t (nI_le (b := 0) (by omega) (by omega)) (xq_copy hB (fun a h1 h2 => h a h1 (fun p hp hb => h2 p hb)))
  · rw [if_neg q0] at h
    refine br_f (nI_nle (by omega) (by omega)) (xq_filter hC hR hC0 hR0 hq2 (fun a h1 h2 => xq_copy hB (fun a' g1 g2 => h a' (fun p hp => ?_) (fun p hp hb => ?_))))
    · rw [g1 p hp, h1 p]
    · rw [g2 p hb, h2 p hp]
theorem xq_frameR {q s B kind : Nat} {kd : Int32} {P NE : Nat → Int32} {md : Nat → Nat} {vx vy : Nat → Int32} {rs : Nat → Nat → Int32} {K : Nat → Nat}
    (hC : C ≤ 4) (hR : R ≤ 2) (hC0 : 1 ≤ C) (hR0 : 1 ≤ R) (hB : B + 128 ≤ 384) (hq2 : q ≤ 40) (hs : s < 2)
    (hF : pv_FR C R q kind P NE md vx vy rs) (hT : pv_TR (pv_sl bts s) C R md vx vy rs K) (hP : kind = 0 ∨ (kind = 1 ∧ ∀ p, pv_is C R p → pix (B + p) = P p))
    (hx8 : xvx 8 = 0) (hy8 : xvy 8 = 0)
    (h : ∀ (a f' p' M VX VY N : Nat → Int32) (x y : Int32), (∀ p, p < 384 → (p < B ∨ B + 128 ≤ p) → a p = pix p) → (∀ p, pv_is C R p → N p = NE p) → (∀ p, p < 128 → a (B + p) = pv_FP C R q M N p) → pv_mv C R (4 * R + 0) M VX VY md vx vy → VX 8 = 0 → VY 8 = 0 → post (qa1, qa2, qa3, qa4, (nI C), (nI R), (nI g), (nI (4 * C)), (nI (4 * R)), xcc, xdc, xpk, xfi, nI s, nI (K (R * C + 0)), nI B, x, y, xbc, xbl, xto, xwo, 0, a, M, VX, VY, sem, sev, p', f', bts, len, tgs, dam)) :
    wpX_buildFrame post (qa1, qa2, qa3, qa4, (nI C), (nI R), (nI g), (nI (4 * C)), (nI (4 * R)), xcc, xdc, xpk, xfi, nI s, nI 44, xrf, xpx, xpy, xbc, xbl, xto, xwo, 0, pix, xmd, xvx, xvy, sem, sev, prd, rsd, bts, len, tgs, dam) kd (nI q) (nI B) := by
  unfold wpX_buildFrame
  rw [← hT.1]
  have e0 : K 0 = K (0 * C + 0) := by rw [Nat.zero_mul]
  rw [e0]
  refine loop_0 (fun n r (z : Int32 × Int32 × (Nat → Int32) × (Nat → Int32) × (Nat → Int32) × (Nat → Int32) × (Nat → Int32) × (Nat → Int32)) => wX_buildFrame_8 post kd (nI q) (nI B) n (nI r) qa1 qa2 qa3 qa4 (nI C) (nI R) (nI g) (nI (4 * C)) (nI (4 * R)) xcc xdc xpk xfi (nI s) (nI (K (r * C + 0))) (nI B) z.1 z.2.1 xbc xbl xto xwo 0 z.2.2.1 z.2.2.2.2.2.1 z.2.2.2.2.2.2.1 z.2.2.2.2.2.2.2 sem sev z.2.2.2.2.1 z.2.2.2.1 bts len tgs dam)
    (fun r z => (∀ p, p < 384 → z.2.2.1 p = pix p) ∧ (∀ p, pv_dn C R (4 * r + 0) p → z.2.2.1 (384 + p) = NE p) ∧ pv_mv C R (4 * r + 0) z.2.2.2.2.2.1 z.2.2.2.2.2.2.1 z.2.2.2.2.2.2.2 md vx vy ∧ z.2.2.2.2.2.2.1 8 = 0 ∧ z.2.2.2.2.2.2.2 8 = 0) R (xpx, xpy, pix, rsd, prd, xmd, xvx, xvy) ⟨fun _ _ => rfl, fun p hp => ?_, fun c' r' a1 a2 a3 => ?_, hx8, hy8⟩ (fun n z hz => ?_) (fun n r z hr hz ih => ?_)
  · exact absurd hp.2 (by omega)
  · exact absurd a3 (by omega)
  · obtain ⟨x, y, a, f', p', M, VX, VY⟩ := z
    obtain ⟨z1, z2, z3, z4, z5⟩ := hz
    dsimp only at z1 z2 z3 z4 z5
    refine xq_tail hC hR hC0 hR0 hB hq2 (fun a' h1 h2 => h a' f' p' M VX VY (fun p => a (384 + p)) x y (fun p hp hb => ?_) (pv_dn_all z2) h1 z3 z4 z5)
    rw [h2 p hp hb]
    exact z1 p hp
  · obtain ⟨x, y, a, f', p', M, VX, VY⟩ := z
    obtain ⟨z1, z2, z3, z4, z5⟩ := hz
    dsimp only at z1 z2 z3 z4 z5
    refine br_f (nI_ge hr (by omega)) ?_
    refine xq_bf20R hC hR hr hB hq2 hs hF hT ?_ z4 z5 z3 z2 (fun a' f2' p2' M' VX' VY' x' y' w1 w2 w3 w4 w5 => ih (x', y', a', f2', p2', M', VX', VY') ⟨fun p hp => ?_, w2, w3, w4, w5⟩)
    · refine hP.imp (fun k => k) (fun k => ⟨k.1, fun p hp => ?_⟩)
      have hp2 := hp.2
      exact (z1 (B + p) (by omega)).trans (k.2 p hp)
    · show a' p = pix p
      rw [w1 p hp]
      exact z1 p hp
end
end
section
/-! the two choices are one -/
def pv_yd (k : Nat) : Int32 × Int32 := if k < 49 then (nI (k % 7) - 3, nI (k / 7) - 3) else (0, 0)
def pv_yh (k : Nat) : Nat := if k < 49 then 4 else k - 48
def pv_inr (g k : Nat) : Bool := decide (pv_ab (pv_yd k).1 ≤ nI g) && decide (pv_ab (pv_yd k).2 ≤ nI g)
def pv_ym (t s : Int32) (m : Nat) (d : Int32 × Int32) (y : Int32 × Int32 × Int32 × Int32) : Int32 × Int32 × Int32 × Int32 := if y.1 ≤ t * 8 + s then y else (t * 8 + s, nI m, d.1, d.2)
def pv_y4 (T : Nat → Int32 → Int32 → Int32) (y : Int32 × Int32 × Int32 × Int32) (d : Int32 × Int32) : Int32 × Int32 × Int32 × Int32 := pv_ym (T 4 d.1 d.2) (pv_ab d.1 + pv_ab d.2) 4 d y
def pv_y1 (T : Nat → Int32 → Int32 → Int32) (m : Nat) (y : Int32 × Int32 × Int32 × Int32) : Int32 × Int32 × Int32 × Int32 := pv_ym (T m 0 0) 7 m (0, 0) y
def pv_yk (T : Nat → Int32 → Int32 → Int32) (kind g c r k : Nat) (y : Int32 × Int32 × Int32 × Int32) : Int32 × Int32 × Int32 × Int32 :=
  if k < 49 then (if kind = 1 ∧ pv_inr g k = true then pv_y4 T y (pv_yd k) else y)
  else if k = 49 then pv_y1 T 1 y else if k = 50 then (if 0 < r then pv_y1 T 2 y else y) else (if 0 < c then pv_y1 T 3 y else y)
def pv_yf (T : Nat → Int32 → Int32 → Int32) (kind g c r : Nat) (y : Int32 × Int32 × Int32 × Int32) : Nat → Int32 × Int32 × Int32 × Int32
  | 0 => y
  | k + 1 => pv_yk T kind g c r k (pv_yf T kind g c r y k)
def pv_yc (T : Nat → Int32 → Int32 → Int32) (W : Int32) (kind q g c r : Nat) (px py m0 x0 y0 : Int32) : Int32 × Int32 × Int32 :=
  if kind = 1 ∧ ¬ nI (q / 4) < W then (5, px, py) else (pv_yf T kind g c r (1000000, m0, x0, y0) 52).2
def pv_L4 (V : Int32 × Int32 × Int32 → Prop) (x : Int32 × Int32 × Int32 × Int32 × Int32) (y : Int32 × Int32 × Int32 × Int32) : Prop :=
  (x.1.toInt = 5000 ∧ y.1.toInt = 1000000) ∨ (0 ≤ x.1.toInt ∧ x.1.toInt ≤ 4080 ∧ x.2.2 = y.2 ∧ V y.2 ∧ 0 ≤ x.2.1.toInt ∧ x.2.1.toInt ≤ 6 ∧ y.1.toInt = 8 * x.1.toInt + x.2.1.toInt)
def pv_L1 (V : Int32 × Int32 × Int32 → Prop) (x : Int32 × Int32 × Int32 × Int32 × Int32) (y : Int32 × Int32 × Int32 × Int32) : Prop :=
  (x.1.toInt = 5000 ∧ y.1.toInt = 1000000) ∨ (0 ≤ x.1.toInt ∧ x.1.toInt ≤ 4080 ∧ x.2.2 = y.2 ∧ V y.2 ∧ 8 * x.1.toInt ≤ y.1.toInt ∧ y.1.toInt ≤ 8 * x.1.toInt + 7)
theorem pv_L41 {V : Int32 × Int32 × Int32 → Prop} {x : Int32 × Int32 × Int32 × Int32 × Int32} {y : Int32 × Int32 × Int32 × Int32} (h : pv_L4 V x y) : pv_L1 V x y := by
  cases h with
  | inl a => exact Or.inl a
  | inr a =>
    obtain ⟨a1, a2, a3, a4, a5, a6, a7⟩ := a
    exact Or.inr ⟨a1, a2, a3, a4, by omega, by omega⟩
theorem pv_key {t s : Int32} (h1 : 0 ≤ t.toInt) (h2 : t.toInt ≤ 4080) (h3 : 0 ≤ s.toInt) (h4 : s.toInt ≤ 7) : (t * 8 + s).toInt = 8 * t.toInt + s.toInt := by
  have e8 : (8 : Int32).toInt = 8 := by decide
  have e : (t * 8).toInt = 8 * t.toInt := by
    rw [pv_mul (by rw [e8]; omega) (by rw [e8]; omega), e8]
    omega
  rw [pv_add (by rw [e]; omega) (by rw [e]; omega), e]
theorem pv_step4 {V : Int32 × Int32 × Int32 → Prop} {x : Int32 × Int32 × Int32 × Int32 × Int32} {y : Int32 × Int32 × Int32 × Int32} {t s dx dy : Int32} (h : pv_L4 V x y) (h1 : 0 ≤ t.toInt) (h2 : t.toInt ≤ 4080) (h3 : 0 ≤ s.toInt) (h4 : s.toInt ≤ 6) (hV : V (nI 4, dx, dy)) :
    pv_L4 V (pv_of t s 4 dx dy x) (pv_ym t s 4 (dx, dy) y) ∧ (pv_of t s 4 dx dy x).1.toInt ≤ 4080 := by
  have hk := pv_key h1 h2 h3 (by omega)
  obtain ⟨bc, bl, m0, x0, y0⟩ := x
  obtain ⟨be, m1, x1, y1⟩ := y
  unfold pv_of pv_ym
  dsimp only
  have new : pv_L4 V (t, s, nI 4, dx, dy) (t * 8 + s, nI 4, dx, dy) := Or.inr ⟨h1, h2, rfl, hV, h3, h4, hk⟩
  cases h with
  | inl a =>
    obtain ⟨a1, a2⟩ := a
    dsimp only at a1 a2
    rw [if_neg (by rw [Int32.lt_iff_toInt_lt]; omega), if_neg (by rw [← Int32.toInt_inj]; omega), if_neg (by rw [Int32.le_iff_toInt_le]; omega)]
    exact ⟨new, h2⟩
  | inr a =>
    obtain ⟨a1, a2, a3, a4, a5, a6, a7⟩ := a
    have old : pv_L4 V (bc, bl, m0, x0, y0) (be, m1, x1, y1) := Or.inr ⟨a1, a2, a3, a4, a5, a6, a7⟩
    dsimp only at a1 a2 a3 a4 a5 a6 a7
    by_cases c1 : bc < t
    · have c1' := c1
      rw [Int32.lt_iff_toInt_lt] at c1'
      rw [if_pos c1, if_pos (by rw [Int32.le_iff_toInt_le]; omega)]
      exact ⟨old, a2⟩
    · have c1' := c1
      rw [Int32.lt_iff_toInt_lt] at c1'
      rw [if_neg c1]
      by_cases c2 : t = bc
      · rw [if_pos c2, if_pos rfl]
        have c2' : t.toInt = bc.toInt := by rw [c2]
        by_cases c3 : s < bl
        · have c3' := c3
          rw [Int32.lt_iff_toInt_lt] at c3'
          rw [if_pos c3, if_neg (by rw [Int32.le_iff_toInt_le]; omega)]
          exact ⟨new, h2⟩
        · have c3' := c3
          rw [Int32.lt_iff_toInt_lt] at c3'
          rw [if_neg c3, if_pos (by rw [Int32.le_iff_toInt_le]; omega)]
          exact ⟨old, a2⟩
      · have c2' : ¬ t.toInt = bc.toInt := fun z => c2 (Int32.toInt_inj.mp z)
        rw [if_neg c2, if_neg (by rw [Int32.le_iff_toInt_le]; omega)]
        exact ⟨new, h2⟩
theorem pv_step1 {V : Int32 × Int32 × Int32 → Prop} {x : Int32 × Int32 × Int32 × Int32 × Int32} {y : Int32 × Int32 × Int32 × Int32} {t s dx dy : Int32} {m : Nat} (h : pv_L1 V x y) (hm : ¬ m = 4) (h1 : 0 ≤ t.toInt) (h2 : t.toInt ≤ 4080) (hV : V (nI m, dx, dy)) :
    pv_L1 V (pv_of t s m dx dy x) (pv_ym t 7 m (dx, dy) y) ∧ (pv_of t s m dx dy x).1.toInt ≤ 4080 := by
  have e7 : (7 : Int32).toInt = 7 := by decide
  have hk := pv_key (s := 7) h1 h2 (by rw [e7]; omega) (by rw [e7]; omega)
  rw [e7] at hk
  obtain ⟨bc, bl, m0, x0, y0⟩ := x
  obtain ⟨be, m1, x1, y1⟩ := y
  unfold pv_of pv_ym
  dsimp only
  have new : pv_L1 V (t, s, nI m, dx, dy) (t * 8 + 7, nI m, dx, dy) := Or.inr ⟨h1, h2, rfl, hV, by dsimp only; omega, by dsimp only; omega⟩
  cases h with
  | inl a =>
    obtain ⟨a1, a2⟩ := a
    dsimp only at a1 a2
    rw [if_neg (by rw [Int32.lt_iff_toInt_lt]; omega), if_neg (by rw [← Int32.toInt_inj]; omega), if_neg (by rw [Int32.le_iff_toInt_le]; omega)]
    exact ⟨new, h2⟩
  | inr a =>
    obtain ⟨a1, a2, a3, a4, a5, a6⟩ := a
    have old : pv_L1 V (bc, bl, m0, x0, y0) (be, m1, x1, y1) := Or.inr ⟨a1, a2, a3, a4, a5, a6⟩
    dsimp only at a1 a2 a3 a4 a5 a6
    by_cases c1 : bc < t
    · have c1' := c1
      rw [Int32.lt_iff_toInt_lt] at c1'
      rw [if_pos c1, if_pos (by rw [Int32.le_iff_toInt_le]; omega)]
      exact ⟨old, a2⟩
    · have c1' := c1
      rw [Int32.lt_iff_toInt_lt] at c1'
      rw [if_neg c1]
      by_cases c2 : t = bc
      · rw [if_pos c2, if_neg hm]
        have c2' : t.toInt = bc.toInt := by rw [c2]
        rw [if_pos (by rw [Int32.le_iff_toInt_le]; omega)]
        exact ⟨old, a2⟩
      · have c2' : ¬ t.toInt = bc.toInt := fun z => c2 (Int32.toInt_inj.mp z)
        rw [if_neg c2, if_neg (by rw [Int32.le_iff_toInt_le]; omega)]
        exact ⟨new, h2⟩
theorem pv_ab3 {d : Int32} (h : pv_bd 3 d) : 0 ≤ (pv_ab d).toInt ∧ (pv_ab d).toInt ≤ 3 := pv_ab_bd h (by decide)
theorem pv_sz {dx dy : Int32} (hx : pv_bd 3 dx) (hy : pv_bd 3 dy) : 0 ≤ (pv_ab dx + pv_ab dy).toInt ∧ (pv_ab dx + pv_ab dy).toInt ≤ 6 := by
  have a := pv_ab3 hx
  have b := pv_ab3 hy
  rw [pv_add (by omega) (by omega)]
  omega
theorem pv_fold4 {V : Int32 × Int32 × Int32 → Prop} {T : Nat → Int32 → Int32 → Int32} (hT : ∀ m dx dy, 0 ≤ (T m dx dy).toInt ∧ (T m dx dy).toInt ≤ 4080) (hV : ∀ dx dy, pv_bd 3 dx → pv_bd 3 dy → V (nI 4, dx, dy)) :
    ∀ (l : List (Int32 × Int32)), (∀ d, d ∈ l → pv_bd 3 d.1 ∧ pv_bd 3 d.2) → ∀ x y, pv_L4 V x y → pv_L4 V (pv_sm T l x) (l.foldl (pv_y4 T) y) ∧ ((l ≠ [] ∨ x.1.toInt ≤ 4080) → (pv_sm T l x).1.toInt ≤ 4080)
  | [], _ => fun x y h => ⟨h, fun k => k.elim (fun z => absurd rfl z) (fun z => z)⟩
  | d :: l, hl => fun x y h => by
    have hd := hl d List.mem_cons_self
    have sz := pv_sz hd.1 hd.2
    have st := pv_step4 (t := T 4 d.1 d.2) (s := pv_ab d.1 + pv_ab d.2) (dx := d.1) (dy := d.2) h (hT _ _ _).1 (hT _ _ _).2 sz.1 sz.2 (hV _ _ hd.1 hd.2)
    have re := pv_fold4 hT hV l (fun e he => hl e (List.mem_cons_of_mem _ he)) _ _ st.1
    exact ⟨re.1, fun _ => re.2 (Or.inr st.2)⟩
theorem pv_yf_range (T : Nat → Int32 → Int32 → Int32) (kind g c r : Nat) (y : Int32 × Int32 × Int32 × Int32) : ∀ k, pv_yf T kind g c r y k = (List.range k).foldl (fun y k => pv_yk T kind g c r k y) y
  | 0 => rfl
  | k + 1 => by
    rw [List.range_succ, List.foldl_append, ← pv_yf_range T kind g c r y k]
    rfl
theorem pv_lists : ∀ g, g < 4 → ((List.range 49).filter (pv_inr g)).map pv_yd = pv_ls g (2 * g + 1) := by decide +kernel
theorem pv_lists_bd : ∀ g, g < 4 → ∀ d, d ∈ pv_ls g (2 * g + 1) → (-3 ≤ d.1.toInt ∧ d.1.toInt ≤ 3) ∧ (-3 ≤ d.2.toInt ∧ d.2.toInt ≤ 3) := by decide +kernel
theorem pv_lists_ne : ∀ g, g < 4 → pv_ls g (2 * g + 1) ≠ [] := by decide +kernel
theorem pv_yf_49 (T : Nat → Int32 → Int32 → Int32) {kind g c r : Nat} (hg : g ≤ 3) (y : Int32 × Int32 × Int32 × Int32) : pv_yf T kind g c r y 49 = if kind = 1 then (pv_ls g (2 * g + 1)).foldl (pv_y4 T) y else y := by
  rw [pv_yf_range]
  have ext : ∀ (F G : (Int32 × Int32 × Int32 × Int32) → Nat → (Int32 × Int32 × Int32 × Int32)) (n : Nat), (∀ k, k < n → ∀ y, F y k = G y k) → ∀ y, (List.range n).foldl F y = (List.range n).foldl G y := by
    intro F G n
    induction n with
    | zero => intro _ y; rfl
    | succ n ih =>
      intro h y
      rw [List.range_succ, List.foldl_append, List.foldl_append, ih (fun k hk => h k (by omega)) y]
      exact h n (by omega) _
  by_cases hk : kind = 1
  · rw [if_pos hk, ← pv_lists g (by omega), List.foldl_map, List.foldl_filter]
    refine ext _ _ 49 (fun k hk2 y => ?_) y
    unfold pv_yk
    rw [if_pos hk2]
    by_cases c1 : pv_inr g k = true
    · rw [if_pos ⟨hk, c1⟩, if_pos c1]
    · rw [if_neg (fun z => c1 z.2), if_neg c1]
  · rw [if_neg hk]
    rw [ext _ (fun y _ => y) 49 (fun k hk2 y => ?_) y]
    · have : ∀ n : Nat, ∀ y : Int32 × Int32 × Int32 × Int32, (List.range n).foldl (fun y _ => y) y = y := by
        intro n
        induction n with
        | zero => intro y; rfl
        | succ n ih =>
          intro y
          rw [List.range_succ, List.foldl_append, ih y]
          rfl
      exact this 49 y
    · unfold pv_yk
      rw [if_pos hk2, if_neg (fun z => hk z.1)]
def pv_V (kind c r : Nat) (z : Int32 × Int32 × Int32) : Prop :=
  ∃ m : Nat, z.1 = nI m ∧ ((m = 4 ∧ kind = 1 ∧ pv_bd 3 z.2.1 ∧ pv_bd 3 z.2.2) ∨ ((m = 1 ∨ (m = 2 ∧ 0 < r) ∨ (m = 3 ∧ 0 < c)) ∧ z.2.1 = 0 ∧ z.2.2 = 0))
theorem pv_ch_eq {T : Nat → Int32 → Int32 → Int32} {W px py bl m0 x0 y0 : Int32} {kind q g c r : Nat} (hT : ∀ m dx dy, 0 ≤ (T m dx dy).toInt ∧ (T m dx dy).toInt ≤ 4080) (hg : g ≤ 3) (hk : kind < 2) (hpx : pv_bd 3 px) (hpy : pv_bd 3 py) :
    ∃ (m : Nat) (dx dy : Int32), pv_ch T W kind q g c r px py bl m0 x0 y0 = (nI m, dx, dy) ∧ (∀ m1 x1 y1, pv_yc T W kind q g c r px py m1 x1 y1 = (nI m, dx, dy)) ∧ pv_vd m dx dy px py ∧ pv_bd 3 dx ∧ pv_bd 3 dy ∧ (kind = 0 → m < 4) ∧ (m = 2 → 0 < r) ∧ (m = 3 → 0 < c) := by
  by_cases sk : kind = 1 ∧ ¬ nI (q / 4) < W
  · refine ⟨5, px, py, ?_, fun _ _ _ => ?_, ⟨by omega, by omega, fun k => absurd k (by omega), fun _ => ⟨rfl, rfl⟩⟩, hpx, hpy, fun k => absurd k (by omega), fun k => absurd k (by omega), fun k => absurd k (by omega)⟩
    · unfold pv_ch
      rw [if_pos sk.1, if_neg sk.2]
      rfl
    · unfold pv_yc
      rw [if_pos sk]
      rfl
  · have e5 : (5000 : Int32).toInt = 5000 := by decide
    have e1 : (1000000 : Int32).toInt = 1000000 := by decide
    have intra : ∀ x y, pv_L1 (pv_V kind c r) x y → pv_L1 (pv_V kind c r) (pv_in T c r x) (if 0 < c then pv_y1 T 3 (if 0 < r then pv_y1 T 2 (pv_y1 T 1 y) else pv_y1 T 1 y) else (if 0 < r then pv_y1 T 2 (pv_y1 T 1 y) else pv_y1 T 1 y)) ∧ (pv_in T c r x).1.toInt ≤ 4080 := by
      intro x y h
      have s1 := pv_step1 (m := 1) (t := T 1 0 0) (s := pv_ab 0 + pv_ab 0) (dx := 0) (dy := 0) h (by omega) (hT _ _ _).1 (hT _ _ _).2 ⟨1, rfl, Or.inr ⟨Or.inl rfl, rfl, rfl⟩⟩
      have s2 : pv_L1 (pv_V kind c r) (pv_i2 T r (pv_o1 T 1 (0, 0) x)) (if 0 < r then pv_y1 T 2 (pv_y1 T 1 y) else pv_y1 T 1 y) ∧ (pv_i2 T r (pv_o1 T 1 (0, 0) x)).1.toInt ≤ 4080 := by
        unfold pv_i2
        by_cases r0 : 0 < r
        · rw [if_pos r0, if_pos r0]
          exact pv_step1 (m := 2) (t := T 2 0 0) (s := pv_ab 0 + pv_ab 0) (dx := 0) (dy := 0) s1.1 (by omega) (hT _ _ _).1 (hT _ _ _).2 ⟨2, rfl, Or.inr ⟨Or.inr (Or.inl ⟨rfl, r0⟩), rfl, rfl⟩⟩
        · rw [if_neg r0, if_neg r0]
          exact s1
      unfold pv_in pv_i3
      by_cases c0 : 0 < c
      · rw [if_pos c0, if_pos c0]
        exact pv_step1 (m := 3) (t := T 3 0 0) (s := pv_ab 0 + pv_ab 0) (dx := 0) (dy := 0) s2.1 (by omega) (hT _ _ _).1 (hT _ _ _).2 ⟨3, rfl, Or.inr ⟨Or.inr (Or.inr ⟨rfl, c0⟩), rfl, rfl⟩⟩
      · rw [if_neg c0, if_neg c0]
        exact s2
    have main : ∀ m1 x1 y1, ∃ x, pv_ch T W kind q g c r px py bl m0 x0 y0 = x.2.2 ∧ pv_L1 (pv_V kind c r) x (pv_yf T kind g c r (1000000, m1, x1, y1) 52) ∧ x.1.toInt ≤ 4080 := by
      intro m1 x1 y1
      have ye : pv_yf T kind g c r (1000000, m1, x1, y1) 52 = (if 0 < c then pv_y1 T 3 (if 0 < r then pv_y1 T 2 (pv_y1 T 1 (pv_yf T kind g c r (1000000, m1, x1, y1) 49)) else pv_y1 T 1 (pv_yf T kind g c r (1000000, m1, x1, y1) 49)) else (if 0 < r then pv_y1 T 2 (pv_y1 T 1 (pv_yf T kind g c r (1000000, m1, x1, y1) 49)) else pv_y1 T 1 (pv_yf T kind g c r (1000000, m1, x1, y1) 49))) := by
        generalize ez : pv_yf T kind g c r (1000000, m1, x1, y1) 49 = z
        show pv_yk T kind g c r 51 (pv_yk T kind g c r 50 (pv_yk T kind g c r 49 (pv_yf T kind g c r (1000000, m1, x1, y1) 49))) = _
        rw [ez]
        unfold pv_yk
        simp only [show ¬ (51 < 49) by omega, show ¬ (50 < 49) by omega, show ¬ (49 < 49) by omega, show ¬ (51 = 49) by omega, show ¬ (51 = 50) by omega, show ¬ (50 = 49) by omega, if_false, if_true]
      rw [ye, pv_yf_49 T hg]
      unfold pv_ch
      by_cases k1 : kind = 1
      · have w1 : nI (q / 4) < W := Classical.byContradiction fun z => sk ⟨k1, z⟩
        rw [if_pos k1, if_pos w1, if_pos k1]
        have f4 := pv_fold4 (V := pv_V kind c r) hT (fun dx dy a b => ⟨4, rfl, Or.inl ⟨rfl, k1, a, b⟩⟩) (pv_ls g (2 * g + 1)) (fun d hd => pv_lists_bd g (by omega) d hd) (5000, bl, 5, px, py) (1000000, m1, x1, y1) (Or.inl ⟨e5, e1⟩)
        have it := intra _ _ (pv_L41 f4.1)
        exact ⟨_, rfl, it.1, it.2⟩
      · rw [if_neg k1, if_neg k1]
        have it := intra (5000, bl, m0, x0, y0) (1000000, m1, x1, y1) (Or.inl ⟨e5, e1⟩)
        exact ⟨_, rfl, it.1, it.2⟩
    obtain ⟨x, hx1, hx2, hx3⟩ := main 0 0 0
    have nin : ∀ {x y}, pv_L1 (pv_V kind c r) x y → x.1.toInt ≤ 4080 → x.2.2 = y.2 ∧ pv_V kind c r y.2 := by
      intro x y h h2
      cases h with
      | inl a => exact absurd a.1 (by omega)
      | inr a => exact ⟨a.2.2.1, a.2.2.2.1⟩
    obtain ⟨n1, m, n2, n3⟩ := nin hx2 hx3
    refine ⟨m, x.2.2.2.1, x.2.2.2.2, ?_, fun m1 x1 y1 => ?_, ?_⟩
    · rw [hx1, ← n2, ← n1]
    · unfold pv_yc
      rw [if_neg sk]
      obtain ⟨x', a1, a2, a3⟩ := main m1 x1 y1
      rw [← (nin a2 a3).1, ← a1, hx1, ← n2, ← n1]
    · rw [← n1] at n3
      cases n3 with
      | inl a =>
        obtain ⟨b1, b2, b3, b4⟩ := a
        exact ⟨⟨by omega, by omega, fun k => absurd k (by omega), fun k => absurd k (by omega)⟩, b3, b4, fun k => absurd k (by omega), fun k => absurd k (by omega), fun k => absurd k (by omega)⟩
      | inr a =>
        obtain ⟨b1, b2, b3⟩ := a
        refine ⟨⟨by omega, by omega, fun _ => ⟨b2, b3⟩, fun k => absurd k (by omega)⟩, ?_, ?_, fun _ => by omega, fun k => by omega, fun k => by omega⟩
        · rw [b2]; exact pv_bd_0 3
        · rw [b3]; exact pv_bd_0 3
end
section
/-! bytes, bounds, double sums -/
theorem pv_top_b {N : Nat → Int32} {C R c r k : Nat} (hC : C ≤ 4) (hc : c < C) (hr : r < R) (hk : k < 4) (h : ∀ p, pv_dn C R (4 * r + c) p → pv_by (N p)) : 0 ≤ (pv_top N c r k).toInt ∧ (pv_top N c r k).toInt ≤ (if 0 < r then 255 else 0) := by
  unfold pv_top
  by_cases r0 : 0 < r
  · rw [if_pos r0, if_pos r0]
    exact h _ (pv_top_dn hC hc hr r0 hk)
  · rw [if_neg r0, if_neg r0, show (0 : Int32).toInt = 0 from by decide]
    omega
theorem pv_lef_b {N : Nat → Int32} {C R c r k : Nat} (hC : C ≤ 4) (hc : c < C) (hr : r < R) (hk : k < 4) (h : ∀ p, pv_dn C R (4 * r + c) p → pv_by (N p)) : 0 ≤ (pv_lef N c r k).toInt ∧ (pv_lef N c r k).toInt ≤ (if 0 < c then 255 else 0) := by
  unfold pv_lef
  by_cases c0 : 0 < c
  · rw [if_pos c0, if_pos c0]
    exact h _ (pv_lef_dn hC hc hr c0 hk)
  · rw [if_neg c0, if_neg c0, show (0 : Int32).toInt = 0 from by decide]
    omega
theorem pv_fs_b {N : Nat → Int32} {C R c r : Nat} {A B : Int} (hA : A = if 0 < r then 255 else 0) (hB : B = if 0 < c then 255 else 0) (hC : C ≤ 4) (hc : c < C) (hr : r < R) (h : ∀ p, pv_dn C R (4 * r + c) p → pv_by (N p)) : ∀ k : Nat, k ≤ 4 → 0 ≤ (pv_fs N c r k).toInt ∧ (pv_fs N c r k).toInt ≤ k * (A + B)
  | 0, _ => by
    show 0 ≤ (0 : Int32).toInt ∧ (0 : Int32).toInt ≤ _
    rw [show (0 : Int32).toInt = 0 from by decide]
    omega
  | k + 1, hk => by
    have a := pv_fs_b hA hB hC hc hr h k (by omega)
    have t := pv_top_b hC hc hr (k := k) (by omega) h
    have l := pv_lef_b hC hc hr (k := k) (by omega) h
    rw [← hA] at t
    rw [← hB] at l
    have hA2 : 0 ≤ A ∧ A ≤ 255 := by rw [hA]; split <;> omega
    have hB2 : 0 ≤ B ∧ B ≤ 255 := by rw [hB]; split <;> omega
    have e1 : (pv_top N c r k + pv_lef N c r k).toInt = (pv_top N c r k).toInt + (pv_lef N c r k).toInt := pv_add (by omega) (by omega)
    have e3 : (k : Int) * (A + B) ≤ 4 * 510 := by
      have hk4 : (k : Int) ≤ 4 := by omega
      have h0 : 0 ≤ A + B := by omega
      have h5 : A + B ≤ 510 := by omega
      calc (k : Int) * (A + B) ≤ 4 * (A + B) := Int.mul_le_mul_of_nonneg_right hk4 h0
        _ ≤ 4 * 510 := by omega
    show 0 ≤ (pv_fs N c r k + (pv_top N c r k + pv_lef N c r k)).toInt ∧ (pv_fs N c r k + (pv_top N c r k + pv_lef N c r k)).toInt ≤ ((k + 1 : Nat) : Int) * (A + B)
    rw [pv_add (by rw [e1]; omega) (by rw [e1]; omega), e1]
    have e4 : ((k + 1 : Nat) : Int) * (A + B) = k * (A + B) + (A + B) := by
      rw [Int.natCast_add, Int.add_mul]
      omega
    rw [e4]
    omega
theorem pv_sh_b {x : Int32} {d : Int32} {k : Nat} (hd : (d.toBitVec.smod 32).toNat = k) (h0 : 0 ≤ x.toInt) (h1 : x.toInt < 256 * 2 ^ k) : pv_by (x >>> d) := by
  unfold pv_by
  rw [pk_shr x d k hd, Int.shiftRight_eq_div_pow]
  have hp : (0 : Int) < ((2 ^ k : Nat) : Int) := by exact_mod_cast Nat.two_pow_pos k
  refine ⟨Int.ediv_nonneg h0 (by omega), ?_⟩
  have : x.toInt / ((2 ^ k : Nat) : Int) < 256 := Int.ediv_lt_of_lt_mul hp (by simpa using h1)
  omega
theorem pv_fl_by {N : Nat → Int32} {C R c r : Nat} (hC : C ≤ 4) (hc : c < C) (hr : r < R) (h : ∀ p, pv_dn C R (4 * r + c) p → pv_by (N p)) : pv_by (pv_fl N c r) := by
  have a := pv_fs_b (A := if 0 < r then 255 else 0) (B := if 0 < c then 255 else 0) rfl rfl hC hc hr h 4 (by omega)
  have e4 : (4 : Int32).toInt = 4 := by decide
  have e2 : (2 : Int32).toInt = 2 := by decide
  unfold pv_fl
  by_cases r0 : 0 < r
  · rw [if_pos r0] at a ⊢
    by_cases c0 : 0 < c
    · rw [if_pos c0] at a ⊢
      refine pv_sh_b (k := 3) (by decide) ?_ ?_ <;> rw [pv_add (by rw [e4]; omega) (by rw [e4]; omega), e4] <;> omega
    · rw [if_neg c0] at a ⊢
      refine pv_sh_b (k := 2) (by decide) ?_ ?_ <;> rw [pv_add (by rw [e2]; omega) (by rw [e2]; omega), e2] <;> omega
  · rw [if_neg r0] at a ⊢
    by_cases c0 : 0 < c
    · rw [if_pos c0] at a ⊢
      refine pv_sh_b (k := 2) (by decide) ?_ ?_ <;> rw [pv_add (by rw [e2]; omega) (by rw [e2]; omega), e2] <;> omega
    · rw [if_neg c0]
      exact pv_by_nI (n := 128) (by omega)
theorem pv_pr_by {N P : Nat → Int32} {C R m c r i : Nat} {dx dy : Int32} (hC : C ≤ 4) (hR : R ≤ 2) (hc : c < C) (hr : r < R) (hi : i < 16) (hN : ∀ p, pv_dn C R (4 * r + c) p → pv_by (N p)) (hP : ∀ p, pv_is C R p → pv_by (P p)) : pv_by (pv_pr N P C R m c r dx dy i) := by
  unfold pv_pr
  by_cases m4 : 4 ≤ m
  · rw [if_pos m4]
    unfold pv_rf
    have ex := (pv_cn_ok (nI (4 * c + i % 4) + dx) (m := 4 * C - 1) (by omega)).2
    have ey := (pv_cn_ok (nI (4 * r + i / 4) + dy) (m := 4 * R - 1) (by omega)).2
    refine hP _ ?_
    unfold pv_is
    omega
  · rw [if_neg m4]
    by_cases c2 : m = 2 ∧ 0 < r
    · rw [if_pos c2]
      exact hN _ (pv_top_dn hC hc hr c2.2 (by omega))
    · rw [if_neg c2]
      by_cases c3 : m = 3 ∧ 0 < c
      · rw [if_pos c3]
        exact hN _ (pv_lef_dn hC hc hr c3.2 (by omega))
      · rw [if_neg c3]
        exact pv_fl_by hC hc hr hN
theorem pv_sd_b {S pr : Nat → Int32} {c r : Nat} : ∀ k : Nat, k ≤ 16 → (∀ i, i < k → pv_by (S (pv_at c r i)) ∧ pv_by (pr i)) → 0 ≤ (pv_sd S pr c r k).toInt ∧ (pv_sd S pr c r k).toInt ≤ 255 * k
  | 0, _, _ => by
    show 0 ≤ (0 : Int32).toInt ∧ (0 : Int32).toInt ≤ _
    rw [show (0 : Int32).toInt = 0 from by decide]
    omega
  | k + 1, hk, h => by
    have a := pv_sd_b k (by omega) (fun i hi => h i (by omega))
    have b := h k (by omega)
    have d := pv_ab_bd (pv_by_sub b.1 b.2) (by decide)
    show 0 ≤ (pv_sd S pr c r k + pv_ab (S (pv_at c r k) - pr k)).toInt ∧ (pv_sd S pr c r k + pv_ab (S (pv_at c r k) - pr k)).toInt ≤ _
    rw [pv_add (by omega) (by omega)]
    omega
theorem pv_T_b {S N P : Nat → Int32} {C R c r m : Nat} {dx dy : Int32} (hC : C ≤ 4) (hR : R ≤ 2) (hc : c < C) (hr : r < R) (hS : ∀ p, pv_is C R p → pv_by (S p)) (hN : ∀ p, pv_dn C R (4 * r + c) p → pv_by (N p)) (hP : ∀ p, pv_is C R p → pv_by (P p)) : 0 ≤ (pv_T S N P C R c r m dx dy).toInt ∧ (pv_T S N P C R c r m dx dy).toInt ≤ 4080 := by
  have a := pv_sd_b (S := S) (pr := pv_pr N P C R m c r dx dy) (c := c) (r := r) 16 (by omega) (fun i hi => ⟨hS _ (pv_at_is hC hc hr hi), pv_pr_by hC hR hc hr hi hN hP⟩)
  unfold pv_T
  omega
theorem pv_fw_bd {a b c d : Int32} {n : Nat} (hn : n ≤ 100000) (ha : pv_bd n a) (hb : pv_bd n b) (hc : pv_bd n c) (hd : pv_bd n d) (k : Nat) : pv_bd (6 * n) (pv_fw a b c d k) := by
  have e : pv_bd (2 * n) (a + d) := pv_bd_add ha hd (by omega) (by omega)
  have f : pv_bd (2 * n) (b + c) := pv_bd_add hb hc (by omega) (by omega)
  have u : pv_bd (2 * n) (a - d) := pv_bd_sub ha hd (by omega) (by omega)
  have v : pv_bd (2 * n) (b - c) := pv_bd_sub hb hc (by omega) (by omega)
  unfold pv_fw
  split
  · exact pv_bd_add e f (by omega) (by omega)
  · exact pv_bd_add (pv_bd_2 u (Nat.le_refl _) (by omega)) v (by omega) (by omega)
  · exact pv_bd_sub e f (by omega) (by omega)
  · exact pv_bd_sub u (pv_bd_2 v (Nat.le_refl _) (by omega)) (by omega) (by omega)
theorem pv_lv_bd {a : Int32} {D : Nat} (ha : pv_bd 9180 a) (h4 : 4 ≤ D) (hD : D ≤ 1000) : pv_bd 4095 (pv_lv a (nI D)) := by
  have b := pv_ab_bd ha (by decide)
  obtain ⟨A, hA, eA⟩ : ∃ A : Nat, A ≤ 9180 ∧ pv_ab a = nI A := by
    obtain ⟨A, hA, eA⟩ := nI_of (x := pv_ab a) (by rw [Int32.lt_iff_toInt_lt, show (0 : Int32).toInt = 0 from by decide]; omega)
    rw [eA, nI_toInt hA] at b
    exact ⟨A, by omega, eA⟩
  have e3 : nI D / 3 = nI (D / 3) := pk_div (by omega) (by decide) (by decide)
  have q1 : (A + D / 3) / D ≤ (A + D / 3) / 4 := Nat.div_le_div_left h4 (by decide)
  have q3 : (A + D / 3) / D ≤ 4095 := by omega
  have q2 : pv_bd 4095 (nI ((A + D / 3) / D)) := by
    generalize (A + D / 3) / D = z at q3
    unfold pv_bd
    rw [nI_toInt (by omega)]
    omega
  unfold pv_lv
  rw [eA, e3, nI_add, pk_div (by omega) (by omega) (by omega)]
  split
  · exact q2
  · exact pv_bd_neg q2 (by decide)
theorem pv_ms_bd {q : Nat} {e : Nat → Int32} (hq : q ≤ 40) (h : ∀ i, i < 16 → pv_bd 255 (e i)) {i : Nat} (hi : i < 16) : pv_bd 4095 (pv_ms q e i) := by
  unfold pv_ms
  by_cases q0 : q = 0
  · rw [if_pos q0]
    exact pv_bd_le (h i hi) (by omega)
  · rw [if_neg q0]
    have r1 : ∀ j, j < 16 → pv_bd 1530 (pv_fr e j) := fun j hj => pv_fw_bd (n := 255) (by omega) (h _ (by omega)) (h _ (by omega)) (h _ (by omega)) (h _ (by omega)) _
    have r2 : pv_bd 9180 (pv_fc (pv_fr e) i) := pv_fw_bd (n := 1530) (by omega) (r1 _ (by omega)) (r1 _ (by omega)) (r1 _ (by omega)) (r1 _ (by omega)) _
    unfold pv_dv
    split
    · rw [pv_4m]; exact pv_lv_bd r2 (by omega) (by omega)
    · split
      · rw [pv_10m]; exact pv_lv_bd r2 (by omega) (by omega)
      · rw [pv_25m]; exact pv_lv_bd r2 (by omega) (by omega)
/-! the matrix, the double sums -/
def pv_mh (y o i : Int32) : Int32 := if y = 0 then o else if y = 1 then i else if y = 2 then -i else -o
def pv_mm (x y : Int32) : Int32 := if x = 0 then 1 else if x = 2 then (if y = 0 then 1 else if y = 3 then 1 else -1) else if x = 1 then pv_mh y 2 1 else pv_mh y 1 (-2)
def pv_si (f : Nat → Int32) (i j k : Nat) (a : Int32) : Nat → Int32
  | 0 => a
  | l + 1 => pv_si f i j k a l + (pv_mm (nI i) (nI k) * f (k * 4 + l)) * pv_mm (nI j) (nI l)
def pv_so (f : Nat → Int32) (i j : Nat) : Nat → Int32
  | 0 => 0
  | k + 1 => pv_si f i j k (pv_so f i j k) 4
def pv_ti (f : Nat → Int32) (i j k : Nat) (a : Int32) : Nat → Int32
  | 0 => a
  | l + 1 => pv_ti f i j k a l + (pv_mm (nI k) (nI i) * f (k * 4 + l)) * pv_mm (nI l) (nI j)
def pv_to (f : Nat → Int32) (i j : Nat) : Nat → Int32
  | 0 => 0
  | k + 1 => pv_ti f i j k (pv_to f i j k) 4
theorem pv_mt00 : pv_mm (nI 0) (nI 0) = 1 := by decide
theorem pv_mt01 : pv_mm (nI 0) (nI 1) = 1 := by decide
theorem pv_mt02 : pv_mm (nI 0) (nI 2) = 1 := by decide
theorem pv_mt03 : pv_mm (nI 0) (nI 3) = 1 := by decide
theorem pv_mt10 : pv_mm (nI 1) (nI 0) = 2 := by decide
theorem pv_mt11 : pv_mm (nI 1) (nI 1) = 1 := by decide
theorem pv_mt12 : pv_mm (nI 1) (nI 2) = -1 := by decide
theorem pv_mt13 : pv_mm (nI 1) (nI 3) = -2 := by decide
theorem pv_mt20 : pv_mm (nI 2) (nI 0) = 1 := by decide
theorem pv_mt21 : pv_mm (nI 2) (nI 1) = -1 := by decide
theorem pv_mt22 : pv_mm (nI 2) (nI 2) = -1 := by decide
theorem pv_mt23 : pv_mm (nI 2) (nI 3) = 1 := by decide
theorem pv_mt30 : pv_mm (nI 3) (nI 0) = 1 := by decide
theorem pv_mt31 : pv_mm (nI 3) (nI 1) = -2 := by decide
theorem pv_mt32 : pv_mm (nI 3) (nI 2) = 2 := by decide
theorem pv_mt33 : pv_mm (nI 3) (nI 3) = -1 := by decide
theorem pv_so_e (f : Nat → Int32) : ∀ i j, i < 4 → j < 4 → pv_so f i j 4 = pv_fc (pv_fr f) (i * 4 + j) := by
  have h : ∀ i j, i < 4 → j < 4 → pv_so f i j 4 = pv_fw (pv_fw (f 0) (f 1) (f 2) (f 3) j) (pv_fw (f 4) (f 5) (f 6) (f 7) j) (pv_fw (f 8) (f 9) (f 10) (f 11) j) (pv_fw (f 12) (f 13) (f 14) (f 15) j) i := by
    intro i j hi hj
    match i, j, hi, hj with
    | 0, 0, _, _ => simp only [pv_so, pv_si, pv_fw, pv_mt00, pv_mt01, pv_mt02, pv_mt03, pv_mt10, pv_mt11, pv_mt12, pv_mt13, pv_mt20, pv_mt21, pv_mt22, pv_mt23, pv_mt30, pv_mt31, pv_mt32, pv_mt33]; grind
    | 0, 1, _, _ => simp only [pv_so, pv_si, pv_fw, pv_mt00, pv_mt01, pv_mt02, pv_mt03, pv_mt10, pv_mt11, pv_mt12, pv_mt13, pv_mt20, pv_mt21, pv_mt22, pv_mt23, pv_mt30, pv_mt31, pv_mt32, pv_mt33]; grind
    | 0, 2, _, _ => simp only [pv_so, pv_si, pv_fw, pv_mt00, pv_mt01, pv_mt02, pv_mt03, pv_mt10, pv_mt11, pv_mt12, pv_mt13, pv_mt20, pv_mt21, pv_mt22, pv_mt23, pv_mt30, pv_mt31, pv_mt32, pv_mt33]; grind
    | 0, 3, _, _ => simp only [pv_so, pv_si, pv_fw, pv_mt00, pv_mt01, pv_mt02, pv_mt03, pv_mt10, pv_mt11, pv_mt12, pv_mt13, pv_mt20, pv_mt21, pv_mt22, pv_mt23, pv_mt30, pv_mt31, pv_mt32, pv_mt33]; grind
    | 1, 0, _, _ => simp only [pv_so, pv_si, pv_fw, pv_mt00, pv_mt01, pv_mt02, pv_mt03, pv_mt10, pv_mt11, pv_mt12, pv_mt13, pv_mt20, pv_mt21, pv_mt22, pv_mt23, pv_mt30, pv_mt31, pv_mt32, pv_mt33]; grind
    | 1, 1, _, _ => simp only [pv_so, pv_si, pv_fw, pv_mt00, pv_mt01, pv_mt02, pv_mt03, pv_mt10, pv_mt11, pv_mt12, pv_mt13, pv_mt20, pv_mt21, pv_mt22, pv_mt23, pv_mt30, pv_mt31, pv_mt32, pv_mt33]; grind
    | 1, 2, _, _ => simp only [pv_so, pv_si, pv_fw, pv_mt00, pv_mt01, pv_mt02, pv_mt03, pv_mt10, pv_mt11, pv_mt12, pv_mt13, pv_mt20, pv_mt21, pv_mt22, pv_mt23, pv_mt30, pv_mt31, pv_mt32, pv_mt33]; grind
    | 1, 3, _, _ => simp only [pv_so, pv_si, pv_fw, pv_mt00, pv_mt01, pv_mt02, pv_mt03, pv_mt10, pv_mt11, pv_mt12, pv_mt13, pv_mt20, pv_mt21, pv_mt22, pv_mt23, pv_mt30, pv_mt31, pv_mt32, pv_mt33]; grind
    | 2, 0, _, _ => simp only [pv_so, pv_si, pv_fw, pv_mt00, pv_mt01, pv_mt02, pv_mt03, pv_mt10, pv_mt11, pv_mt12, pv_mt13, pv_mt20, pv_mt21, pv_mt22, pv_mt23, pv_mt30, pv_mt31, pv_mt32, pv_mt33]; grind
    | 2, 1, _, _ => simp only [pv_so, pv_si, pv_fw, pv_mt00, pv_mt01, pv_mt02, pv_mt03, pv_mt10, pv_mt11, pv_mt12, pv_mt13, pv_mt20, pv_mt21, pv_mt22, pv_mt23, pv_mt30, pv_mt31, pv_mt32, pv_mt33]; grind
    | 2, 2, _, _ => simp only [pv_so, pv_si, pv_fw, pv_mt00, pv_mt01, pv_mt02, pv_mt03, pv_mt10, pv_mt11, pv_mt12, pv_mt13, pv_mt20, pv_mt21, pv_mt22, pv_mt23, pv_mt30, pv_mt31, pv_mt32, pv_mt33]; grind
    | 2, 3, _, _ => simp only [pv_so, pv_si, pv_fw, pv_mt00, pv_mt01, pv_mt02, pv_mt03, pv_mt10, pv_mt11, pv_mt12, pv_mt13, pv_mt20, pv_mt21, pv_mt22, pv_mt23, pv_mt30, pv_mt31, pv_mt32, pv_mt33]; grind
    | 3, 0, _, _ => simp only [pv_so, pv_si, pv_fw, pv_mt00, pv_mt01, pv_mt02, pv_mt03, pv_mt10, pv_mt11, pv_mt12, pv_mt13, pv_mt20, pv_mt21, pv_mt22, pv_mt23, pv_mt30, pv_mt31, pv_mt32, pv_mt33]; grind
    | 3, 1, _, _ => simp only [pv_so, pv_si, pv_fw, pv_mt00, pv_mt01, pv_mt02, pv_mt03, pv_mt10, pv_mt11, pv_mt12, pv_mt13, pv_mt20, pv_mt21, pv_mt22, pv_mt23, pv_mt30, pv_mt31, pv_mt32, pv_mt33]; grind
    | 3, 2, _, _ => simp only [pv_so, pv_si, pv_fw, pv_mt00, pv_mt01, pv_mt02, pv_mt03, pv_mt10, pv_mt11, pv_mt12, pv_mt13, pv_mt20, pv_mt21, pv_mt22, pv_mt23, pv_mt30, pv_mt31, pv_mt32, pv_mt33]; grind
    | 3, 3, _, _ => simp only [pv_so, pv_si, pv_fw, pv_mt00, pv_mt01, pv_mt02, pv_mt03, pv_mt10, pv_mt11, pv_mt12, pv_mt13, pv_mt20, pv_mt21, pv_mt22, pv_mt23, pv_mt30, pv_mt31, pv_mt32, pv_mt33]; grind
  intro i j hi hj
  rw [h i j hi hj]
  match i, j, hi, hj with
    | 0, 0, _, _ => rfl
    | 0, 1, _, _ => rfl
    | 0, 2, _, _ => rfl
    | 0, 3, _, _ => rfl
    | 1, 0, _, _ => rfl
    | 1, 1, _, _ => rfl
    | 1, 2, _, _ => rfl
    | 1, 3, _, _ => rfl
    | 2, 0, _, _ => rfl
    | 2, 1, _, _ => rfl
    | 2, 2, _, _ => rfl
    | 2, 3, _, _ => rfl
    | 3, 0, _, _ => rfl
    | 3, 1, _, _ => rfl
    | 3, 2, _, _ => rfl
    | 3, 3, _, _ => rfl
theorem pv_to_e (f : Nat → Int32) : ∀ i j, i < 4 → j < 4 → pv_to f i j 4 = pv_ir (pv_ic f) (i * 4 + j) := by
  have h : ∀ i j, i < 4 → j < 4 → pv_to f i j 4 = pv_iv (pv_iv (f 0) (f 4) (f 8) (f 12) i) (pv_iv (f 1) (f 5) (f 9) (f 13) i) (pv_iv (f 2) (f 6) (f 10) (f 14) i) (pv_iv (f 3) (f 7) (f 11) (f 15) i) j := by
    intro i j hi hj
    match i, j, hi, hj with
    | 0, 0, _, _ => simp only [pv_to, pv_ti, pv_iv, pv_mt00, pv_mt01, pv_mt02, pv_mt03, pv_mt10, pv_mt11, pv_mt12, pv_mt13, pv_mt20, pv_mt21, pv_mt22, pv_mt23, pv_mt30, pv_mt31, pv_mt32, pv_mt33]; grind
    | 0, 1, _, _ => simp only [pv_to, pv_ti, pv_iv, pv_mt00, pv_mt01, pv_mt02, pv_mt03, pv_mt10, pv_mt11, pv_mt12, pv_mt13, pv_mt20, pv_mt21, pv_mt22, pv_mt23, pv_mt30, pv_mt31, pv_mt32, pv_mt33]; grind
    | 0, 2, _, _ => simp only [pv_to, pv_ti, pv_iv, pv_mt00, pv_mt01, pv_mt02, pv_mt03, pv_mt10, pv_mt11, pv_mt12, pv_mt13, pv_mt20, pv_mt21, pv_mt22, pv_mt23, pv_mt30, pv_mt31, pv_mt32, pv_mt33]; grind
    | 0, 3, _, _ => simp only [pv_to, pv_ti, pv_iv, pv_mt00, pv_mt01, pv_mt02, pv_mt03, pv_mt10, pv_mt11, pv_mt12, pv_mt13, pv_mt20, pv_mt21, pv_mt22, pv_mt23, pv_mt30, pv_mt31, pv_mt32, pv_mt33]; grind
    | 1, 0, _, _ => simp only [pv_to, pv_ti, pv_iv, pv_mt00, pv_mt01, pv_mt02, pv_mt03, pv_mt10, pv_mt11, pv_mt12, pv_mt13, pv_mt20, pv_mt21, pv_mt22, pv_mt23, pv_mt30, pv_mt31, pv_mt32, pv_mt33]; grind
    | 1, 1, _, _ => simp only [pv_to, pv_ti, pv_iv, pv_mt00, pv_mt01, pv_mt02, pv_mt03, pv_mt10, pv_mt11, pv_mt12, pv_mt13, pv_mt20, pv_mt21, pv_mt22, pv_mt23, pv_mt30, pv_mt31, pv_mt32, pv_mt33]; grind
    | 1, 2, _, _ => simp only [pv_to, pv_ti, pv_iv, pv_mt00, pv_mt01, pv_mt02, pv_mt03, pv_mt10, pv_mt11, pv_mt12, pv_mt13, pv_mt20, pv_mt21, pv_mt22, pv_mt23, pv_mt30, pv_mt31, pv_mt32, pv_mt33]; grind
    | 1, 3, _, _ => simp only [pv_to, pv_ti, pv_iv, pv_mt00, pv_mt01, pv_mt02, pv_mt03, pv_mt10, pv_mt11, pv_mt12, pv_mt13, pv_mt20, pv_mt21, pv_mt22, pv_mt23, pv_mt30, pv_mt31, pv_mt32, pv_mt33]; grind
    | 2, 0, _, _ => simp only [pv_to, pv_ti, pv_iv, pv_mt00, pv_mt01, pv_mt02, pv_mt03, pv_mt10, pv_mt11, pv_mt12, pv_mt13, pv_mt20, pv_mt21, pv_mt22, pv_mt23, pv_mt30, pv_mt31, pv_mt32, pv_mt33]; grind
    | 2, 1, _, _ => simp only [pv_to, pv_ti, pv_iv, pv_mt00, pv_mt01, pv_mt02, pv_mt03, pv_mt10, pv_mt11, pv_mt12, pv_mt13, pv_mt20, pv_mt21, pv_mt22, pv_mt23, pv_mt30, pv_mt31, pv_mt32, pv_mt33]; grind
    | 2, 2, _, _ => simp only [pv_to, pv_ti, pv_iv, pv_mt00, pv_mt01, pv_mt02, pv_mt03, pv_mt10, pv_mt11, pv_mt12, pv_mt13, pv_mt20, pv_mt21, pv_mt22, pv_mt23, pv_mt30, pv_mt31, pv_mt32, pv_mt33]; grind
    | 2, 3, _, _ => simp only [pv_to, pv_ti, pv_iv, pv_mt00, pv_mt01, pv_mt02, pv_mt03, pv_mt10, pv_mt11, pv_mt12, pv_mt13, pv_mt20, pv_mt21, pv_mt22, pv_mt23, pv_mt30, pv_mt31, pv_mt32, pv_mt33]; grind
    | 3, 0, _, _ => simp only [pv_to, pv_ti, pv_iv, pv_mt00, pv_mt01, pv_mt02, pv_mt03, pv_mt10, pv_mt11, pv_mt12, pv_mt13, pv_mt20, pv_mt21, pv_mt22, pv_mt23, pv_mt30, pv_mt31, pv_mt32, pv_mt33]; grind
    | 3, 1, _, _ => simp only [pv_to, pv_ti, pv_iv, pv_mt00, pv_mt01, pv_mt02, pv_mt03, pv_mt10, pv_mt11, pv_mt12, pv_mt13, pv_mt20, pv_mt21, pv_mt22, pv_mt23, pv_mt30, pv_mt31, pv_mt32, pv_mt33]; grind
    | 3, 2, _, _ => simp only [pv_to, pv_ti, pv_iv, pv_mt00, pv_mt01, pv_mt02, pv_mt03, pv_mt10, pv_mt11, pv_mt12, pv_mt13, pv_mt20, pv_mt21, pv_mt22, pv_mt23, pv_mt30, pv_mt31, pv_mt32, pv_mt33]; grind
    | 3, 3, _, _ => simp only [pv_to, pv_ti, pv_iv, pv_mt00, pv_mt01, pv_mt02, pv_mt03, pv_mt10, pv_mt11, pv_mt12, pv_mt13, pv_mt20, pv_mt21, pv_mt22, pv_mt23, pv_mt30, pv_mt31, pv_mt32, pv_mt33]; grind
  intro i j hi hj
  rw [h i j hi hj]
  match i, j, hi, hj with
    | 0, 0, _, _ => rfl
    | 0, 1, _, _ => rfl
    | 0, 2, _, _ => rfl
    | 0, 3, _, _ => rfl
    | 1, 0, _, _ => rfl
    | 1, 1, _, _ => rfl
    | 1, 2, _, _ => rfl
    | 1, 3, _, _ => rfl
    | 2, 0, _, _ => rfl
    | 2, 1, _, _ => rfl
    | 2, 2, _, _ => rfl
    | 2, 3, _, _ => rfl
    | 3, 0, _, _ => rfl
    | 3, 1, _, _ => rfl
    | 3, 2, _, _ => rfl
    | 3, 3, _, _ => rfl
end
section
/-! X writes a frame: the record grows -/
theorem pv_T_congr {S S' N N' P P' : Nat → Int32} {C R c r m : Nat} {dx dy : Int32} (hC : C ≤ 4) (hR : R ≤ 2) (hc : c < C) (hr : r < R) (hS : ∀ p, pv_is C R p → S p = S' p) (hN : ∀ p, pv_dn C R (4 * r + c) p → N p = N' p) (hP : ∀ p, pv_is C R p → P p = P' p) :
    pv_T S N P C R c r m dx dy = pv_T S' N' P' C R c r m dx dy ∧ pv_W S N P C R c r m dx dy = pv_W S' N' P' C R c r m dx dy :=
  pv_sd_congr 16 (fun i hi => ⟨hS _ (pv_at_is hC hc hr hi), pv_pr_congr hC hR hc hr hi hN (fun _ => hP)⟩)
theorem pv_T_fun {S S' N N' P P' : Nat → Int32} {C R c r : Nat} (hC : C ≤ 4) (hR : R ≤ 2) (hc : c < C) (hr : r < R) (hS : ∀ p, pv_is C R p → S p = S' p) (hN : ∀ p, pv_dn C R (4 * r + c) p → N p = N' p) (hP : ∀ p, pv_is C R p → P p = P' p) :
    pv_T S N P C R c r = pv_T S' N' P' C R c r := by
  funext m dx dy
  exact (pv_T_congr hC hR hc hr hS hN hP).1
theorem pv_m3_bd {a b c : Int32} {n : Nat} (ha : pv_bd n a) (hb : pv_bd n b) (hc : pv_bd n c) : pv_bd n (pv_m3 a b c) := by
  unfold pv_m3 pv_cl
  split <;> split <;> first | assumption | (split <;> assumption)
theorem pv_gs_bd {V : Nat → Int32} {C R c r n : Nat} (hc : c < C) (hr : r < R) (hC : C ≤ 4) (h : ∀ c' r', c' < C → r' < R → 4 * r' + c' < 4 * r + c → pv_bd n (V (4 * r' + c'))) : pv_bd n (pv_gs V C c r) := by
  have e1 : pv_bd n (pv_lf V c r) := by
    unfold pv_lf
    by_cases c0 : 0 < c
    · rw [if_pos c0]; exact h (c - 1) r (by omega) hr (by omega)
    · rw [if_neg c0]; exact pv_bd_0 n
  have e2 : pv_bd n (pv_up V c r) := by
    unfold pv_up
    by_cases r0 : 0 < r
    · rw [if_pos r0]; exact h c (r - 1) hc (by omega) (by omega)
    · rw [if_neg r0]; exact pv_bd_0 n
  have e3 : pv_bd n (pv_th V C c r) := by
    unfold pv_th
    by_cases c1 : c + 1 < C
    · rw [if_pos c1]
      by_cases r0 : 0 < r
      · rw [if_pos r0]; exact h (c + 1) (r - 1) c1 (by omega) (by omega)
      · rw [if_neg r0]; exact pv_bd_0 n
    · rw [if_neg c1]
      by_cases c0 : 0 < c
      · rw [if_pos c0]
        by_cases r0 : 0 < r
        · rw [if_pos r0]; exact h (c - 1) (r - 1) (by omega) (by omega) (by omega)
        · rw [if_neg r0]; exact pv_bd_0 n
      · rw [if_neg c0]; exact pv_bd_0 n
  unfold pv_gs
  split
  · exact e1
  · exact pv_m3_bd e1 e2 e3
/-- one block of the record -/
def pv_bl (C R q kind g : Nat) (S P N B : Nat → Int32) (md : Nat → Nat) (vx vy : Nat → Int32) (rs : Nat → Nat → Int32) (K : Nat → Nat) (c r : Nat) : Prop :=
  pv_vd (md (4 * r + c)) (vx (4 * r + c)) (vy (4 * r + c)) (pv_gs vx C c r) (pv_gs vy C c r) ∧ (kind = 0 → md (4 * r + c) < 4) ∧ (md (4 * r + c) = 2 → 0 < r) ∧ (md (4 * r + c) = 3 → 0 < c) ∧ pv_bd 3 (vx (4 * r + c)) ∧ pv_bd 3 (vy (4 * r + c)) ∧
  (∀ i, i < 16 → N (pv_at c r i) = pv_rc q (pv_pr N P C R (md (4 * r + c)) c r (vx (4 * r + c)) (vy (4 * r + c))) (rs (4 * r + c)) i) ∧
  (∀ m1 x1 y1, pv_yc (pv_T S N P C R c r) (pv_W S N P C R c r 5 (pv_gs vx C c r) (pv_gs vy C c r)) kind q g c r (pv_gs vx C c r) (pv_gs vy C c r) m1 x1 y1 = (nI (md (4 * r + c)), vx (4 * r + c), vy (4 * r + c))) ∧
  (∀ i, i < 16 → rs (4 * r + c) i = if md (4 * r + c) = 5 then 0 else pv_ms q (fun j => S (pv_at c r j) - pv_pr N P C R (md (4 * r + c)) c r (vx (4 * r + c)) (vy (4 * r + c)) j) i) ∧
  pv_bt B (K (r * C + c)) (md (4 * r + c)) (vx (4 * r + c)) (vy (4 * r + c)) (pv_gs vx C c r) (pv_gs vy C c r) (rs (4 * r + c)) (K (r * C + (c + 1)))
theorem pv_bl_congr {C R q kind g : Nat} {S P N N' B B' : Nat → Int32} {md md' : Nat → Nat} {vx vx' vy vy' : Nat → Int32} {rs rs' : Nat → Nat → Int32} {K K' : Nat → Nat} {c r : Nat} (hC : C ≤ 4) (hR : R ≤ 2) (hc : c < C) (hr : r < R)
    (h : pv_bl C R q kind g S P N B md vx vy rs K c r) (hN : ∀ p, pv_dn C R (4 * r + c + 1) p → N' p = N p) (hB : ∀ j, K (r * C + c) ≤ j → j < K (r * C + (c + 1)) → B' j = B j) (hmd : md' (4 * r + c) = md (4 * r + c))
    (hv : ∀ c' r', c' < C → r' < R → 4 * r' + c' ≤ 4 * r + c → vx' (4 * r' + c') = vx (4 * r' + c') ∧ vy' (4 * r' + c') = vy (4 * r' + c')) (hrs : rs' (4 * r + c) = rs (4 * r + c)) (hK0 : K' (r * C + c) = K (r * C + c)) (hK1 : K' (r * C + (c + 1)) = K (r * C + (c + 1))) :
    pv_bl C R q kind g S P N' B' md' vx' vy' rs' K' c r := by
  have hN2 : ∀ p, pv_dn C R (4 * r + c) p → N' p = N p := fun p hp => hN p ⟨hp.1, by have := hp.2; omega⟩
  have ex : pv_gs vx' C c r = pv_gs vx C c r := pv_gs_congr hc hr (fun c' r' a1 a2 a3 => (hv c' r' a1 a2 (by omega)).1) hC
  have ey : pv_gs vy' C c r = pv_gs vy C c r := pv_gs_congr hc hr (fun c' r' a1 a2 a3 => (hv c' r' a1 a2 (by omega)).2) hC
  have eT : pv_T S N' P C R c r = pv_T S N P C R c r := pv_T_fun hC hR hc hr (fun _ _ => rfl) hN2 (fun _ _ => rfl)
  have eW : pv_W S N' P C R c r 5 (pv_gs vx C c r) (pv_gs vy C c r) = pv_W S N P C R c r 5 (pv_gs vx C c r) (pv_gs vy C c r) := (pv_T_congr hC hR hc hr (fun _ _ => rfl) hN2 (fun _ _ => rfl)).2
  have eP : ∀ i, i < 16 → pv_pr N' P C R (md (4 * r + c)) c r (vx (4 * r + c)) (vy (4 * r + c)) i = pv_pr N P C R (md (4 * r + c)) c r (vx (4 * r + c)) (vy (4 * r + c)) i := fun i hi => pv_pr_congr hC hR hc hr hi hN2 (fun _ _ _ => rfl)
  have v0 := hv c r hc hr (Nat.le_refl _)
  obtain ⟨h1, h2, h3, h4, h5, h6, h7, h8, h9, h10⟩ := h
  unfold pv_bl
  rw [hmd, v0.1, v0.2, ex, ey, hrs, hK0, hK1, eT, eW]
  refine ⟨h1, h2, h3, h4, h5, h6, fun i hi => ?_, h8, fun i hi => ?_, pv_bt_congr h10 hB⟩
  · rw [hN _ ⟨pv_at_is hC hc hr hi, by rw [pv_bk_at (by omega) hi]; omega⟩, h7 i hi]
    exact pv_rc_congr (fun j hj => (eP j hj).symm) (fun _ _ => rfl) hi
  · rw [h9 i hi]
    by_cases m5 : md (4 * r + c) = 5
    · rw [if_pos m5, if_pos m5]
    · rw [if_neg m5, if_neg m5]
      exact pv_ms_congr (fun j hj => by rw [eP j hj]) hi
theorem pv_idx {C c r c' r' : Nat} (hc' : c' < C) (hc : c < C) (hC : C ≤ 4) (h : 4 * r' + c' < 4 * r + c) : r' * C + c' + 1 ≤ r * C + c := by
  by_cases e : r' = r
  · subst e
    omega
  · have a : (r' + 1) * C ≤ r * C := Nat.mul_le_mul_right C (by omega)
    rw [Nat.add_mul, Nat.one_mul] at a
    omega
theorem pv_idx7 {C R c r : Nat} (hc : c < C) (hC : C ≤ 4) (hr : r < R) (hR : R ≤ 2) : r * C + c ≤ 7 := by
  have a : r * C ≤ 1 * C := Nat.mul_le_mul_right C (by omega)
  rw [Nat.one_mul] at a
  omega
def pv_IW (C R q kind g s : Nat) (pix P bts : Nat → Int32) (bb n : Nat) (a M VX VY b : Nat → Int32) (md : Nat → Nat) (rs : Nat → Nat → Int32) (K : Nat → Nat) : Prop :=
  (∀ p, p < 384 → a p = pix p) ∧ (∀ p, pv_dn C R bb p → pv_by (a (384 + p))) ∧
  (∀ c' r', c' < C → r' < R → 4 * r' + c' < bb → pv_bl C R q kind g pix P (fun p => a (384 + p)) (pv_sl b s) md VX VY rs K c' r' ∧ M (4 * r' + c') = nI (md (4 * r' + c'))) ∧
  VX 8 = 0 ∧ VY 8 = 0 ∧ K 0 = 44 ∧ (∀ j, j ≤ n → K j ≤ K n ∧ K j ≤ 44 + 475 * j ∧ 44 ≤ K j) ∧ (∀ j, (j < 4096 * s + 44 ∨ 4096 * s + K n ≤ j) → b j = bts j) ∧ (pv_01 bts → pv_01 b)
theorem pv_IW_row {C R q kind g s r : Nat} {pix P bts a M VX VY b : Nat → Int32} {md : Nat → Nat} {rs : Nat → Nat → Int32} {K : Nat → Nat} (hC : C ≤ 4) (h : pv_IW C R q kind g s pix P bts (4 * r + C) (r * C + C) a M VX VY b md rs K) :
    pv_IW C R q kind g s pix P bts (4 * (r + 1) + 0) ((r + 1) * C + 0) a M VX VY b md rs K := by
  have e : (r + 1) * C + 0 = r * C + C := by rw [Nat.add_mul, Nat.one_mul, Nat.add_zero]
  rw [e]
  obtain ⟨h1, h2, h3, h4, h5, h6, h7, h8, h9⟩ := h
  exact ⟨h1, pv_dn_row hC h2, fun c' r' a1 a2 a3 => h3 c' r' a1 a2 (by omega), h4, h5, h6, h7, h8, h9⟩
theorem pv_IW_s {C R q kind g s c r m o' : Nat} {dx dy : Int32} {pix P bts a a' M VX VY b b' f : Nat → Int32} {md md' : Nat → Nat} {rs rs' : Nat → Nat → Int32} {K K' : Nat → Nat} (hC : C ≤ 4) (hR : R ≤ 2) (hc : c < C) (hr : r < R) (hs : s < 2)
    (hI : pv_IW C R q kind g s pix P bts (4 * r + c) (r * C + c) a M VX VY b md rs K)
    (h1 : pv_vd m dx dy (pv_gs VX C c r) (pv_gs VY C c r)) (h2 : kind = 0 → m < 4) (h3 : m = 2 → 0 < r) (h4 : m = 3 → 0 < c) (h5 : pv_bd 3 dx) (h6 : pv_bd 3 dy)
    (h7 : ∀ i, i < 16 → a' (384 + pv_at c r i) = pv_rc q (pv_pr (fun p => a (384 + p)) P C R m c r dx dy) f i) (h7' : ∀ p, (∀ i, i < 16 → p ≠ 384 + pv_at c r i) → a' p = a p)
    (h8 : ∀ m1 x1 y1, pv_yc (pv_T pix (fun p => a (384 + p)) P C R c r) (pv_W pix (fun p => a (384 + p)) P C R c r 5 (pv_gs VX C c r) (pv_gs VY C c r)) kind q g c r (pv_gs VX C c r) (pv_gs VY C c r) m1 x1 y1 = (nI m, dx, dy))
    (h9 : ∀ i, i < 16 → f i = if m = 5 then 0 else pv_ms q (fun j => pix (pv_at c r j) - pv_pr (fun p => a (384 + p)) P C R m c r dx dy j) i)
    (h10 : pv_bt (pv_sl b' s) (K (r * C + c)) m dx dy (pv_gs VX C c r) (pv_gs VY C c r) f o') (h11 : o' ≤ K (r * C + c) + 475)
    (h12 : ∀ j, (j < 4096 * s + K (r * C + c) ∨ 4096 * s + o' ≤ j) → b' j = b j) (h13 : pv_01 b → pv_01 b')
    (md0 : md' (4 * r + c) = m) (md1 : ∀ j, j ≠ 4 * r + c → md' j = md j) (rs0 : rs' (4 * r + c) = f) (rs1 : ∀ j, j ≠ 4 * r + c → rs' j = rs j) (K0 : K' (r * C + (c + 1)) = o') (K1 : ∀ j, j ≠ r * C + (c + 1) → K' j = K j) :
    pv_IW C R q kind g s pix P bts (4 * r + (c + 1)) (r * C + (c + 1)) a' (upd M (4 * r + c) (nI m)) (upd VX (4 * r + c) dx) (upd VY (4 * r + c) dy) b' md' rs' K' := by
  obtain ⟨i1, i2, i3, i4, i5, i6, i7, i8, i9⟩ := hI
  have hle := pv_bt_le h10
  have k7 := pv_idx7 hc hC hr hR
  have keep : ∀ p, pv_dn C R (4 * r + c) p → a' (384 + p) = a (384 + p) := fun p hp => h7' _ (fun i hi k => by
    have e : p = pv_at c r i := by omega
    have b1 := hp.2
    rw [e, pv_bk_at (by omega) hi] at b1
    omega)
  have vs : ∀ c' r', c' < C → r' < R → 4 * r' + c' < 4 * r + c → upd VX (4 * r + c) dx (4 * r' + c') = VX (4 * r' + c') ∧ upd VY (4 * r + c) dy (4 * r' + c') = VY (4 * r' + c') := fun c' r' a1 a2 a3 => ⟨pk_un (by omega), pk_un (by omega)⟩
  have ex : pv_gs (upd VX (4 * r + c) dx) C c r = pv_gs VX C c r := pv_gs_congr hc hr (fun c' r' a1 a2 a3 => (vs c' r' a1 a2 a3).1) hC
  have ey : pv_gs (upd VY (4 * r + c) dy) C c r = pv_gs VY C c r := pv_gs_congr hc hr (fun c' r' a1 a2 a3 => (vs c' r' a1 a2 a3).2) hC
  have eT : pv_T pix (fun p => a' (384 + p)) P C R c r = pv_T pix (fun p => a (384 + p)) P C R c r := pv_T_fun hC hR hc hr (fun _ _ => rfl) keep (fun _ _ => rfl)
  have eW : pv_W pix (fun p => a' (384 + p)) P C R c r 5 (pv_gs VX C c r) (pv_gs VY C c r) = pv_W pix (fun p => a (384 + p)) P C R c r 5 (pv_gs VX C c r) (pv_gs VY C c r) := (pv_T_congr hC hR hc hr (fun _ _ => rfl) keep (fun _ _ => rfl)).2
  have eP : ∀ i, i < 16 → pv_pr (fun p => a' (384 + p)) P C R m c r dx dy i = pv_pr (fun p => a (384 + p)) P C R m c r dx dy i := fun i hi => pv_pr_congr hC hR hc hr hi keep (fun _ _ _ => rfl)
  refine ⟨fun p hp => ?_, pv_dn_s (by omega) (fun p hp => ?_) (fun i hi => ?_), fun c' r' hc' hr' hb => ?_, ?_, ?_, ?_, fun j hj => ?_, fun j hj => ?_, fun z => h13 (i9 z)⟩
  · rw [h7' p (fun i hi => by omega)]
    exact i1 p hp
  · rw [keep p hp]
    exact i2 p hp
  · rw [h7 i hi]
    exact pv_cl_by _
  · by_cases e : 4 * r' + c' = 4 * r + c
    · obtain rfl : r' = r := by omega
      obtain rfl : c' = c := by omega
      refine ⟨?_, by rw [pk_us, md0]⟩
      unfold pv_bl
      rw [md0, rs0, K1 (r' * C + c') (by omega), K0, pk_us, pk_us, ex, ey, eT, eW]
      refine ⟨h1, h2, h3, h4, h5, h6, fun i hi => ?_, h8, fun i hi => ?_, h10⟩
      · exact (h7 i hi).trans (pv_rc_congr (fun j hj => (eP j hj).symm) (fun _ _ => rfl) hi)
      · rw [h9 i hi]
        by_cases m5 : m = 5
        · rw [if_pos m5, if_pos m5]
        · rw [if_neg m5, if_neg m5]
          exact pv_ms_congr (fun j hj => by rw [eP j hj]) hi
    · have i3' := i3 c' r' hc' hr' (by omega)
      have hix := pv_idx hc' hc hC (show 4 * r' + c' < 4 * r + c by omega)
      refine ⟨pv_bl_congr hC hR hc' hr' i3'.1 (fun p hp => keep p ⟨hp.1, ?_⟩) (fun j j1 j2 => ?_) ?_ (fun c2 r2 a1 a2 a3 => vs c2 r2 a1 a2 (by omega)) ?_ ?_ ?_, ?_⟩
      · have := hp.2
        omega
      · have q1 := (i7 (r' * C + (c' + 1)) (by omega)).1
        exact h12 _ (by omega)
      · exact md1 _ e
      · exact rs1 _ e
      · exact K1 _ (by omega)
      · exact K1 _ (by omega)
      · rw [pk_un e, md1 _ e]
        exact i3'.2
  · rw [pk_un (by omega)]
    exact i4
  · rw [pk_un (by omega)]
    exact i5
  · rw [K1 0 (by omega)]
    exact i6
  · rw [K0]
    by_cases e : j = r * C + (c + 1)
    · rw [e, K0]
      have q1 := (i7 (r * C + c) (Nat.le_refl _)).2
      omega
    · rw [K1 j e]
      have q1 := i7 j (by omega)
      omega
  · rw [K0] at hj
    have q1 := (i7 0 (by omega)).1
    rw [i6] at q1
    rw [h12 j (by omega), i8 j (by omega)]
section
variable {C R g : Nat} {qa1 qa2 qa3 qa4 xcc xdc xpk xfi xsl xcu xrf xpx xpy xbc xbl xto xwo xwr : Int32} {pix xmd xvx xvy sem sev prd rsd bts len tgs dam : Nat → Int32} {post : SX → Prop}
theorem xq_bf20W {J : Int32 → Int32 → Int32 → Int32 → Int32 → Int32 → Int32 → Int32 → Int32 → Int32 → Int32 → Int32 → Int32 → Int32 → Int32 → Int32 → Int32 → Int32 → Int32 → Int32 → Int32 → Int32 → Int32 → Int32 → (Nat → Int32) → (Nat → Int32) → (Nat → Int32) → (Nat → Int32) → (Nat → Int32) → (Nat → Int32) → (Nat → Int32) → (Nat → Int32) → (Nat → Int32) → (Nat → Int32) → (Nat → Int32) → (Nat → Int32) → Prop} {q s B kind r : Nat} {pix0 bts0 : Nat → Int32} {md : Nat → Nat} {rs : Nat → Nat → Int32} {K : Nat → Nat}
    (hC : C ≤ 4) (hR : R ≤ 2) (hg : g ≤ 3) (hr : r < R) (hB : B + 128 ≤ 384) (hk : kind < 2) (hq2 : q ≤ 40) (hs : s < 2)
    (hS : ∀ p, pv_is C R p → pv_by (pix0 p)) (hP : ∀ p, pv_is C R p → pv_by (pix0 (B + p)))
    (hI : pv_IW C R q kind g s pix0 (fun p => pix0 (B + p)) bts0 (4 * r + 0) (r * C + 0) pix xmd xvx xvy bts md rs K)
    (h : ∀ (a f' p' M VX VY b : Nat → Int32) (md : Nat → Nat) (rs : Nat → Nat → Int32) (K : Nat → Nat) (x y bc bl t w : Int32), pv_IW C R q kind g s pix0 (fun p => pix0 (B + p)) bts0 (4 * (r + 1) + 0) ((r + 1) * C + 0) a M VX VY b md rs K → J (nI (r + 1)) qa1 qa2 qa3 qa4 (nI C) (nI R) (nI g) (nI (4 * C)) (nI (4 * R)) xcc xdc xpk xfi (nI s) (nI (K ((r + 1) * C + 0))) (nI B) x y bc bl t w 1 a M VX VY sem sev p' f' b len tgs dam) :
    ∃ n : Nat, wX_buildFrame_20 post J (nI kind) (nI q) (nI B) (nI r) n 0 qa1 qa2 qa3 qa4 (nI C) (nI R) (nI g) (nI (4 * C)) (nI (4 * R)) xcc xdc xpk xfi (nI s) (nI (K (r * C + 0))) (nI B) xpx xpy xbc xbl xto xwo 1 pix xmd xvx xvy sem sev prd rsd bts len tgs dam := by
  refine loop_0 (fun n c (z : (Int32 × Int32 × Int32 × Int32 × Int32 × Int32) × ((Nat → Int32) × (Nat → Int32) × (Nat → Int32) × (Nat → Int32) × (Nat → Int32) × (Nat → Int32) × (Nat → Int32)) × ((Nat → Nat) × (Nat → Nat → Int32) × (Nat → Nat))) => wX_buildFrame_20 post J (nI kind) (nI q) (nI B) (nI r) n (nI c) qa1 qa2 qa3 qa4 (nI C) (nI R) (nI g) (nI (4 * C)) (nI (4 * R)) xcc xdc xpk xfi (nI s) (nI (z.2.2.2.2 (r * C + c))) (nI B) z.1.1 z.1.2.1 z.1.2.2.1 z.1.2.2.2.1 z.1.2.2.2.2.1 z.1.2.2.2.2.2 1 z.2.1.1 z.2.1.2.2.2.1 z.2.1.2.2.2.2.1 z.2.1.2.2.2.2.2.1 sem sev z.2.1.2.2.1 z.2.1.2.1 z.2.1.2.2.2.2.2.2 len tgs dam)
    (fun c z => pv_IW C R q kind g s pix0 (fun p => pix0 (B + p)) bts0 (4 * r + c) (r * C + c) z.2.1.1 z.2.1.2.2.2.1 z.2.1.2.2.2.2.1 z.2.1.2.2.2.2.2.1 z.2.1.2.2.2.2.2.2 z.2.2.1 z.2.2.2.1 z.2.2.2.2) C ((xpx, xpy, xbc, xbl, xto, xwo), (pix, rsd, prd, xmd, xvx, xvy, bts), (md, rs, K)) hI (fun n z hz => ?_) (fun n c z hc hz ih => ?_)
  · obtain ⟨⟨x, y, bc, bl, t, w⟩, ⟨a, f', p', M, VX, VY, b⟩, ⟨md, rs, K⟩⟩ := z
    dsimp only at hz
    have ek : r * C + C = (r + 1) * C + 0 := by rw [Nat.add_mul, Nat.one_mul, Nat.add_zero]
    dsimp only
    rw [ek]
    exact br_t (nI_le (by omega) (by omega)) (nm_r (nI_1 r) (h a f' p' M VX VY b md rs K x y bc bl t w (pv_IW_row hC hz)))
  · obtain ⟨⟨x, y, bc, bl, t, w⟩, ⟨a, f', p', M, VX, VY, b⟩, ⟨md, rs, K⟩⟩ := z
    dsimp only at hz
    dsimp only
    refine br_f (nI_ge hc (by omega)) ?_
    have hz' := hz
    obtain ⟨i1, i2, i3, i4, i5, i6, i7, i8, i9⟩ := hz'
    have k7 := pv_idx7 hc hC hr hR
    have o1 := (i7 (r * C + c) (Nat.le_refl _)).2.1
    have sS : ∀ p, pv_is C R p → pix0 p = a p := fun p hp => by
      have := hp.2
      exact (i1 p (by omega)).symm
    have sP : ∀ p, pv_is C R p → pix0 (B + p) = a (B + p) := fun p hp => by
      have := hp.2
      exact (i1 (B + p) (by omega)).symm
    have gx : pv_bd 3 (pv_gs VX C c r) := pv_gs_bd hc hr hC (fun c' r' a1 a2 a3 => (i3 c' r' a1 a2 a3).1.2.2.2.2.1)
    have gy : pv_bd 3 (pv_gs VY C c r) := pv_gs_bd hc hr hC (fun c' r' a1 a2 a3 => (i3 c' r' a1 a2 a3).1.2.2.2.2.2.1)
    obtain ⟨m, dx, dy, c1, c2, c3, c4, c5, c6, c7, c8⟩ := pv_ch_eq (T := pv_T pix0 (fun p => a (384 + p)) (fun p => pix0 (B + p)) C R c r) (W := pv_W pix0 (fun p => a (384 + p)) (fun p => pix0 (B + p)) C R c r 5 (pv_gs VX C c r) (pv_gs VY C c r)) (px := pv_gs VX C c r) (py := pv_gs VY C c r) (bl := bl) (m0 := M (4 * r + c)) (x0 := VX (4 * r + c)) (y0 := VY (4 * r + c)) (kind := kind) (q := q) (g := g) (c := c) (r := r) (fun m dx dy => pv_T_b hC hR hc hr hS i2 hP) hg hk gx gy
    have eW : pv_W pix0 (fun p => a (384 + p)) (fun p => pix0 (B + p)) C R c r 5 (pv_gs VX C c r) (pv_gs VY C c r) = pv_W a (fun p => a (384 + p)) (fun p => a (B + p)) C R c r 5 (pv_gs VX C c r) (pv_gs VY C c r) := (pv_T_congr hC hR hc hr sS (fun _ _ => rfl) sP).2
    have eP : ∀ j, j < 16 → pv_pr (fun p => a (384 + p)) (fun p => a (B + p)) C R m c r dx dy j = pv_pr (fun p => a (384 + p)) (fun p => pix0 (B + p)) C R m c r dx dy j := fun j hj => pv_pr_congr hC hR hc hr hj (fun _ _ => rfl) (fun _ p hp => (sP p hp).symm)
    have eB : ∀ j, j < 16 → pv_bd 255 (pix0 (pv_at c r j) - pv_pr (fun p => a (384 + p)) (fun p => pix0 (B + p)) C R m c r dx dy j) := fun j hj => pv_by_sub (hS _ (pv_at_is hC hc hr hj)) (pv_pr_by hC hR hc hr hj i2 hP)
    refine xq_blockW (m := m) (dx := dx) (dy := dy) (b := 4 * r + c) (T := pv_T pix0 (fun p => a (384 + p)) (fun p => pix0 (B + p)) C R c r) (f := fun i => if m = 5 then 0 else pv_ms q (fun j => pix0 (pv_at c r j) - pv_pr (fun p => a (384 + p)) (fun p => pix0 (B + p)) C R m c r dx dy j) i)
      hC hR hg i4 i5 c3 hc hr (by omega) rfl hk hq2 hs (by omega) (fun m dx dy => (pv_T_congr hC hR hc hr sS (fun _ _ => rfl) sP).1) (by rw [← eW]; exact c1) (fun _ => ⟨pv_bd_sub c4 gx (by omega) (by omega), pv_bd_sub c5 gy (by omega) (by omega)⟩) (fun i hi => ⟨fun m5 => ?_, fun m5 => if_pos m5⟩)
      (fun a' f2' p2' b' o' x' y' bc' bl' t' w' w1 w2 w3 w4 w5 w6 => nm_r (nI_1 c) ?_)
    · rw [if_neg m5]
      refine ⟨pv_ms_congr (fun j hj => ?_) hi, pv_ms_bd hq2 eB hi⟩
      rw [eP j hj, sS _ (pv_at_is hC hc hr hj)]
    · have st := pv_IW_s (b' := b') (a' := a') (o' := o') (md' := fun j => if j = 4 * r + c then m else md j) (rs' := fun j => if j = 4 * r + c then (fun i => if m = 5 then 0 else pv_ms q (fun j => pix0 (pv_at c r j) - pv_pr (fun p => a (384 + p)) (fun p => pix0 (B + p)) C R m c r dx dy j) i) else rs j) (K' := fun j => if j = r * C + (c + 1) then o' else K j) (f := fun i => if m = 5 then 0 else pv_ms q (fun j => pix0 (pv_at c r j) - pv_pr (fun p => a (384 + p)) (fun p => pix0 (B + p)) C R m c r dx dy j) i) hC hR hc hr hs hz c3 c6 c7 c8 c4 c5 (fun i hi => by rw [w5 i hi]; exact pv_rc_congr eP (fun _ _ => rfl) hi) w6 c2 (fun i hi => rfl) w3 w4 w1 w2 (if_pos rfl) (fun j hj => if_neg hj) (if_pos rfl) (fun j hj => if_neg hj) (if_pos rfl) (fun j hj => if_neg hj)
      have ek : (fun j => if j = r * C + (c + 1) then o' else K j) (r * C + (c + 1)) = o' := if_pos rfl
      rw [← ek]
      exact ih ((x', y', bc', bl', t', w'), (a', f2', p2', upd M (4 * r + c) (nI m), upd VX (4 * r + c) dx, upd VY (4 * r + c) dy, b'), (_, _, _)) st
theorem xq_frameW {q s B kind : Nat}
    (hC : C ≤ 4) (hR : R ≤ 2) (hC0 : 1 ≤ C) (hR0 : 1 ≤ R) (hg : g ≤ 3) (hB : B + 128 ≤ 384) (hk : kind < 2) (hq2 : q ≤ 40) (hs : s < 2)
    (hS : ∀ p, pv_is C R p → pv_by (pix p)) (hP : ∀ p, pv_is C R p → pv_by (pix (B + p))) (hx8 : xvx 8 = 0) (hy8 : xvy 8 = 0)
    (h : ∀ (a0 a f' p' M VX VY b : Nat → Int32) (md : Nat → Nat) (rs : Nat → Nat → Int32) (K : Nat → Nat) (x y bc bl t w : Int32), pv_IW C R q kind g s pix (fun p => pix (B + p)) bts (4 * R + 0) (R * C + 0) a0 M VX VY b md rs K →
      (∀ p, p < 384 → (p < B ∨ B + 128 ≤ p) → a p = pix p) → (∀ p, p < 128 → a (B + p) = pv_FP C R q M (fun p => a0 (384 + p)) p) → post (qa1, qa2, qa3, qa4, (nI C), (nI R), (nI g), (nI (4 * C)), (nI (4 * R)), xcc, xdc, xpk, xfi, nI s, nI (K (R * C + 0)), nI B, x, y, bc, bl, t, w, 1, a, M, VX, VY, sem, sev, p', f', b, len, tgs, dam)) :
    wpX_buildFrame post (qa1, qa2, qa3, qa4, (nI C), (nI R), (nI g), (nI (4 * C)), (nI (4 * R)), xcc, xdc, xpk, xfi, nI s, nI 44, xrf, xpx, xpy, xbc, xbl, xto, xwo, 1, pix, xmd, xvx, xvy, sem, sev, prd, rsd, bts, len, tgs, dam) (nI kind) (nI q) (nI B) := by
  unfold wpX_buildFrame
  refine loop_0 (fun n r (z : (Int32 × Int32 × Int32 × Int32 × Int32 × Int32) × ((Nat → Int32) × (Nat → Int32) × (Nat → Int32) × (Nat → Int32) × (Nat → Int32) × (Nat → Int32) × (Nat → Int32)) × ((Nat → Nat) × (Nat → Nat → Int32) × (Nat → Nat))) => wX_buildFrame_8 post (nI kind) (nI q) (nI B) n (nI r) qa1 qa2 qa3 qa4 (nI C) (nI R) (nI g) (nI (4 * C)) (nI (4 * R)) xcc xdc xpk xfi (nI s) (nI (z.2.2.2.2 (r * C + 0))) (nI B) z.1.1 z.1.2.1 z.1.2.2.1 z.1.2.2.2.1 z.1.2.2.2.2.1 z.1.2.2.2.2.2 1 z.2.1.1 z.2.1.2.2.2.1 z.2.1.2.2.2.2.1 z.2.1.2.2.2.2.2.1 sem sev z.2.1.2.2.1 z.2.1.2.1 z.2.1.2.2.2.2.2.2 len tgs dam)
    (fun r z => pv_IW C R q kind g s pix (fun p => pix (B + p)) bts (4 * r + 0) (r * C + 0) z.2.1.1 z.2.1.2.2.2.1 z.2.1.2.2.2.2.1 z.2.1.2.2.2.2.2.1 z.2.1.2.2.2.2.2.2 z.2.2.1 z.2.2.2.1 z.2.2.2.2) R ((xpx, xpy, xbc, xbl, xto, xwo), (pix, rsd, prd, xmd, xvx, xvy, bts), (fun _ => 0, fun _ _ => 0, fun _ => 44)) ⟨fun _ _ => rfl, fun p hp => ?_, fun c' r' a1 a2 a3 => ?_, hx8, hy8, rfl, fun j hj => ⟨Nat.le_refl _, by dsimp only; omega, Nat.le_refl _⟩, fun _ _ => rfl, fun z => z⟩ (fun n z hz => ?_) (fun n r z hr hz ih => ?_)
  · exact absurd hp.2 (by omega)
  · exact absurd a3 (by omega)
  · obtain ⟨⟨x, y, bc, bl, t, w⟩, ⟨a, f', p', M, VX, VY, b⟩, ⟨md, rs, K⟩⟩ := z
    have i1 := hz.1
    refine xq_tail hC hR hC0 hR0 hB hq2 (fun a' h1 h2 => h a a' f' p' M VX VY b md rs K x y bc bl t w hz (fun p hp hb => ?_) h1)
    rw [h2 p hp hb]
    exact i1 p hp
  · obtain ⟨⟨x, y, bc, bl, t, w⟩, ⟨a, f', p', M, VX, VY, b⟩, ⟨md, rs, K⟩⟩ := z
    refine br_f (nI_ge hr (by omega)) ?_
    exact xq_bf20W hC hR hg hr hB hk hq2 hs hS hP hz (fun a' f2' p2' M' VX' VY' b' md' rs' K' x' y' bc' bl' t' w' st => ih ((x', y', bc', bl', t', w'), (a', f2', p2', M', VX', VY', b'), (md', rs', K')) st)
end
end
section
/-! Y: small methods, prediction, measure -/
theorem pv_yi (a b : Nat) : nI b * 16 + nI a = nI (16 * b + a) := by
  rw [pv_m16, nI_add, Nat.mul_comm b 16]
theorem pv_yb (a b : Nat) : nI b * 4 + nI a = nI (4 * b + a) := by
  rw [pv_m4, nI_add, Nat.mul_comm b 4]
def pv_py (N P : Nat → Int32) (C R m c r : Nat) (dx dy : Int32) (k : Nat) : Int32 :=
  if m = 2 then (if 0 < r then N (64 * r + 4 * c - 16 + k % 4) else 0) else if m = 3 then (if 0 < c then N (64 * r + 4 * c - 1 + 16 * (k / 4)) else 0)
  else if m = 4 ∨ m = 5 then pv_rf P C R (nI (4 * c + k % 4) + dx) (nI (4 * r + k / 4) + dy) else pv_fl N c r
theorem pv_py_pr {N P : Nat → Int32} {C R m c r : Nat} {dx dy : Int32} {k : Nat} (hm : m ≤ 5) (h2 : m = 2 → 0 < r) (h3 : m = 3 → 0 < c) : pv_py N P C R m c r dx dy k = pv_pr N P C R m c r dx dy k := by
  unfold pv_py pv_pr
  by_cases m4 : 4 ≤ m
  · rw [if_pos m4, if_neg (show ¬ m = 2 by omega), if_neg (show ¬ m = 3 by omega), if_pos (show m = 4 ∨ m = 5 by omega)]
  · rw [if_neg m4]
    by_cases m2 : m = 2
    · rw [if_pos m2, if_pos (h2 m2), if_pos ⟨m2, h2 m2⟩]
    · rw [if_neg m2, if_neg (show ¬ (m = 2 ∧ 0 < r) from fun k => m2 k.1)]
      by_cases m3 : m = 3
      · rw [if_pos m3, if_pos (h3 m3), if_pos (show m = 3 ∧ 0 < c from ⟨m3, h3 m3⟩)]
      · rw [if_neg m3, if_neg (show ¬ (m = 3 ∧ 0 < c) from fun k => m3 k.1), if_neg (show ¬ (m = 4 ∨ m = 5) by omega)]
section
variable {C R g : Nat} {ycn ydn yct : Int32} {ysrc yold ypic ynxt ydec ymd yvx yvy ydm ydx ydy yprd ydif ysca ysp ysm ysx ysy ysn ysk ydam : Nat → Int32} {post : Int32 → Prop}
theorem yq_limit {u : SY} {v lo hi : Int32} (h : post (pv_cl v lo hi)) : wpY_limit post u v lo hi := by
  show (lo ≤ v → ((v ≤ hi → post v) ∧ (¬ v ≤ hi → post hi))) ∧ (¬ lo ≤ v → post lo)
  unfold pv_cl at h
  refine ⟨fun a => ⟨fun b => ?_, fun b => ?_⟩, fun a => ?_⟩
  · rw [if_pos a, if_pos b] at h; exact h
  · rw [if_pos a, if_neg b] at h; exact h
  · rw [if_neg a] at h; exact h
theorem yq_abs {u : SY} {v : Int32} (h : post (pv_ab v)) : wpY_abs post u v := by
  show (0 ≤ v → post v) ∧ (¬ 0 ≤ v → post (-v))
  unfold pv_ab at h
  refine ⟨fun a => ?_, fun a => ?_⟩
  · rw [if_pos a] at h; exact h
  · rw [if_neg a] at h; exact h
theorem yq_in1 {a b : Nat} (hC : C ≤ 4) (hR : R ≤ 2) (ha : a < 4 * C) (hb : b < 4 * R) (h : post 1) : wpY_inside post ((nI C), (nI R), (nI g), (nI (4 * C)), (nI (4 * R)), ycn, ydn, yct, ysrc, yold, ypic, ynxt, ydec, ymd, yvx, yvy, ydm, ydx, ydy, yprd, ydif, ysca, ysp, ysm, ysx, ysy, ysn, ysk, ydam) (nI a) (nI b) :=
  br_f (nI_pos (by omega)) (br_f (nI_ge ha (by omega)) (br_f (nI_pos (by omega)) (br_f (nI_ge hb (by omega)) h)))
theorem yq_in0 {x y : Int32} (hC : C ≤ 4) (hR : R ≤ 2) (hn : ¬ pv_ins C R x y) (h : post 0) : wpY_inside post ((nI C), (nI R), (nI g), (nI (4 * C)), (nI (4 * R)), ycn, ydn, yct, ysrc, yold, ypic, ynxt, ydec, ymd, yvx, yvy, ydm, ydx, ydy, yprd, ydif, ysca, ysp, ysm, ysx, ysy, ysn, ysk, ydam) x y :=
  br_c (fun _ => h) (fun h1 => br_c (fun _ => h) (fun h2 => br_c (fun _ => h) (fun h3 => br_c (fun _ => h) (fun h4 => absurd (pv_ins_of hC hR h1 h2 h3 h4) hn))))
theorem yq_ib1 {a b : Nat} (hC : C ≤ 4) (hR : R ≤ 2) (ha : a < C) (hb : b < R) (h : post 1) : wpY_isBlock post ((nI C), (nI R), (nI g), (nI (4 * C)), (nI (4 * R)), ycn, ydn, yct, ysrc, yold, ypic, ynxt, ydec, ymd, yvx, yvy, ydm, ydx, ydy, yprd, ydif, ysca, ysp, ysm, ysx, ysy, ysn, ysk, ydam) (nI a) (nI b) :=
  br_f (nI_pos (by omega)) (br_f (nI_ge ha (by omega)) (br_f (nI_pos (by omega)) (br_f (nI_ge hb (by omega)) h)))
theorem yq_ib0 {x y : Int32} (hC : C ≤ 4) (hR : R ≤ 2) (hn : ¬ pv_hb C R x y) (h : post 0) : wpY_isBlock post ((nI C), (nI R), (nI g), (nI (4 * C)), (nI (4 * R)), ycn, ydn, yct, ysrc, yold, ypic, ynxt, ydec, ymd, yvx, yvy, ydm, ydx, ydy, yprd, ydif, ysca, ysp, ysm, ysx, ysy, ysn, ysk, ydam) x y :=
  br_c (fun _ => h) (fun h1 => br_c (fun _ => h) (fun h2 => br_c (fun _ => h) (fun h3 => br_c (fun _ => h) (fun h4 => absurd (pv_hb_of hC hR h1 h2 h3 h4) hn))))
theorem yq_at1 {a b : Nat} (hC : C ≤ 4) (hR : R ≤ 2) (ha : a < 4 * C) (hb : b < 4 * R) (h : post (ynxt (16 * b + a))) : wpY_at post ((nI C), (nI R), (nI g), (nI (4 * C)), (nI (4 * R)), ycn, ydn, yct, ysrc, yold, ypic, ynxt, ydec, ymd, yvx, yvy, ydm, ydx, ydy, yprd, ydif, ysca, ysp, ysm, ysx, ysy, ysn, ysk, ydam) (nI a) (nI b) := by
  unfold wpY_at
  refine yq_in1 hC hR ha hb (br_f (by decide) ?_)
  rw [pv_yi, nI_clamp (by omega)]
  exact ⟨vp_in_nI (by omega) (by omega), h⟩
theorem yq_at0 {x y : Int32} (hC : C ≤ 4) (hR : R ≤ 2) (hn : ¬ pv_ins C R x y) (h : post 0) : wpY_at post ((nI C), (nI R), (nI g), (nI (4 * C)), (nI (4 * R)), ycn, ydn, yct, ysrc, yold, ypic, ynxt, ydec, ymd, yvx, yvy, ydm, ydx, ydy, yprd, ydif, ysca, ysp, ysm, ysx, ysy, ysn, ysk, ydam) x y := by
  unfold wpY_at
  exact yq_in0 hC hR hn (br_t rfl h)
theorem pv_nin1 {y : Int32} (hC : C ≤ 4) : ¬ pv_ins C R (-1) y := by
  rintro ⟨a, b, ha, hb, e, -⟩
  exact pv_m1n (by omega) e
theorem pv_nin2 {x : Int32} (hR : R ≤ 2) : ¬ pv_ins C R x (-1) := by
  rintro ⟨a, b, ha, hb, -, e⟩
  exact pv_m1n (by omega) e
theorem yq_top {c r k : Nat} (hC : C ≤ 4) (hR : R ≤ 2) (hc : c < C) (hr : r < R) (hk : k < 4) (h : post (pv_top ynxt c r k)) : wpY_at post ((nI C), (nI R), (nI g), (nI (4 * C)), (nI (4 * R)), ycn, ydn, yct, ysrc, yold, ypic, ynxt, ydec, ymd, yvx, yvy, ydm, ydx, ydy, yprd, ydif, ysca, ysp, ysm, ysx, ysy, ysn, ysk, ydam) (nI (4 * c + k)) (nI (4 * r) - 1) := by
  unfold pv_top at h
  by_cases r0 : 0 < r
  · rw [if_pos r0] at h
    rw [pv_s1 (by omega)]
    refine yq_at1 hC hR (by omega) (by omega) ?_
    have e : 16 * (4 * r - 1) + (4 * c + k) = 64 * r + 4 * c - 16 + k := by omega
    rw [e]
    exact h
  · rw [if_neg r0] at h
    obtain rfl : r = 0 := by omega
    exact yq_at0 hC hR (pv_nin2 hR) h
theorem yq_lef {c r k : Nat} (hC : C ≤ 4) (hR : R ≤ 2) (hc : c < C) (hr : r < R) (hk : k < 4) (h : post (pv_lef ynxt c r k)) : wpY_at post ((nI C), (nI R), (nI g), (nI (4 * C)), (nI (4 * R)), ycn, ydn, yct, ysrc, yold, ypic, ynxt, ydec, ymd, yvx, yvy, ydm, ydx, ydy, yprd, ydif, ysca, ysp, ysm, ysx, ysy, ysn, ysk, ydam) (nI (4 * c) - 1) (nI (4 * r + k)) := by
  unfold pv_lef at h
  by_cases c0 : 0 < c
  · rw [if_pos c0] at h
    rw [pv_s1 (by omega)]
    refine yq_at1 hC hR (by omega) (by omega) ?_
    have e : 16 * (4 * r + k) + (4 * c - 1) = 64 * r + 4 * c - 1 + 16 * k := by omega
    rw [e]
    exact h
  · rw [if_neg c0] at h
    obtain rfl : c = 0 := by omega
    exact yq_at0 hC hR (pv_nin1 hC) h
theorem yq_pr108 {c r : Nat} (hC : C ≤ 4) (hR : R ≤ 2) (hc : c < C) (hr : r < R) (h : post (pv_fl ynxt c r)) : ∃ n : Nat, wY_predict_108 post (nI (4 * c)) (nI (4 * r)) (nI C) (nI R) (nI g) (nI (4 * C)) (nI (4 * R)) ycn ydn yct ysrc yold ypic ynxt ydec ymd yvx yvy ydm ydx ydy yprd ydif ysca ysp ysm ysx ysy ysn ysk ydam n 0 0 := by
  refine loop_0 (fun n i s => wY_predict_108 post (nI (4 * c)) (nI (4 * r)) (nI C) (nI R) (nI g) (nI (4 * C)) (nI (4 * R)) ycn ydn yct ysrc yold ypic ynxt ydec ymd yvx yvy ydm ydx ydy yprd ydif ysca ysp ysm ysx ysy ysn ysk ydam n s (nI i)) (fun i s => s = pv_fs ynxt c r i) 4 0 rfl (fun n s hs => ?_) (fun n i s hi hs ih => ?_)
  · unfold pv_fl at h
    rw [← hs] at h
    refine br_t (nI_le (a := 4) (by omega) (by omega)) ?_
    have pr : (nI (4 * r) ≤ 0 ↔ ¬ 0 < r) := by rw [← nI_0, nI_leI (by omega) (by omega)]; omega
    have pc : (nI (4 * c) ≤ 0 ↔ ¬ 0 < c) := by rw [← nI_0, nI_leI (by omega) (by omega)]; omega
    have qr : (nI (4 * r) = 0 ↔ ¬ 0 < r) := by rw [← nI_0, nI_eq (by omega) (by omega)]; omega
    have qc : (nI (4 * c) = 0 ↔ ¬ 0 < c) := by rw [← nI_0, nI_eq (by omega) (by omega)]; omega
    by_cases c0 : 0 < c
    · refine br_f (fun k => (qc.mp k) c0) (br_f (fun k => (pc.mp k) c0) ?_)
      by_cases r0 : 0 < r
      · rw [if_pos r0, if_pos c0] at h
        exact br_f (fun k => (pr.mp k) r0) h
      · rw [if_neg r0, if_pos c0] at h
        exact br_t (pr.mpr r0) h
    · refine br_t (qc.mpr c0) ?_
      by_cases r0 : 0 < r
      · rw [if_pos r0, if_neg c0] at h
        exact br_f (fun k => (qr.mp k) r0) (br_t (pc.mpr c0) h)
      · rw [if_neg r0, if_neg c0] at h
        exact br_t (qr.mpr r0) h
  · refine br_f (nI_ge (b := 4) hi (by omega)) ?_
    rw [nI_add, nI_add]
    refine yq_top hC hR hc hr hi ?_
    refine yq_lef hC hR hc hr hi ?_
    refine nm_e (nm_r (nI_1 i) (ih _ ?_))
    rw [hs]
    rfl
theorem yq_predict {m c r k : Nat} {dx dy : Int32} (hC : C ≤ 4) (hR : R ≤ 2) (hm : m ≤ 5) (hc : c < C) (hr : r < R) (hk : k < 16) (h : post (pv_py ynxt ypic C R m c r dx dy k)) :
    wpY_predict post ((nI C), (nI R), (nI g), (nI (4 * C)), (nI (4 * R)), ycn, ydn, yct, ysrc, yold, ypic, ynxt, ydec, ymd, yvx, yvy, ydm, ydx, ydy, yprd, ydif, ysca, ysp, ysm, ysx, ysy, ysn, ysk, ydam) (nI m) (nI (4 * c + k % 4)) (nI (4 * r + k / 4)) dx dy := by
  unfold wpY_predict
  have e6 : nI (4 * c + k % 4) / 4 * 4 = nI (4 * c) := by
    rw [pv_div4 (by omega), pv_m4]
    exact congrArg nI (by omega)
  have e7 : nI (4 * r + k / 4) / 4 * 4 = nI (4 * r) := by
    rw [pv_div4 (by omega), pv_m4]
    exact congrArg nI (by omega)
  refine ⟨pv_4z, nm_r e6 ⟨pv_4z, nm_r e7 ?_⟩⟩
  unfold pv_py at h
  by_cases m2 : m = 2
  · rw [if_pos m2] at h
    refine br_t (congrArg nI m2) ?_
    exact yq_top hC hR hc hr (by omega) h
  · rw [if_neg m2] at h
    refine br_f (fun z => m2 ((nI_eq (b := 2) (by omega) (by omega)).mp z)) ?_
    by_cases m3 : m = 3
    · rw [if_pos m3] at h
      refine br_t (congrArg nI m3) ?_
      exact yq_lef hC hR hc hr (by omega) h
    · rw [if_neg m3] at h
      refine br_f (fun z => m3 ((nI_eq (b := 3) (by omega) (by omega)).mp z)) ?_
      have L : (m = 4 ∨ m = 5) → wY_predict_57 post (nI (4 * c + k % 4)) (nI (4 * r + k / 4)) dx dy (nI C) (nI R) (nI g) (nI (4 * C)) (nI (4 * R)) ycn ydn yct ysrc yold ypic ynxt ydec ymd yvx yvy ydm ydx ydy yprd ydif ysca ysp ysm ysx ysy ysn ysk ydam := fun m45 => by
        rw [if_pos m45] at h
        unfold wY_predict_57
        have ex := pv_cnI (x := nI (4 * c + k % 4) + dx) (n := 4 * C) (by omega) (by omega)
        have ey := pv_cnI (x := nI (4 * r + k / 4) + dy) (n := 4 * R) (by omega) (by omega)
        refine yq_limit ?_
        refine yq_limit ?_
        rw [ex.1, ey.1, pv_yi, nI_clamp (by omega)]
        exact ⟨vp_in_nI (by omega) (by omega), h⟩
      by_cases m4 : m = 4
      · exact br_t (congrArg nI m4) (L (Or.inl m4))
      · refine br_f (fun z => m4 ((nI_eq (b := 4) (by omega) (by omega)).mp z)) ?_
        by_cases m5 : m = 5
        · exact br_t (congrArg nI m5) (L (Or.inr m5))
        · rw [if_neg (fun z => z.elim m4 m5)] at h
          exact br_f (fun z => m5 ((nI_eq (b := 5) (by omega) (by omega)).mp z)) (yq_pr108 hC hR hc hr h)
theorem yq_measure {m c r : Nat} {dx dy gr : Int32} (hC : C ≤ 4) (hR : R ≤ 2) (hm : m ≤ 5) (hc : c < C) (hr : r < R) (h : post (if gr = 0 then pv_sd ysrc (pv_py ynxt ypic C R m c r dx dy) c r 16 else pv_ws ysrc (pv_py ynxt ypic C R m c r dx dy) c r 16)) :
    wpY_measure post ((nI C), (nI R), (nI g), (nI (4 * C)), (nI (4 * R)), ycn, ydn, yct, ysrc, yold, ypic, ynxt, ydec, ymd, yvx, yvy, ydm, ydx, ydy, yprd, ydif, ysca, ysp, ysm, ysx, ysy, ysn, ysk, ydam) (nI m) (nI c) (nI r) dx dy gr := by
  unfold wpY_measure
  refine loop_0 (fun n i (s : Int32 × Int32) => wY_measure_9 post (nI m) (nI c) (nI r) dx dy gr (nI C) (nI R) (nI g) (nI (4 * C)) (nI (4 * R)) ycn ydn yct ysrc yold ypic ynxt ydec ymd yvx yvy ydm ydx ydy yprd ydif ysca ysp ysm ysx ysy ysn ysk ydam n s.1 s.2 (nI i)) (fun i s => s.1 = pv_sd ysrc (pv_py ynxt ypic C R m c r dx dy) c r i ∧ s.2 = pv_ws ysrc (pv_py ynxt ypic C R m c r dx dy) c r i) 16 (0, 0) ⟨rfl, rfl⟩ (fun n s hs => ?_) (fun n i s hi hs ih => ?_)
  · rw [← hs.1, ← hs.2] at h
    refine br_t (nI_le (a := 16) (by omega) (by omega)) (br_c (fun e => ?_) (fun e => ?_))
    · rw [if_pos e] at h; exact h
    · rw [if_neg e] at h; exact h
  · refine br_f (nI_ge (b := 16) hi (by omega)) ⟨pv_4z, nm_r (e' := nI (4 * c + i % 4)) (by rw [pv_rem4 (by omega), pv_4m, nI_add]) ⟨pv_4z, nm_r (e' := nI (4 * r + i / 4)) (by rw [pv_div4 (by omega), pv_4m, nI_add]) ?_⟩⟩
    refine yq_predict hC hR hm hc hr hi ?_
    have ea : 16 * (4 * r + i / 4) + (4 * c + i % 4) = pv_at c r i := by
      unfold pv_at
      omega
    have hl := pv_at_lt (c := c) (r := r) (i := i) (by omega) (by omega) hi
    rw [pv_yi, ea, nI_clamp (by omega)]
    refine ⟨vp_in_nI (by omega) (by omega), ?_⟩
    refine yq_abs (nm_e ?_)
    refine br_c (fun e => nm_r (nI_1 i) (ih (_, _) ⟨?_, ?_⟩)) (fun e => nm_r (nI_1 i) (ih (_, _) ⟨?_, ?_⟩))
    · exact congrArg (fun z => z + pv_ab (ysrc (pv_at c r i) - pv_py ynxt ypic C R m c r dx dy i)) hs.1
    · rw [hs.2] at e ⊢
      exact (if_pos e).symm
    · exact congrArg (fun z => z + pv_ab (ysrc (pv_at c r i) - pv_py ynxt ypic C R m c r dx dy i)) hs.1
    · rw [hs.2] at e
      exact (if_neg e).symm
/-! the guess -/
theorem yq_vec1 {a b : Nat} {dn : Int32} (hC : C ≤ 4) (hR : R ≤ 2) (ha : a < C) (hb : b < R) (h : post (if dn = 0 then yvx (4 * b + a) else yvy (4 * b + a))) : wpY_vector post ((nI C), (nI R), (nI g), (nI (4 * C)), (nI (4 * R)), ycn, ydn, yct, ysrc, yold, ypic, ynxt, ydec, ymd, yvx, yvy, ydm, ydx, ydy, yprd, ydif, ysca, ysp, ysm, ysx, ysy, ysn, ysk, ydam) (nI a) (nI b) dn := by
  unfold wpY_vector
  refine yq_ib1 hC hR ha hb (br_f (by decide) ?_)
  rw [pv_yb, nI_clamp (by omega)]
  refine br_c (fun e => ⟨vp_in_nI (by omega) (by omega), ?_⟩) (fun e => ⟨vp_in_nI (by omega) (by omega), ?_⟩)
  · rw [if_pos e] at h; exact h
  · rw [if_neg e] at h; exact h
theorem yq_vec0 {x y dn : Int32} (hC : C ≤ 4) (hR : R ≤ 2) (hn : ¬ pv_hb C R x y) (h : post 0) : wpY_vector post ((nI C), (nI R), (nI g), (nI (4 * C)), (nI (4 * R)), ycn, ydn, yct, ysrc, yold, ypic, ynxt, ydec, ymd, yvx, yvy, ydm, ydx, ydy, yprd, ydif, ysca, ysp, ysm, ysx, ysy, ysn, ysk, ydam) x y dn := by
  unfold wpY_vector
  exact yq_ib0 hC hR hn (br_t rfl h)
theorem pv_ite {b : Prop} [Decidable b] {X Y : Nat → Int32} {k : Nat} : (if b then X k else Y k) = (if b then X else Y) k := by
  split <;> rfl
theorem yq_vleft {c r : Nat} {dn : Int32} (hC : C ≤ 4) (hR : R ≤ 2) (hc : c < C) (hr : r < R) (h : post (pv_lf (if dn = 0 then yvx else yvy) c r)) : wpY_vector post ((nI C), (nI R), (nI g), (nI (4 * C)), (nI (4 * R)), ycn, ydn, yct, ysrc, yold, ypic, ynxt, ydec, ymd, yvx, yvy, ydm, ydx, ydy, yprd, ydif, ysca, ysp, ysm, ysx, ysy, ysn, ysk, ydam) (nI c - 1) (nI r) dn := by
  unfold pv_lf at h
  by_cases c0 : 0 < c
  · rw [if_pos c0] at h
    rw [pv_s1 c0]
    refine yq_vec1 hC hR (by omega) hr ?_
    rw [pv_ite]
    exact h
  · rw [if_neg c0] at h
    obtain rfl : c = 0 := by omega
    exact yq_vec0 hC hR (pv_nhb1 hC) h
theorem yq_vup {c r : Nat} {dn : Int32} (hC : C ≤ 4) (hR : R ≤ 2) (hc : c < C) (hr : r < R) (h : post (pv_up (if dn = 0 then yvx else yvy) c r)) : wpY_vector post ((nI C), (nI R), (nI g), (nI (4 * C)), (nI (4 * R)), ycn, ydn, yct, ysrc, yold, ypic, ynxt, ydec, ymd, yvx, yvy, ydm, ydx, ydy, yprd, ydif, ysca, ysp, ysm, ysx, ysy, ysn, ysk, ydam) (nI c) (nI r - 1) dn := by
  unfold pv_up at h
  by_cases r0 : 0 < r
  · rw [if_pos r0] at h
    rw [pv_s1 r0]
    refine yq_vec1 hC hR hc (by omega) ?_
    rw [pv_ite]
    exact h
  · rw [if_neg r0] at h
    obtain rfl : r = 0 := by omega
    exact yq_vec0 hC hR (pv_nhb2 hR) h
theorem pv_ymed (a b c : Int32) : pv_m3 a b c = if ¬ a < b ∧ a ≤ c then a else if ¬ a < c ∧ ¬ b < a then a else if ¬ b < a ∧ b ≤ c then b else if ¬ b < c ∧ ¬ a < b then b else c := by
  unfold pv_m3 pv_cl
  simp only [Int32.lt_iff_toInt_lt, Int32.le_iff_toInt_le]
  apply Int32.toInt_inj.mp
  repeat' split
  all_goals omega
theorem yq_g108 {a b c : Int32} (h : post (if ¬ b < c ∧ ¬ a < b then b else c)) : wY_guess_108 post a b c (nI C) (nI R) (nI g) (nI (4 * C)) (nI (4 * R)) ycn ydn yct ysrc yold ypic ynxt ydec ymd yvx yvy ydm ydx ydy yprd ydif ysca ysp ysm ysx ysy ysn ysk ydam := by
  unfold wY_guess_108
  refine br_c (fun e => ?_) (fun e => br_c (fun e2 => ?_) (fun e2 => ?_))
  · rw [if_neg (fun z => z.1 e)] at h; exact h
  · rw [if_neg (fun z => z.2 e2)] at h; exact h
  · rw [if_pos ⟨e, e2⟩] at h; exact h
theorem yq_g94 {a b c : Int32} (h : post (if ¬ b < a ∧ b ≤ c then b else if ¬ b < c ∧ ¬ a < b then b else c)) : wY_guess_94 post a b c (nI C) (nI R) (nI g) (nI (4 * C)) (nI (4 * R)) ycn ydn yct ysrc yold ypic ynxt ydec ymd yvx yvy ydm ydx ydy yprd ydif ysca ysp ysm ysx ysy ysn ysk ydam := by
  unfold wY_guess_94
  refine br_c (fun e => ?_) (fun e => br_c (fun e2 => ?_) (fun e2 => ?_))
  · rw [if_neg (fun z => z.1 e)] at h; exact yq_g108 h
  · rw [if_pos ⟨e, e2⟩] at h; exact h
  · rw [if_neg (fun z => e2 z.2)] at h; exact yq_g108 h
theorem yq_g77 {a b c : Int32} (h : post (if ¬ a < c ∧ ¬ b < a then a else if ¬ b < a ∧ b ≤ c then b else if ¬ b < c ∧ ¬ a < b then b else c)) : wY_guess_77 post a b c (nI C) (nI R) (nI g) (nI (4 * C)) (nI (4 * R)) ycn ydn yct ysrc yold ypic ynxt ydec ymd yvx yvy ydm ydx ydy yprd ydif ysca ysp ysm ysx ysy ysn ysk ydam := by
  unfold wY_guess_77
  refine br_c (fun e => ?_) (fun e => br_c (fun e2 => ?_) (fun e2 => ?_))
  · rw [if_neg (fun z => z.1 e)] at h; exact yq_g94 h
  · rw [if_neg (fun z => z.2 e2)] at h; exact yq_g94 h
  · rw [if_pos ⟨e, e2⟩] at h; exact h
theorem yq_g57 {r : Nat} {a b c : Int32} (hr : r < 2) (h : post (if r = 0 then a else pv_m3 a b c)) : wY_guess_57 post (nI r) a b c (nI C) (nI R) (nI g) (nI (4 * C)) (nI (4 * R)) ycn ydn yct ysrc yold ypic ynxt ydec ymd yvx yvy ydm ydx ydy yprd ydif ysca ysp ysm ysx ysy ysn ysk ydam := by
  unfold wY_guess_57
  refine br_c (fun e => ?_) (fun e => ?_)
  · rw [if_pos ((nI_eq (b := 0) (by omega) (by omega)).mp e)] at h; exact h
  · rw [if_neg (fun k => e (congrArg nI k)), pv_ymed] at h
    refine br_c (fun e => ?_) (fun e => br_c (fun e2 => ?_) (fun e2 => ?_))
    · rw [if_neg (fun z => z.1 e)] at h; exact yq_g77 h
    · rw [if_pos ⟨e, e2⟩] at h; exact h
    · rw [if_neg (fun z => e2 z.2)] at h; exact yq_g77 h
theorem yq_guess {c r : Nat} {dn : Int32} (hC : C ≤ 4) (hR : R ≤ 2) (hc : c < C) (hr : r < R) (h : post (pv_gs (if dn = 0 then yvx else yvy) C c r)) : wpY_guess post ((nI C), (nI R), (nI g), (nI (4 * C)), (nI (4 * R)), ycn, ydn, yct, ysrc, yold, ypic, ynxt, ydec, ymd, yvx, yvy, ydm, ydx, ydy, yprd, ydif, ysca, ysp, ysm, ysx, ysy, ysn, ysk, ydam) (nI c) (nI r) dn := by
  unfold wpY_guess
  unfold pv_gs pv_th at h
  refine yq_vleft hC hR hc hr ?_
  refine yq_vup hC hR hc hr ?_
  refine br_c (fun e => ?_) (fun e => ?_)
  · rw [nI_1, nI_leI (by omega) (by omega)] at e
    rw [if_neg (show ¬ c + 1 < C by omega)] at h
    by_cases c0 : 0 < c
    · rw [if_pos c0] at h
      rw [pv_s1 c0]
      exact yq_vup hC hR (by omega) hr (yq_g57 (by omega) h)
    · rw [if_neg c0] at h
      obtain rfl : c = 0 := by omega
      exact yq_vec0 hC hR (pv_nhb1 hC) (yq_g57 (by omega) h)
  · rw [nI_1, nI_leI (by omega) (by omega)] at e
    rw [if_pos (show c + 1 < C by omega)] at h
    rw [nI_1]
    exact yq_vup hC hR (by omega) hr (yq_g57 (by omega) h)
end
end
section
/-! Y: the choice -/
section
variable {C R g : Nat} {ycn ydn yct : Int32} {ysrc yold ypic ynxt ydec ymd yvx yvy ydm ydx ydy yprd ydif ysca ysp ysm ysx ysy ysn ysk ydam : Nat → Int32} {post : SY → Prop} {J : Int32 → Int32 → (Nat → Int32) → (Nat → Int32) → (Nat → Int32) → (Nat → Int32) → (Nat → Int32) → (Nat → Int32) → (Nat → Int32) → (Nat → Int32) → (Nat → Int32) → (Nat → Int32) → (Nat → Int32) → (Nat → Int32) → (Nat → Int32) → (Nat → Int32) → (Nat → Int32) → (Nat → Int32) → (Nat → Int32) → (Nat → Int32) → (Nat → Int32) → (Nat → Int32) → (Nat → Int32) → Prop}
theorem yq_280 {x1 x3 x4 m dx dy th z0 z1 : Int32} {b k : Nat} {st : Int32 × Int32 × Int32 × Int32} (hb : b < 8)
    (h : ∀ st', st' = (if th = 0 then st else if st.1 ≤ z1 + z0 then st else (z1 + z0, m, dx, dy)) → J st'.1 (nI (k + 1)) ysrc yold ypic ynxt ydec (upd ymd b st'.2.1) (upd yvx b st'.2.2.1) (upd yvy b st'.2.2.2) ydm ydx ydy yprd ydif ysca ysp ysm ysx ysy ysn ysk ydam) :
    wY_choose_280 post J x1 x3 x4 (nI b) st.1 (nI k) m dx dy th z0 z1 (nI C) (nI R) (nI g) (nI (4 * C)) (nI (4 * R)) ycn ydn yct ysrc yold ypic ynxt ydec (upd ymd b st.2.1) (upd yvx b st.2.2.1) (upd yvy b st.2.2.2) ydm ydx ydy yprd ydif ysca ysp ysm ysx ysy ysn ysk ydam := by
  unfold wY_choose_280
  have hi : vp_in (nI b) 8 := vp_in_nI hb (by omega)
  refine nm_e ?_
  refine br_c (fun e => nm_r (nI_1 k) (h st (if_pos e).symm)) (fun e => ?_)
  refine br_c (fun e2 => nm_r (nI_1 k) (h st ?_)) (fun e2 => ?_)
  · rw [if_neg e, if_pos e2]
  · rw [nI_clamp (by omega), pv_uu, pv_uu, pv_uu]
    refine ⟨hi, nm_e ⟨hi, nm_e ⟨hi, nm_e (nm_r (nI_1 k) (h (z1 + z0, m, dx, dy) ?_))⟩⟩⟩
    rw [if_neg e, if_neg e2]
theorem yq_248 {x1 mo dx dy sx sy th : Int32} {m c r b k : Nat} {st : Int32 × Int32 × Int32 × Int32} (hC : C ≤ 4) (hR : R ≤ 2) (hm : m ≤ 5) (hc : c < C) (hr : r < R) (hb : b < 8)
    (h : ∀ st', st' = (if th = 0 then st else pv_ym (pv_sd ysrc (pv_py ynxt ypic C R m c r dx dy) c r 16) (if mo = 0 then 7 else sx + sy) m (dx, dy) st) → J st'.1 (nI (k + 1)) ysrc yold ypic ynxt ydec (upd ymd b st'.2.1) (upd yvx b st'.2.2.1) (upd yvy b st'.2.2.2) ydm ydx ydy yprd ydif ysca ysp ysm ysx ysy ysn ysk ydam) :
    wY_choose_248 post J x1 (nI c) (nI r) (nI b) st.1 (nI k) mo (nI m) dx dy sx sy th (nI C) (nI R) (nI g) (nI (4 * C)) (nI (4 * R)) ycn ydn yct ysrc yold ypic ynxt ydec (upd ymd b st.2.1) (upd yvx b st.2.2.1) (upd yvy b st.2.2.2) ydm ydx ydy yprd ydif ysca ysp ysm ysx ysy ysn ysk ydam := by
  unfold wY_choose_248
  refine yq_measure hC hR hm hc hr ?_
  rw [if_pos rfl]
  unfold pv_ym at h
  refine br_c (fun e => yq_280 hb ?_) (fun e => yq_280 hb ?_)
  · rw [if_pos e] at h; exact h
  · rw [if_neg e] at h; exact h
theorem yq_mot {kind c r b k : Nat} {st : Int32 × Int32 × Int32 × Int32} {T : Nat → Int32 → Int32 → Int32} (hC : C ≤ 4) (hR : R ≤ 2) (hk2 : kind < 2) (hk : k < 49) (hc : c < C) (hr : r < R) (hb : b < 8)
    (hT : ∀ m dx dy, m ≤ 5 → (m = 2 → 0 < r) → (m = 3 → 0 < c) → T m dx dy = pv_sd ysrc (pv_py ynxt ypic C R m c r dx dy) c r 16)
    (h : ∀ st', st' = pv_yk T kind g c r k st → J st'.1 (nI (k + 1)) ysrc yold ypic ynxt ydec (upd ymd b st'.2.1) (upd yvx b st'.2.2.1) (upd yvy b st'.2.2.2) ydm ydx ydy yprd ydif ysca ysp ysm ysx ysy ysn ysk ydam) :
    wY_choose_109 post J (nI kind) (nI c) (nI r) (nI b) st.1 (nI k) 1 (nI C) (nI R) (nI g) (nI (4 * C)) (nI (4 * R)) ycn ydn yct ysrc yold ypic ynxt ydec (upd ymd b st.2.1) (upd yvx b st.2.2.1) (upd yvy b st.2.2.2) ydm ydx ydy yprd ydif ysca ysp ysm ysx ysy ysn ysk ydam := by
  unfold wY_choose_109
  refine br_f (by decide) ?_
  unfold wY_choose_125
  refine br_f (by decide) ⟨pv_7z, ?_⟩
  rw [pv_rem7 (by omega)]
  unfold wY_choose_143
  refine br_f (by decide) ⟨pv_7z, ?_⟩
  rw [pv_div7 (by omega)]
  have ed : pv_yd k = (nI (k % 7) - 3, nI (k / 7) - 3) := if_pos hk
  unfold pv_yk at h
  rw [if_pos hk, ed] at h
  unfold pv_inr at h
  rw [ed] at h
  unfold wY_choose_161
  refine yq_abs ?_
  refine yq_abs ?_
  refine br_f (by decide) (br_f (by decide) ?_)
  unfold wY_choose_196
  refine br_f (by decide) ?_
  unfold wY_choose_210 wY_choose_211
  refine br_f (by decide) ?_
  have nt : ¬ (kind = 1 ∧ (decide (pv_ab (nI (k % 7) - 3) ≤ nI g) && decide (pv_ab (nI (k / 7) - 3) ≤ nI g)) = true) → wY_choose_245 post J (nI kind) (nI c) (nI r) (nI b) st.1 (nI k) 1 4 (nI (k % 7) - 3) (nI (k / 7) - 3) (pv_ab (nI (k % 7) - 3)) (pv_ab (nI (k / 7) - 3)) (nI C) (nI R) (nI g) (nI (4 * C)) (nI (4 * R)) ycn ydn yct ysrc yold ypic ynxt ydec (upd ymd b st.2.1) (upd yvx b st.2.2.1) (upd yvy b st.2.2.2) ydm ydx ydy yprd ydif ysca ysp ysm ysx ysy ysn ysk ydam := fun hn => by
    unfold wY_choose_245 wY_choose_246
    refine yq_248 (m := 4) hC hR (by omega) hc hr hb (fun st' e => h st' ?_)
    rw [if_pos rfl] at e
    rw [if_neg hn]
    exact e
  by_cases kd : kind = 1
  · refine br_t (congrArg nI kd) ?_
    by_cases c1 : pv_ab (nI (k % 7) - 3) ≤ nI g
    · refine br_f (Int32.not_lt.mpr c1) ?_
      by_cases c2 : pv_ab (nI (k / 7) - 3) ≤ nI g
      · refine br_f (Int32.not_lt.mpr c2) ?_
        unfold wY_choose_246
        refine yq_248 (m := 4) hC hR (by omega) hc hr hb (fun st' e => h st' ?_)
        rw [if_neg (by decide), if_neg (by decide)] at e
        rw [if_pos ⟨kd, by rw [decide_eq_true c1, decide_eq_true c2]; rfl⟩]
        unfold pv_y4
        rw [hT 4 _ _ (by omega) (by omega) (by omega)]
        exact e
      · exact br_t (Int32.not_le.mp c2) (nt (fun z => by rw [decide_eq_false c2, Bool.and_false] at z; exact absurd z.2 (by decide)))
    · exact br_t (Int32.not_le.mp c1) (nt (fun z => by rw [decide_eq_false c1, Bool.false_and] at z; exact absurd z.2 (by decide)))
  · exact br_f (fun z => kd ((nI_eq (b := 1) (by omega) (by omega)).mp z)) (nt (fun z => kd z.1))
theorem yq_intra {kind c r b k : Nat} {st : Int32 × Int32 × Int32 × Int32} {T : Nat → Int32 → Int32 → Int32} (hC : C ≤ 4) (hR : R ≤ 2) (hk2 : kind < 2) (hk : 49 ≤ k) (hk3 : k < 52) (hc : c < C) (hr : r < R) (hb : b < 8)
    (hT : ∀ m dx dy, m ≤ 5 → (m = 2 → 0 < r) → (m = 3 → 0 < c) → T m dx dy = pv_sd ysrc (pv_py ynxt ypic C R m c r dx dy) c r 16)
    (h : ∀ st', st' = pv_yk T kind g c r k st → J st'.1 (nI (k + 1)) ysrc yold ypic ynxt ydec (upd ymd b st'.2.1) (upd yvx b st'.2.2.1) (upd yvy b st'.2.2.2) ydm ydx ydy yprd ydif ysca ysp ysm ysx ysy ysn ysk ydam) :
    wY_choose_109 post J (nI kind) (nI c) (nI r) (nI b) st.1 (nI k) 0 (nI C) (nI R) (nI g) (nI (4 * C)) (nI (4 * R)) ycn ydn yct ysrc yold ypic ynxt ydec (upd ymd b st.2.1) (upd yvx b st.2.2.1) (upd yvy b st.2.2.2) ydm ydx ydy yprd ydif ysca ysp ysm ysx ysy ysn ysk ydam := by
  unfold wY_choose_109
  refine br_t rfl ?_
  have e48 : nI k - nI 48 = nI (k - 48) := pk_sub (show 48 ≤ k by omega)
  have e48 : nI k - 48 = nI (k - 48) := e48
  rw [e48]
  unfold wY_choose_125
  refine br_t rfl ?_
  unfold wY_choose_143
  refine br_t rfl ?_
  unfold pv_yk at h
  rw [if_neg (show ¬ k < 49 by omega)] at h
  unfold wY_choose_161
  refine yq_abs ?_
  refine yq_abs ?_
  have yes : ∀ m : Nat, 1 ≤ m → m ≤ 3 → (m = 2 → 0 < r) → (m = 3 → 0 < c) → (∀ st', st' = pv_y1 T m st → J st'.1 (nI (k + 1)) ysrc yold ypic ynxt ydec (upd ymd b st'.2.1) (upd yvx b st'.2.2.1) (upd yvy b st'.2.2.2) ydm ydx ydy yprd ydif ysca ysp ysm ysx ysy ysn ysk ydam) → wY_choose_206 post J (nI kind) (nI c) (nI r) (nI b) st.1 (nI k) 0 (nI m) 0 0 (pv_ab 0) (pv_ab 0) (nI C) (nI R) (nI g) (nI (4 * C)) (nI (4 * R)) ycn ydn yct ysrc yold ypic ynxt ydec (upd ymd b st.2.1) (upd yvx b st.2.2.1) (upd yvy b st.2.2.2) ydm ydx ydy yprd ydif ysca ysp ysm ysx ysy ysn ysk ydam := fun m a1 a2 a3 a4 hh => by
    unfold wY_choose_206 wY_choose_211
    refine br_t rfl (yq_248 (m := m) hC hR (by omega) hc hr hb (fun st' e => hh st' ?_))
    rw [if_neg (by decide), if_pos rfl] at e
    unfold pv_y1
    rw [hT m 0 0 (by omega) a3 a4]
    exact e
  have no : ∀ m : Nat, m ≤ 3 → (∀ st', st' = st → J st'.1 (nI (k + 1)) ysrc yold ypic ynxt ydec (upd ymd b st'.2.1) (upd yvx b st'.2.2.1) (upd yvy b st'.2.2.2) ydm ydx ydy yprd ydif ysca ysp ysm ysx ysy ysn ysk ydam) → wY_choose_210 post J (nI kind) (nI c) (nI r) (nI b) st.1 (nI k) 0 (nI m) 0 0 (pv_ab 0) (pv_ab 0) (nI C) (nI R) (nI g) (nI (4 * C)) (nI (4 * R)) ycn ydn yct ysrc yold ypic ynxt ydec (upd ymd b st.2.1) (upd yvx b st.2.2.1) (upd yvy b st.2.2.2) ydm ydx ydy yprd ydif ysca ysp ysm ysx ysy ysn ysk ydam := fun m a2 hh => by
    unfold wY_choose_210 wY_choose_211
    refine br_t rfl (yq_248 (m := m) hC hR (by omega) hc hr hb (fun st' e => hh st' ?_))
    rw [if_pos rfl] at e
    exact e
  have pr : (0 < nI r ↔ 0 < r) := by rw [← nI_0, nI_ltI (by omega) (by omega)]
  have pc : (nI c ≤ 0 ↔ ¬ 0 < c) := by rw [← nI_0, nI_leI (by omega) (by omega)]; omega
  by_cases k49 : k = 49
  · rw [if_pos k49] at h
    rw [show k - 48 = 1 by omega]
    exact br_t rfl (yes 1 (by omega) (by omega) (by omega) (by omega) h)
  · rw [if_neg k49] at h
    by_cases k50 : k = 50
    · rw [if_pos k50] at h
      rw [show k - 48 = 2 by omega]
      refine br_f (by decide) (br_t rfl ?_)
      by_cases r0 : 0 < r
      · rw [if_pos r0] at h
        exact br_t (pr.mpr r0) (yes 2 (by omega) (by omega) (fun _ => r0) (by omega) h)
      · rw [if_neg r0] at h
        refine br_f (fun z => r0 (pr.mp z)) ?_
        unfold wY_choose_196
        exact br_f (by decide) (no 2 (by omega) h)
    · rw [if_neg k50] at h
      rw [show k - 48 = 3 by omega]
      refine br_f (by decide) (br_f (by decide) ?_)
      unfold wY_choose_196
      refine br_t rfl ?_
      by_cases c0 : 0 < c
      · rw [if_pos c0] at h
        exact br_f (fun z => (pc.mp z) c0) (yes 3 (by omega) (by omega) (by omega) (fun _ => c0) h)
      · rw [if_neg c0] at h
        exact br_t (pc.mpr c0) (no 3 (by omega) h)
theorem yq_ch90 {kind c r b : Nat} {T : Nat → Int32 → Int32 → Int32} (hC : C ≤ 4) (hR : R ≤ 2) (hk2 : kind < 2) (hc : c < C) (hr : r < R) (hb : b < 8)
    (hT : ∀ m dx dy, m ≤ 5 → (m = 2 → 0 < r) → (m = 3 → 0 < c) → T m dx dy = pv_sd ysrc (pv_py ynxt ypic C R m c r dx dy) c r 16)
    (h : ∀ st, st = pv_yf T kind g c r (1000000, ymd b, yvx b, yvy b) 52 → post ((nI C), (nI R), (nI g), (nI (4 * C)), (nI (4 * R)), ycn, ydn, yct, ysrc, yold, ypic, ynxt, ydec, upd ymd b st.2.1, upd yvx b st.2.2.1, upd yvy b st.2.2.2, ydm, ydx, ydy, yprd, ydif, ysca, ysp, ysm, ysx, ysy, ysn, ysk, ydam)) :
    ∃ n : Nat, wY_choose_90 post (nI kind) (nI c) (nI r) (nI b) (nI C) (nI R) (nI g) (nI (4 * C)) (nI (4 * R)) ycn ydn yct n 1000000 0 ysrc yold ypic ynxt ydec ymd yvx yvy ydm ydx ydy yprd ydif ysca ysp ysm ysx ysy ysn ysk ydam := by
  have L : ∃ n : Nat, wY_choose_90 post (nI kind) (nI c) (nI r) (nI b) (nI C) (nI R) (nI g) (nI (4 * C)) (nI (4 * R)) ycn ydn yct n 1000000 0 ysrc yold ypic ynxt ydec (upd ymd b (ymd b)) (upd yvx b (yvx b)) (upd yvy b (yvy b)) ydm ydx ydy yprd ydif ysca ysp ysm ysx ysy ysn ysk ydam := by
    refine loop_0 (fun n k (st : Int32 × Int32 × Int32 × Int32) => wY_choose_90 post (nI kind) (nI c) (nI r) (nI b) (nI C) (nI R) (nI g) (nI (4 * C)) (nI (4 * R)) ycn ydn yct n st.1 (nI k) ysrc yold ypic ynxt ydec (upd ymd b st.2.1) (upd yvx b st.2.2.1) (upd yvy b st.2.2.2) ydm ydx ydy yprd ydif ysca ysp ysm ysx ysy ysn ysk ydam) (fun k st => st = pv_yf T kind g c r (1000000, ymd b, yvx b, yvy b) k) 52 (1000000, ymd b, yvx b, yvy b) rfl (fun n st hs => ?_) (fun n k st hk hs ih => ?_)
    · exact br_t (nI_le (a := 52) (by omega) (by omega)) (h st hs)
    · refine br_f (nI_ge (b := 52) hk (by omega)) ?_
      by_cases k49 : 49 ≤ k
      · refine br_t (nI_le (a := 49) k49 (by omega)) (yq_intra hC hR hk2 k49 hk hc hr hb hT (fun st' e => ih st' ?_))
        rw [e, hs]
        rfl
      · refine br_f (nI_ge (b := 49) (by omega) (by omega)) (yq_mot hC hR hk2 (by omega) hc hr hb hT (fun st' e => ih st' ?_))
        rw [e, hs]
        rfl
  rw [pv_us, pv_us, pv_us] at L
  exact L
theorem yq_choose {kind q c r b : Nat} {T : Nat → Int32 → Int32 → Int32} {W : Int32} (hC : C ≤ 4) (hR : R ≤ 2) (hk2 : kind < 2) (hq : q ≤ 40) (hc : c < C) (hr : r < R) (hb : b = 4 * r + c)
    (hT : ∀ m dx dy, m ≤ 5 → (m = 2 → 0 < r) → (m = 3 → 0 < c) → T m dx dy = pv_sd ysrc (pv_py ynxt ypic C R m c r dx dy) c r 16)
    (hW : W = pv_ws ysrc (pv_py ynxt ypic C R 4 c r (pv_gs yvx C c r) (pv_gs yvy C c r)) c r 16)
    (h : ∀ s : Int32 × Int32 × Int32, s = pv_yc T W kind q g c r (pv_gs yvx C c r) (pv_gs yvy C c r) (ymd b) (yvx b) (yvy b) → post ((nI C), (nI R), (nI g), (nI (4 * C)), (nI (4 * R)), ycn, ydn, yct, ysrc, yold, ypic, ynxt, ydec, upd ymd b s.1, upd yvx b s.2.1, upd yvy b s.2.2, ydm, ydx, ydy, yprd, ydif, ysca, ysp, ysm, ysx, ysy, ysn, ysk, ydam)) :
    wpY_choose post ((nI C), (nI R), (nI g), (nI (4 * C)), (nI (4 * R)), ycn, ydn, yct, ysrc, yold, ypic, ynxt, ydec, ymd, yvx, yvy, ydm, ydx, ydy, yprd, ydif, ysca, ysp, ysm, ysx, ysy, ysn, ysk, ydam) (nI kind) (nI q) (nI c) (nI r) := by
  unfold wpY_choose
  refine nm_r (e' := nI b) (by rw [pv_yb, hb]) ?_
  refine yq_guess hC hR hc hr ?_
  rw [if_pos rfl]
  refine yq_guess hC hR hc hr ?_
  rw [if_neg (by decide)]
  refine yq_measure (m := 4) hC hR (by omega) hc hr ?_
  rw [if_neg (by decide), ← hW]
  have e3 : nI q >>> ((2 : Int32) &&& 31) = nI (q / 4) := pv_shr2 (by omega)
  rw [e3]
  unfold pv_yc at h
  have hi : vp_in (nI b) 8 := vp_in_nI (by omega) (by omega)
  by_cases kd : kind = 1
  · refine br_t (congrArg nI kd) ?_
    by_cases c1 : nI (q / 4) < W
    · rw [if_neg (fun z => z.2 c1)] at h
      exact br_t c1 (yq_ch90 hC hR hk2 hc hr (by omega) hT (fun st e => h st.2 (by rw [e])))
    · rw [if_pos ⟨kd, c1⟩] at h
      refine br_f c1 ?_
      rw [nI_clamp (by omega)]
      exact ⟨hi, nm_e ⟨hi, nm_e ⟨hi, nm_e (h (5, _, _) rfl)⟩⟩⟩
  · rw [if_neg (fun z => kd z.1)] at h
    exact br_f (fun z => kd ((nI_eq (b := 1) (by omega) (by omega)).mp z)) (yq_ch90 hC hR hk2 hc hr (by omega) hT (fun st e => h st.2 (by rw [e])))
end
end
section
/-! Y: transform, rebuild -/
def pv_yv (q m c r : Nat) (S pr : Nat → Int32) (i : Nat) : Int32 :=
  if m = 5 then pr i else if q = 0 then S (pv_at c r i) else pv_cl (pr i + ((pv_ir (pv_ic (fun j => pv_ms q (fun k => S (pv_at c r k) - pr k) j * nI q)) i + 2) >>> ((2 : Int32) &&& 31))) 0 255
theorem pv_iv0 (k : Nat) : pv_iv 0 0 0 0 k = 0 := by
  unfold pv_iv
  split <;> decide
theorem pv_yv_rc {q m c r : Nat} {S pr rs : Nat → Int32} (hS : ∀ i, i < 16 → pv_by (S (pv_at c r i))) (hp : ∀ i, i < 16 → pv_by (pr i)) (hr : ∀ i, i < 16 → rs i = if m = 5 then 0 else pv_ms q (fun j => S (pv_at c r j) - pr j) i) {i : Nat} (hi : i < 16) : pv_rc q pr rs i = pv_yv q m c r S pr i := by
  rw [pv_rc_congr (pr' := pr) (fun _ _ => rfl) hr hi]
  unfold pv_rc pv_rs pv_yv
  by_cases m5 : m = 5
  · simp only [if_pos m5]
    have e : pr i + (if q = 0 then (0 : Int32) else (pv_ir (pv_ic fun j => 0 * nI q) i + 2) >>> ((2 : Int32) &&& 31)) = pr i := by
      by_cases q0 : q = 0
      · rw [if_pos q0, Int32.add_zero]
      · rw [if_neg q0]
        have z1 : (fun j : Nat => (0 : Int32) * nI q) = fun _ => 0 := by
          funext j
          exact Int32.zero_mul
        have z2 : pv_ic (fun _ => 0) = fun _ => 0 := by
          funext j
          exact pv_iv0 _
        have z3 : pv_ir (fun _ => 0) i = 0 := pv_iv0 _
        rw [z1, z2, z3]
        have z4 : ((0 : Int32) + 2) >>> ((2 : Int32) &&& 31) = 0 := by decide
        rw [z4, Int32.add_zero]
    rw [e]
    exact pv_cl_id (hp i hi)
  · simp only [if_neg m5]
    by_cases q0 : q = 0
    · simp only [if_pos q0]
      have e : pv_ms q (fun j => S (pv_at c r j) - pr j) i = S (pv_at c r i) - pr i := if_pos q0
      rw [e, pv_pxx]
      exact pv_cl_id (hS i hi)
    · simp only [if_neg q0]
section
variable {C R g : Nat} {ycn ydn yct : Int32} {ysrc yold ypic ynxt ydec ymd yvx yvy ydm ydx ydy yprd ydif ysca ysp ysm ysx ysy ysn ysk ydam : Nat → Int32}
theorem yq_m {post : Int32 → Prop} {u : SY} {x y : Int32} (h : post (pv_mm x y)) : wpY_m post u x y := by
  obtain ⟨a1, a2, a3, a4, a5, a6, a7, a8, b1, b2, b3, b4, b5, b6, b7, b8, b9, c1, c2, c3, c4, c5, c6, c7, c8, c9, d1, d2, d3⟩ := u
  unfold wpY_m
  unfold pv_mm at h
  have L : ∀ o i : Int32, post (pv_mh y o i) → wY_m_48 post y o i a1 a2 a3 a4 a5 a6 a7 a8 b1 b2 b3 b4 b5 b6 b7 b8 b9 c1 c2 c3 c4 c5 c6 c7 c8 c9 d1 d2 d3 := fun o i hh => by
    unfold wY_m_48
    unfold pv_mh at hh
    refine br_c (fun e => ?_) (fun e => br_c (fun e2 => ?_) (fun e2 => br_c (fun e3 => ?_) (fun e3 => ?_)))
    · rw [if_pos e] at hh; exact hh
    · rw [if_neg e, if_pos e2] at hh; exact hh
    · rw [if_neg e, if_neg e2, if_pos e3] at hh; exact hh
    · rw [if_neg e, if_neg e2, if_neg e3] at hh; exact hh
  refine br_c (fun e => ?_) (fun e => br_c (fun e2 => br_c (fun e3 => ?_) (fun e3 => br_c (fun e4 => ?_) (fun e4 => ?_))) (fun e2 => br_c (fun e3 => ?_) (fun e3 => ?_)))
  · rw [if_pos e] at h; exact h
  · rw [if_neg e, if_pos e2, if_pos e3] at h; exact h
  · rw [if_neg e, if_pos e2, if_neg e3, if_pos e4] at h; exact h
  · rw [if_neg e, if_pos e2, if_neg e3, if_neg e4] at h; exact h
  · rw [if_neg e, if_neg e2, if_pos e3] at h
    unfold wY_m_36
    exact br_t e3 (L _ _ h)
  · rw [if_neg e, if_neg e2, if_neg e3] at h
    unfold wY_m_36
    exact br_f e3 (L _ _ h)
theorem yq_sc22 {post : Int32 → Prop} {J : Int32 → Int32 → Prop} {x3 : Int32} {i j k : Nat} {a : Int32} (hk : k < 4) (h : J (pv_si ydif i j k a 4) (nI (k + 1))) : ∃ n : Nat, wY_scale_22 post J (nI i) (nI j) x3 (nI k) (nI C) (nI R) (nI g) (nI (4 * C)) (nI (4 * R)) ycn ydn yct ysrc yold ypic ynxt ydec ymd yvx yvy ydm ydx ydy yprd ydif ysca ysp ysm ysx ysy ysn ysk ydam n a 0 := by
  refine loop_0 (fun n l s => wY_scale_22 post J (nI i) (nI j) x3 (nI k) (nI C) (nI R) (nI g) (nI (4 * C)) (nI (4 * R)) ycn ydn yct ysrc yold ypic ynxt ydec ymd yvx yvy ydm ydx ydy yprd ydif ysca ysp ysm ysx ysy ysn ysk ydam n s (nI l)) (fun l s => s = pv_si ydif i j k a l) 4 a rfl (fun n s hs => ?_) (fun n l s hl hs ih => ?_)
  · rw [← hs] at h
    exact br_t (nI_le (a := 4) (by omega) (by omega)) (nm_r (nI_1 k) h)
  · refine br_f (nI_ge (b := 4) hl (by omega)) ?_
    refine yq_m ?_
    rw [pv_m4, nI_add, nI_clamp (by omega)]
    refine ⟨vp_in_nI (by omega) (by omega), ?_⟩
    refine yq_m (nm_e (nm_r (nI_1 l) (ih _ ?_)))
    rw [hs]
    rfl
theorem yq_scale {post : Int32 → Prop} {i j q : Nat} (hi : i < 4) (hj : j < 4) (hq : q ≤ 40) (h : post (if q = 0 then 0 else pv_lv (pv_so ydif i j 4) (pv_dv (i * 4 + j) (nI q)) * nI q)) : wpY_scale post ((nI C), (nI R), (nI g), (nI (4 * C)), (nI (4 * R)), ycn, ydn, yct, ysrc, yold, ypic, ynxt, ydec, ymd, yvx, yvy, ydm, ydx, ydy, yprd, ydif, ysca, ysp, ysm, ysx, ysy, ysn, ysk, ydam) (nI i) (nI j) (nI q) := by
  unfold wpY_scale
  by_cases q0 : q = 0
  · rw [if_pos q0] at h
    exact br_f (nI_ge (b := 1) (by omega) (by omega)) h
  · rw [if_neg q0] at h
    refine br_t (nI_le (a := 1) (by omega) (by omega)) ?_
    refine loop_0 (fun n k s => wY_scale_13 post (nI i) (nI j) (nI q) (nI C) (nI R) (nI g) (nI (4 * C)) (nI (4 * R)) ycn ydn yct ysrc yold ypic ynxt ydec ymd yvx yvy ydm ydx ydy yprd ydif ysca ysp ysm ysx ysy ysn ysk ydam n s (nI k)) (fun k s => s = pv_so ydif i j k) 4 0 rfl (fun n s hs => ?_) (fun n k s hk hs ih => ?_)
    · rw [← hs] at h
      have hz := pv_dv_nz (i := i * 4 + j) (q := q) (by omega) hq
      have L : ∀ d : Int32, ¬ d = 0 → post (pv_lv s d * nI q) → wY_scale_116 post (nI q) s d (nI C) (nI R) (nI g) (nI (4 * C)) (nI (4 * R)) ycn ydn yct ysrc yold ypic ynxt ydec ymd yvx yvy ydm ydx ydy yprd ydif ysca ysp ysm ysx ysy ysn ysk ydam := fun d hd hp => by
        unfold wY_scale_116
        unfold pv_lv at hp
        refine yq_abs ⟨pv_3z, hd, nm_e (br_c (fun e => ?_) (fun e => ?_))⟩
        · rw [if_pos e] at hp; exact hp
        · rw [if_neg e] at hp; exact hp
      unfold pv_dv at h hz
      refine br_t (nI_le (a := 4) (by omega) (by omega)) ⟨pv_2z, ?_⟩
      have ei : (i * 4 + j) / 4 % 2 = i % 2 := by omega
      have ej : (i * 4 + j) % 2 = j % 2 := by omega
      rw [ei, ej] at h hz
      unfold wY_scale_91 wY_scale_112
      rw [pv_rem2 (by omega), pv_rem2 (by omega)]
      by_cases i0 : i % 2 = 0
      · refine br_t (congrArg nI i0) ⟨pv_2z, ?_⟩
        by_cases j0 : j % 2 = 0
        · rw [if_pos (by omega)] at h hz
          exact br_t (congrArg nI j0) (L _ hz h)
        · rw [if_neg (by omega), if_pos (by omega)] at h hz
          exact br_f (nI_ne0 (by omega) (by omega)) ⟨pv_2z, br_f (by rw [i0]; decide) (L _ hz h)⟩
      · have i1 : i % 2 = 1 := by omega
        refine br_f (nI_ne0 (by omega) (by omega)) ⟨pv_2z, br_t (congrArg nI i1) ⟨pv_2z, ?_⟩⟩
        by_cases j0 : j % 2 = 0
        · rw [if_neg (by omega), if_pos (by omega)] at h hz
          exact br_f (by rw [j0]; decide) (L _ hz h)
        · rw [if_neg (by omega), if_neg (by omega)] at h hz
          exact br_t (congrArg nI (show j % 2 = 1 by omega)) (L _ hz h)
    · refine br_f (nI_ge (b := 4) hk (by omega)) (yq_sc22 hk (ih _ ?_))
      rw [hs]
      rfl
theorem yq_inv14 {post : Int32 → Prop} {J : Int32 → Int32 → Prop} {i j k : Nat} {a : Int32} (hk : k < 4) (h : J (pv_ti ysca i j k a 4) (nI (k + 1))) : ∃ n : Nat, wY_inverse_14 post J (nI i) (nI j) (nI k) (nI C) (nI R) (nI g) (nI (4 * C)) (nI (4 * R)) ycn ydn yct ysrc yold ypic ynxt ydec ymd yvx yvy ydm ydx ydy yprd ydif ysca ysp ysm ysx ysy ysn ysk ydam n a 0 := by
  refine loop_0 (fun n l s => wY_inverse_14 post J (nI i) (nI j) (nI k) (nI C) (nI R) (nI g) (nI (4 * C)) (nI (4 * R)) ycn ydn yct ysrc yold ypic ynxt ydec ymd yvx yvy ydm ydx ydy yprd ydif ysca ysp ysm ysx ysy ysn ysk ydam n s (nI l)) (fun l s => s = pv_ti ysca i j k a l) 4 a rfl (fun n s hs => ?_) (fun n l s hl hs ih => ?_)
  · rw [← hs] at h
    exact br_t (nI_le (a := 4) (by omega) (by omega)) (nm_r (nI_1 k) h)
  · refine br_f (nI_ge (b := 4) hl (by omega)) ?_
    refine yq_m ?_
    rw [pv_m4, nI_add, nI_clamp (by omega)]
    refine ⟨vp_in_nI (by omega) (by omega), ?_⟩
    refine yq_m (nm_e (nm_r (nI_1 l) (ih _ ?_)))
    rw [hs]
    rfl
theorem yq_inverse {post : Int32 → Prop} {i j : Nat} (h : post (pv_to ysca i j 4)) : wpY_inverse post ((nI C), (nI R), (nI g), (nI (4 * C)), (nI (4 * R)), ycn, ydn, yct, ysrc, yold, ypic, ynxt, ydec, ymd, yvx, yvy, ydm, ydx, ydy, yprd, ydif, ysca, ysp, ysm, ysx, ysy, ysn, ysk, ydam) (nI i) (nI j) := by
  unfold wpY_inverse
  refine loop_0 (fun n k s => wY_inverse_5 post (nI i) (nI j) (nI C) (nI R) (nI g) (nI (4 * C)) (nI (4 * R)) ycn ydn yct ysrc yold ypic ynxt ydec ymd yvx yvy ydm ydx ydy yprd ydif ysca ysp ysm ysx ysy ysn ysk ydam n s (nI k)) (fun k s => s = pv_to ysca i j k) 4 0 rfl (fun n s hs => ?_) (fun n k s hk hs ih => ?_)
  · rw [← hs] at h
    exact br_t (nI_le (a := 4) (by omega) (by omega)) h
  · refine br_f (nI_ge (b := 4) hk (by omega)) (yq_inv14 hk (ih _ ?_))
    rw [hs]
    rfl
theorem pv_yat {c r k : Nat} (hk : k < 16) : nI (64 * r + 4 * c) + nI k / 4 * 16 + (nI k - nI k / 4 * 4) = nI (pv_at c r k) := by
  rw [pv_rem4 (by omega), pv_div4 (by omega), pv_m16, nI_add, nI_add]
  refine congrArg nI ?_
  unfold pv_at
  omega
theorem yq_rb155 {post : SY → Prop} {q m c r b : Nat} {f pr : Nat → Int32} (hC : C ≤ 4) (hR : R ≤ 2) (hm : m ≤ 5) (hq : q ≤ 40) (hc : c < C) (hr : r < R) (hb : b < 8) (hmd : ymd b = nI m)
    (hf : ∀ i, i < 16 → ysca i = f i) (hp : ∀ i, i < 16 → yprd i = pr i)
    (h : ∀ a : Nat → Int32, (∀ i, i < 16 → a (pv_at c r i) = if m = 5 then pr i else if q = 0 then ysrc (pv_at c r i) else pv_cl (pr i + ((pv_ir (pv_ic f) i + 2) >>> ((2 : Int32) &&& 31))) 0 255) → (∀ p, (∀ i, i < 16 → p ≠ pv_at c r i) → a p = ynxt p) → post ((nI C), (nI R), (nI g), (nI (4 * C)), (nI (4 * R)), ycn, ydn, yct, ysrc, yold, ypic, a, ydec, ymd, yvx, yvy, ydm, ydx, ydy, yprd, ydif, ysca, ysp, ysm, ysx, ysy, ysn, ysk, ydam)) :
    ∃ n : Nat, wY_rebuild_155 post (nI q) (nI b) (nI (64 * r + 4 * c)) (nI C) (nI R) (nI g) (nI (4 * C)) (nI (4 * R)) ycn ydn yct n 0 ysrc yold ypic ynxt ydec ymd yvx yvy ydm ydx ydy yprd ydif ysca ysp ysm ysx ysy ysn ysk ydam := by
  refine loop_0 (fun n i a => wY_rebuild_155 post (nI q) (nI b) (nI (64 * r + 4 * c)) (nI C) (nI R) (nI g) (nI (4 * C)) (nI (4 * R)) ycn ydn yct n (nI i) ysrc yold ypic a ydec ymd yvx yvy ydm ydx ydy yprd ydif ysca ysp ysm ysx ysy ysn ysk ydam) (fun i a => (∀ j, j < i → a (pv_at c r j) = if m = 5 then pr j else if q = 0 then ysrc (pv_at c r j) else pv_cl (pr j + ((pv_ir (pv_ic f) j + 2) >>> ((2 : Int32) &&& 31))) 0 255) ∧ (∀ p, (∀ j, j < i → p ≠ pv_at c r j) → a p = ynxt p)) 16 ynxt ⟨lt_0, fun _ _ => rfl⟩ (fun n a ha => ?_) (fun n i a hi ha ih => ?_)
  · exact br_t (nI_le (a := 16) (by omega) (by omega)) (h a ha.1 ha.2)
  · refine br_f (nI_ge (b := 16) hi (by omega)) ⟨pv_4z, pv_4z, nm_r (pv_yat hi) ⟨pv_4z, pv_4z, ?_⟩⟩
    rw [pv_rem4 (by omega), pv_div4 (by omega)]
    refine yq_inverse ?_
    have et : pv_to ysca (i / 4) (i % 4) 4 = pv_ir (pv_ic f) i := by
      rw [pv_to_e ysca (i / 4) (i % 4) (by omega) (by omega), show i / 4 * 4 + i % 4 = i by omega]
      exact pv_ir_congr (fun j hj => pv_ic_congr hf hj) hi
    rw [et, nI_clamp (n := i) (by omega), nI_clamp (n := b) (by omega), hp i hi, hmd]
    have hl := pv_at_lt (c := c) (r := r) (i := i) (by omega) (by omega) hi
    have i16 : vp_in (nI i) 16 := vp_in_nI hi (by omega)
    have i8 : vp_in (nI b) 8 := vp_in_nI hb (by omega)
    have ia : vp_in (nI (pv_at c r i)) 128 := vp_in_nI hl (by omega)
    have key : ∀ v, v = (if m = 5 then pr i else if q = 0 then ysrc (pv_at c r i) else pv_cl (pr i + ((pv_ir (pv_ic f) i + 2) >>> ((2 : Int32) &&& 31))) 0 255) → wY_rebuild_155 post (nI q) (nI b) (nI (64 * r + 4 * c)) (nI C) (nI R) (nI g) (nI (4 * C)) (nI (4 * R)) ycn ydn yct n (nI (i + 1)) ysrc yold ypic (upd a (pv_at c r i) v) ydec ymd yvx yvy ydm ydx ydy yprd ydif ysca ysp ysm ysx ysy ysn ysk ydam := fun v ev => ih _ ⟨fun j hj => by
        by_cases e : j = i
        · rw [e, pk_us, ev]
        · rw [pk_un (fun z => e (pv_at_inj (c := c) (r := r) (by omega) hi z)), ha.1 j (by omega)], fun p hp => by
        rw [pk_un (hp i (by omega)), ha.2 p (fun j hj => hp j (by omega))]⟩
    refine ⟨i16, ?_⟩
    refine yq_limit ⟨i8, ?_⟩
    rw [nI_clamp (n := pv_at c r i) (by omega)]
    by_cases m5 : m = 5
    · exact br_t (congrArg nI m5) ⟨i16, ia, nm_e (nm_r (nI_1 i) (key _ (if_pos m5).symm))⟩
    · refine br_f (fun z => m5 ((nI_eq (b := 5) (by omega) (by omega)).mp z)) ?_
      by_cases q0 : q = 0
      · exact br_t (congrArg nI q0) ⟨ia, ia, nm_e (nm_r (nI_1 i) (key _ (by rw [if_neg m5, if_pos q0])))⟩
      · exact br_f (nI_ne0 (by omega) (by omega)) ⟨ia, nm_e (nm_r (nI_1 i) (key _ (by rw [if_neg m5, if_neg q0])))⟩
theorem yq_rb119 {post : SY → Prop} {q m c r b : Nat} {e pr : Nat → Int32} (hC : C ≤ 4) (hR : R ≤ 2) (hm : m ≤ 5) (hq : q ≤ 40) (hc : c < C) (hr : r < R) (hb : b < 8) (hmd : ymd b = nI m)
    (he : ∀ i, i < 16 → ydif i = ysrc (pv_at c r i) - pr i) (hp : ∀ i, i < 16 → yprd i = pr i)
    (h : ∀ a sc : Nat → Int32, (∀ i, i < 16 → a (pv_at c r i) = pv_yv q m c r ysrc pr i) → (∀ p, (∀ i, i < 16 → p ≠ pv_at c r i) → a p = ynxt p) → post ((nI C), (nI R), (nI g), (nI (4 * C)), (nI (4 * R)), ycn, ydn, yct, ysrc, yold, ypic, a, ydec, ymd, yvx, yvy, ydm, ydx, ydy, yprd, ydif, sc, ysp, ysm, ysx, ysy, ysn, ysk, ydam)) :
    ∃ n : Nat, wY_rebuild_119 post (nI q) (nI b) (nI (64 * r + 4 * c)) (nI C) (nI R) (nI g) (nI (4 * C)) (nI (4 * R)) ycn ydn yct n 0 ysrc yold ypic ynxt ydec ymd yvx yvy ydm ydx ydy yprd ydif ysca ysp ysm ysx ysy ysn ysk ydam := by
  refine loop_0 (fun n i a => wY_rebuild_119 post (nI q) (nI b) (nI (64 * r + 4 * c)) (nI C) (nI R) (nI g) (nI (4 * C)) (nI (4 * R)) ycn ydn yct n (nI i) ysrc yold ypic ynxt ydec ymd yvx yvy ydm ydx ydy yprd ydif a ysp ysm ysx ysy ysn ysk ydam) (fun i a => ∀ j, j < i → a j = if q = 0 then 0 else pv_ms q (fun k => ysrc (pv_at c r k) - pr k) j * nI q) 16 ysca lt_0 (fun n a ha => ?_) (fun n i a hi ha ih => ?_)
  · refine br_t (nI_le (a := 16) (by omega) (by omega)) (yq_rb155 (f := fun j => if q = 0 then 0 else pv_ms q (fun k => ysrc (pv_at c r k) - pr k) j * nI q) hC hR hm hq hc hr hb hmd ha hp (fun a' h1 h2 => h a' a (fun i hi => ?_) h2))
    rw [h1 i hi]
    unfold pv_yv
    by_cases m5 : m = 5
    · rw [if_pos m5, if_pos m5]
    · rw [if_neg m5, if_neg m5]
      by_cases q0 : q = 0
      · rw [if_pos q0, if_pos q0]
      · simp only [if_neg q0]
  · refine br_f (nI_ge (b := 16) hi (by omega)) ⟨pv_4z, pv_4z, ?_⟩
    rw [pv_rem4 (by omega), pv_div4 (by omega)]
    refine yq_scale (by omega) (by omega) hq ?_
    rw [nI_clamp (by omega)]
    refine ⟨vp_in_nI hi (by omega), nm_e (nm_r (nI_1 i) (ih _ (pv_lt_s ha ?_)))⟩
    by_cases q0 : q = 0
    · rw [if_pos q0, if_pos q0]
    · have em : pv_ms q (fun k => ysrc (pv_at c r k) - pr k) i = pv_lv (pv_fc (pv_fr fun k => ysrc (pv_at c r k) - pr k) i) (pv_dv i (nI q)) := if_neg q0
      rw [if_neg q0, if_neg q0, em, pv_so_e ydif (i / 4) (i % 4) (by omega) (by omega), show i / 4 * 4 + i % 4 = i by omega, pv_fc_congr (f := pv_fr ydif) (f' := pv_fr fun k => ysrc (pv_at c r k) - pr k) (fun j hj => pv_fr_congr he hj) hi]
theorem yq_rebuild {post : SY → Prop} {q m c r b : Nat} {dx dy : Int32} (hC : C ≤ 4) (hR : R ≤ 2) (hm : m ≤ 5) (hq : q ≤ 40) (hc : c < C) (hr : r < R) (hb : b = 4 * r + c) (hmd : ymd b = nI m) (hvx : yvx b = dx) (hvy : yvy b = dy)
    (h : ∀ a sc df pd : Nat → Int32, (∀ i, i < 16 → a (pv_at c r i) = pv_yv q m c r ysrc (pv_py ynxt ypic C R m c r dx dy) i) → (∀ p, (∀ i, i < 16 → p ≠ pv_at c r i) → a p = ynxt p) → post ((nI C), (nI R), (nI g), (nI (4 * C)), (nI (4 * R)), ycn, ydn, yct, ysrc, yold, ypic, a, ydec, ymd, yvx, yvy, ydm, ydx, ydy, pd, df, sc, ysp, ysm, ysx, ysy, ysn, ysk, ydam)) :
    wpY_rebuild post ((nI C), (nI R), (nI g), (nI (4 * C)), (nI (4 * R)), ycn, ydn, yct, ysrc, yold, ypic, ynxt, ydec, ymd, yvx, yvy, ydm, ydx, ydy, yprd, ydif, ysca, ysp, ysm, ysx, ysy, ysn, ysk, ydam) (nI q) (nI c) (nI r) := by
  unfold wpY_rebuild
  refine nm_r (e' := nI b) (by rw [pv_yb, hb]) (nm_r (e' := nI (64 * r + 4 * c)) (by rw [pv_m64, pv_m4, nI_add, Nat.mul_comm r 64, Nat.mul_comm c 4]) ?_)
  refine loop_0 (fun n i (z : (Nat → Int32) × (Nat → Int32)) => wY_rebuild_20 post (nI q) (nI c) (nI r) (nI b) (nI (64 * r + 4 * c)) (nI C) (nI R) (nI g) (nI (4 * C)) (nI (4 * R)) ycn ydn yct n (nI i) ysrc yold ypic ynxt ydec ymd yvx yvy ydm ydx ydy z.1 z.2 ysca ysp ysm ysx ysy ysn ysk ydam) (fun i z => (∀ j, j < i → z.1 j = pv_py ynxt ypic C R m c r dx dy j) ∧ (∀ j, j < i → z.2 j = ysrc (pv_at c r j) - pv_py ynxt ypic C R m c r dx dy j)) 16 (yprd, ydif) ⟨lt_0, lt_0⟩ (fun n z hz => ?_) (fun n i z hi hz ih => ?_)
  · exact br_t (nI_le (a := 16) (by omega) (by omega)) (yq_rb119 (e := z.2) hC hR hm hq hc hr (by omega) hmd hz.2 hz.1 (fun a sc h1 h2 => h a sc z.2 z.1 h1 h2))
  · have i8 : vp_in (nI b) 8 := vp_in_nI (by omega) (by omega)
    have i16 : vp_in (nI i) 16 := vp_in_nI hi (by omega)
    have hl := pv_at_lt (c := c) (r := r) (i := i) (by omega) (by omega) hi
    refine br_f (nI_ge (b := 16) hi (by omega)) ⟨i8, pv_4z, pv_4z, i8, i8, ?_⟩
    rw [pv_yat hi, pv_rem4 (by omega), pv_div4 (by omega), nI_clamp (n := b) (by omega), hmd, hvx, hvy, pv_4m, pv_4m, nI_add, nI_add, nI_clamp (n := i) (by omega), nI_clamp (n := pv_at c r i) (by omega)]
    refine yq_predict hC hR hm hc hr hi ⟨i16, nm_e ⟨pv_4z, pv_4z, vp_in_nI hl (by omega), i16, i16, nm_e (nm_r (nI_1 i) (ih (_, _) ⟨pv_lt_s hz.1 rfl, pv_lt_s hz.2 ?_⟩))⟩⟩
    rw [pk_us]
end
end
section
/-! Y: filter, frame -/
theorem pv_le3 (x : Int32) : x ≤ 3 ↔ x < 4 := by
  rw [Int32.le_iff_toInt_le, Int32.lt_iff_toInt_lt, show (3 : Int32).toInt = 3 from by decide, show (4 : Int32).toInt = 4 from by decide]
  omega
theorem pv_bk_xy {x y : Nat} (hx : x < 16) : pv_bk (16 * y + x) = 4 * (y / 4) + x / 4 := by
  unfold pv_bk
  omega
theorem pv_s0 (x : Int32) : x - 0 = x := Int32.sub_zero x
section
variable {C R g : Nat} {ycn ydn yct : Int32} {ysrc yold ypic ynxt ydec ymd yvx yvy ydm ydx ydy yprd ydif ysca ysp ysm ysx ysy ysn ysk ydam : Nat → Int32} {post : SY → Prop}
theorem yq_fl187 {x y dx dy a b c d t : Int32} {pb pc : Nat} (hb : pb < 128) (hc : pc < 128) (eb : (y - dy) * 16 + x - dx = nI pb) (ec : y * 16 + x = nI pc) (h : post ((nI C), (nI R), (nI g), (nI (4 * C)), (nI (4 * R)), ycn, ydn, yct, ysrc, yold, ypic, pv_fw2 ynxt pb pc b c (pv_ee a b c d t), ydec, ymd, yvx, yvy, ydm, ydx, ydy, yprd, ydif, ysca, ysp, ysm, ysx, ysy, ysn, ysk, ydam)) :
    wY_filterLine_187 post x y dx dy a b c d t (nI C) (nI R) (nI g) (nI (4 * C)) (nI (4 * R)) ycn ydn yct ysrc yold ypic ynxt ydec ymd yvx yvy ydm ydx ydy yprd ydif ysca ysp ysm ysx ysy ysn ysk ydam := by
  unfold wY_filterLine_187
  refine yq_limit ?_
  refine yq_limit ?_
  rw [eb, ec, nI_clamp (by omega), nI_clamp (by omega)]
  exact ⟨vp_in_nI hb (by omega), nm_e (yq_limit ⟨vp_in_nI hc (by omega), nm_e h⟩)⟩
theorem yq_fline {x y dx dy : Int32} {q xa ya xb yb xc yc xd yd pl st : Nat} (hC : C ≤ 4) (hR : R ≤ 2) (hq : q ≤ 40)
    (ea : x - 2 * dx = nI xa) (ea' : y - 2 * dy = nI ya) (eb : x - dx = nI xb) (eb' : y - dy = nI yb) (ec : x = nI xc) (ec' : y = nI yc) (ed : x + dx = nI xd) (ed' : y + dy = nI yd)
    (ha : xa < 4 * C) (ha' : ya < 4 * R) (hb : xb < 4 * C) (hb' : yb < 4 * R) (hc : xc < 4 * C) (hc' : yc < 4 * R) (hd : xd < 4 * C) (hd' : yd < 4 * R)
    (pa : 16 * ya + xa = pl - 2 * st) (pb : 16 * yb + xb = pl - st) (pc : 16 * yc + xc = pl) (pd : 16 * yd + xd = pl + st) (ew : (y - dy) * 16 + x - dx = nI (pl - st))
    (h : post ((nI C), (nI R), (nI g), (nI (4 * C)), (nI (4 * R)), ycn, ydn, yct, ysrc, yold, ypic, pv_fln ymd q (pl, st) ynxt, ydec, ymd, yvx, yvy, ydm, ydx, ydy, yprd, ydif, ysca, ysp, ysm, ysx, ysy, ysn, ysk, ydam)) : wpY_filterLine post ((nI C), (nI R), (nI g), (nI (4 * C)), (nI (4 * R)), ycn, ydn, yct, ysrc, yold, ypic, ynxt, ydec, ymd, yvx, yvy, ydm, ydx, ydy, yprd, ydif, ysca, ysp, ysm, ysx, ysy, ysn, ysk, ydam) x y dx dy (nI q) := by
  unfold wpY_filterLine
  rw [ea, ea', ed, ed', eb, eb']
  refine yq_at1 hC hR ha ha' ?_
  rw [pa]
  refine yq_at1 hC hR hb hb' ?_
  rw [pb]
  subst ec ec'
  refine yq_at1 hC hR hc hc' ?_
  rw [pc]
  refine yq_at1 hC hR hd hd' ?_
  rw [pd]
  have m1 : nI yb / 4 * 4 + nI xb / 4 = nI (pv_bk (pl - st)) := by
    rw [pv_div4 (by omega), pv_div4 (by omega), pv_yb, ← pb, pv_bk_xy (by omega)]
  have m2 : nI yc / 4 * 4 + nI xc / 4 = nI (pv_bk pl) := by
    rw [pv_div4 (by omega), pv_div4 (by omega), pv_yb, ← pc, pv_bk_xy (by omega)]
  have b1 := pv_bk_lt (p := pl - st) (by omega)
  have b2 := pv_bk_lt (p := pl) (by omega)
  rw [m1, m2, nI_clamp (by omega), nI_clamp (by omega)]
  refine ⟨pv_4z, pv_4z, vp_in_nI b1 (by omega), nm_e ⟨pv_4z, pv_4z, vp_in_nI b2 (by omega), nm_e ?_⟩⟩
  unfold pv_fln at h
  dsimp only at h
  have rest : ¬ (ymd (pv_bk (pl - st)) = 5 ∧ ymd (pv_bk pl) = 5) → wY_filterLine_101 post (nI xc) (nI yc) dx dy (nI q) (ynxt (pl - 2 * st)) (ynxt (pl - st)) (ynxt pl) (ynxt (pl + st)) (ymd (pv_bk (pl - st))) (ymd (pv_bk pl)) (nI C) (nI R) (nI g) (nI (4 * C)) (nI (4 * R)) ycn ydn yct ysrc yold ypic ynxt ydec ymd yvx yvy ydm ydx ydy yprd ydif ysca ysp ysm ysx ysy ysn ysk ydam := fun hn => by
    rw [if_neg hn] at h
    unfold wY_filterLine_101
    refine yq_abs ?_
    refine yq_abs ?_
    refine yq_abs ?_
    by_cases c1 : 4 + 2 * nI q ≤ pv_ab (ynxt (pl - st) - ynxt pl)
    · rw [if_pos c1] at h
      exact br_t c1 h
    · rw [if_neg c1] at h
      refine br_f c1 ?_
      by_cases c2 : 2 + nI q ≤ pv_ab (ynxt (pl - 2 * st) - ynxt (pl - st))
      · rw [if_pos c2] at h
        exact br_t c2 h
      · rw [if_neg c2] at h
        refine br_f c2 ?_
        by_cases c3 : pv_ab (ynxt (pl + st) - ynxt pl) < 2 + nI q
        · rw [if_pos c3] at h
          refine br_t c3 ?_
          have eq : 1 + nI q >>> ((2 : Int32) &&& 31) = 1 + nI (q / 4) := by rw [pv_shr2 (by omega)]
          refine nm_r eq ?_
          unfold pv_ft at h
          have ecc : nI yc * 16 + nI xc = nI pl := by rw [pv_yi, pc]
          unfold wY_filterLine_184
          by_cases c4 : ymd (pv_bk (pl - st)) < 4
          · rw [if_pos (Or.inl c4)] at h
            exact br_t ((pv_le3 _).mpr c4) (nm_e (yq_fl187 (by omega) (by omega) ew ecc h))
          · refine br_f (fun z => c4 ((pv_le3 _).mp z)) ?_
            by_cases c5 : ymd (pv_bk pl) < 4
            · rw [if_pos (Or.inr c5)] at h
              exact br_f (Int32.not_lt.mpr ((pv_le3 _).mpr c5)) (nm_e (yq_fl187 (by omega) (by omega) ew ecc h))
            · rw [if_neg (fun k => k.elim c4 c5)] at h
              exact br_t (Int32.not_le.mp (fun z => c5 ((pv_le3 _).mp z))) (yq_fl187 (by omega) (by omega) ew ecc h)
        · rw [if_neg c3] at h
          exact br_f c3 h
  by_cases c1 : ymd (pv_bk (pl - st)) = 5
  · refine br_t c1 ?_
    by_cases c2 : ymd (pv_bk pl) = 5
    · rw [if_pos ⟨c1, c2⟩] at h
      exact br_t c2 h
    · exact br_f c2 (rest (fun k => c2 k.2))
  · exact br_f c1 (rest (fun k => c1 k.1))
theorem yq_flineV {q j y : Nat} (hC : C ≤ 4) (hR : R ≤ 2) (hq : q ≤ 40) (hj : j < C - 1) (hy : y < 4 * R) (h : post ((nI C), (nI R), (nI g), (nI (4 * C)), (nI (4 * R)), ycn, ydn, yct, ysrc, yold, ypic, pv_fln ymd q (16 * y + 4 * (j + 1), 1) ynxt, ydec, ymd, yvx, yvy, ydm, ydx, ydy, yprd, ydif, ysca, ysp, ysm, ysx, ysy, ysn, ysk, ydam)) : wpY_filterLine post ((nI C), (nI R), (nI g), (nI (4 * C)), (nI (4 * R)), ycn, ydn, yct, ysrc, yold, ypic, ynxt, ydec, ymd, yvx, yvy, ydm, ydx, ydy, yprd, ydif, ysca, ysp, ysm, ysx, ysy, ysn, ysk, ydam) (nI (4 * (j + 1))) (nI y) 1 0 (nI q) := by
  have e2 : (2 : Int32) * 1 = nI 2 := by decide
  have e0 : (2 : Int32) * 0 = 0 := by decide
  refine yq_fline (xa := 4 * (j + 1) - 2) (ya := y) (xb := 4 * (j + 1) - 1) (yb := y) (xc := 4 * (j + 1)) (yc := y) (xd := 4 * (j + 1) + 1) (yd := y) hC hR hq ?_ ?_ (pv_s1 (by omega)) (pv_s0 _) rfl rfl (nI_1 _) (Int32.add_zero _) (by omega) hy (by omega) hy (by omega) hy (by omega) hy (by omega) (by omega) rfl (by omega) ?_ h
  · rw [e2, pk_sub (by omega)]
  · rw [e0, pv_s0]
  · rw [pv_s0, pv_yi, pv_s1 (by omega)]
theorem yq_flineH {q j x : Nat} (hC : C ≤ 4) (hR : R ≤ 2) (hq : q ≤ 40) (hj : j < R - 1) (hx : x < 4 * C) (h : post ((nI C), (nI R), (nI g), (nI (4 * C)), (nI (4 * R)), ycn, ydn, yct, ysrc, yold, ypic, pv_fln ymd q (16 * (4 * (j + 1)) + x, 16) ynxt, ydec, ymd, yvx, yvy, ydm, ydx, ydy, yprd, ydif, ysca, ysp, ysm, ysx, ysy, ysn, ysk, ydam)) : wpY_filterLine post ((nI C), (nI R), (nI g), (nI (4 * C)), (nI (4 * R)), ycn, ydn, yct, ysrc, yold, ypic, ynxt, ydec, ymd, yvx, yvy, ydm, ydx, ydy, yprd, ydif, ysca, ysp, ysm, ysx, ysy, ysn, ysk, ydam) (nI x) (nI (4 * (j + 1))) 0 1 (nI q) := by
  have e2 : (2 : Int32) * 1 = nI 2 := by decide
  have e0 : (2 : Int32) * 0 = 0 := by decide
  refine yq_fline (xa := x) (ya := 4 * (j + 1) - 2) (xb := x) (yb := 4 * (j + 1) - 1) (xc := x) (yc := 4 * (j + 1)) (xd := x) (yd := 4 * (j + 1) + 1) hC hR hq ?_ ?_ (pv_s0 _) (pv_s1 (by omega)) rfl rfl (Int32.add_zero _) (nI_1 _) hx (by omega) hx (by omega) hx (by omega) hx (by omega) (by omega) (by omega) rfl (by omega) ?_ h
  · rw [e0, pv_s0]
  · rw [e2, pk_sub (by omega)]
  · rw [pv_s0, pv_s1 (by omega), pv_yi]
    exact congrArg nI (by omega)
end
section
variable {C R g : Nat} {ycn ydn yct : Int32} {ysrc yold ypic ynxt ydec ymd yvx yvy ydm ydx ydy yprd ydif ysca ysp ysm ysx ysy ysn ysk ydam : Nat → Int32} {post : Int32 → SY → Prop}
theorem yq_en177 {J : Int32 → Int32 → Int32 → Int32 → Int32 → Int32 → Int32 → Int32 → Int32 → (Nat → Int32) → (Nat → Int32) → (Nat → Int32) → (Nat → Int32) → (Nat → Int32) → (Nat → Int32) → (Nat → Int32) → (Nat → Int32) → (Nat → Int32) → (Nat → Int32) → (Nat → Int32) → (Nat → Int32) → (Nat → Int32) → (Nat → Int32) → (Nat → Int32) → (Nat → Int32) → (Nat → Int32) → (Nat → Int32) → (Nat → Int32) → (Nat → Int32) → (Nat → Int32) → Prop} {kd : Int32} {q j : Nat} {N : Nat → Int32} {l : List (Nat × Nat)} (hC : C ≤ 4) (hR : R ≤ 2) (hq : q ≤ 40) (hj : j < R - 1) (hN : ynxt = pv_fe ymd q l N)
    (h : ∀ a : Nat → Int32, a = pv_fe ymd q (l ++ pv_eh j (4 * C)) N → J (nI (4 * (j + 1 + 1))) (nI C) (nI R) (nI g) (nI (4 * C)) (nI (4 * R)) ycn ydn yct ysrc yold ypic a ydec ymd yvx yvy ydm ydx ydy yprd ydif ysca ysp ysm ysx ysy ysn ysk ydam) : ∃ n : Nat, wY_encode_177 post J kd (nI q) (nI (4 * (j + 1))) n 0 (nI C) (nI R) (nI g) (nI (4 * C)) (nI (4 * R)) ycn ydn yct ysrc yold ypic ynxt ydec ymd yvx yvy ydm ydx ydy yprd ydif ysca ysp ysm ysx ysy ysn ysk ydam := by
  refine loop_0 (fun n i a => wY_encode_177 post J kd (nI q) (nI (4 * (j + 1))) n (nI i) (nI C) (nI R) (nI g) (nI (4 * C)) (nI (4 * R)) ycn ydn yct ysrc yold ypic a ydec ymd yvx yvy ydm ydx ydy yprd ydif ysca ysp ysm ysx ysy ysn ysk ydam) (fun i a => a = pv_fe ymd q (l ++ pv_eh j i) N) (4 * C) ynxt ?_ (fun n a ha => ?_) (fun n i a hi ha ih => ?_)
  · show _ = pv_fe ymd q (l ++ []) N
    rw [List.append_nil, hN]
  · exact br_t (nI_le (by omega) (by omega)) (nm_r (pv_a4 _) (h a ha))
  · refine br_f (nI_ge hi (by omega)) (yq_flineH hC hR hq hj hi (nm_r (nI_1 i) (ih _ ?_)))
    rw [ha, pv_eh_s, ← List.append_assoc, pv_fe_a _ _ (l ++ pv_eh j i)]
    rfl
theorem yq_en161 {kd : Int32} {q : Nat} {N : Nat → Int32} {l : List (Nat × Nat)} (hC : C ≤ 4) (hR : R ≤ 2) (hR0 : 1 ≤ R) (hq : q ≤ 40) (hq0 : ¬ q = 0) (hN : ynxt = pv_fe ymd q l N)
    (h : ∀ a : Nat → Int32, a = pv_fe ymd q (l ++ pv_ehs C (R - 1)) N → wY_encode_208 post kd (nI C) (nI R) (nI g) (nI (4 * C)) (nI (4 * R)) ycn ydn yct ysrc yold ypic a ydec ymd yvx yvy ydm ydx ydy yprd ydif ysca ysp ysm ysx ysy ysn ysk ydam) : ∃ n : Nat, wY_encode_161 post kd (nI q) n 4 (nI C) (nI R) (nI g) (nI (4 * C)) (nI (4 * R)) ycn ydn yct ysrc yold ypic ynxt ydec ymd yvx yvy ydm ydx ydy yprd ydif ysca ysp ysm ysx ysy ysn ysk ydam := by
  refine loop_0 (fun n j a => wY_encode_161 post kd (nI q) n (nI (4 * (j + 1))) (nI C) (nI R) (nI g) (nI (4 * C)) (nI (4 * R)) ycn ydn yct ysrc yold ypic a ydec ymd yvx yvy ydm ydx ydy yprd ydif ysca ysp ysm ysx ysy ysn ysk ydam) (fun j a => a = pv_fe ymd q (l ++ pv_ehs C j) N) (R - 1) ynxt ?_ (fun n a ha => ?_) (fun n j a hj ha ih => ?_)
  · show _ = pv_fe ymd q (l ++ []) N
    rw [List.append_nil, hN]
  · exact br_t (nI_le (by omega) (by omega)) (h a ha)
  · refine br_f (nI_ge (by omega) (by omega)) (br_f (nI_nlt (b := 1) (by omega) (by omega)) (yq_en177 (N := N) (l := l ++ pv_ehs C j) hC hR hq hj ha (fun a' h1 => ih a' ?_)))
    rw [h1, pv_ehs_s, List.append_assoc]
theorem yq_en128 {J : Int32 → Int32 → Int32 → Int32 → Int32 → Int32 → Int32 → Int32 → Int32 → (Nat → Int32) → (Nat → Int32) → (Nat → Int32) → (Nat → Int32) → (Nat → Int32) → (Nat → Int32) → (Nat → Int32) → (Nat → Int32) → (Nat → Int32) → (Nat → Int32) → (Nat → Int32) → (Nat → Int32) → (Nat → Int32) → (Nat → Int32) → (Nat → Int32) → (Nat → Int32) → (Nat → Int32) → (Nat → Int32) → (Nat → Int32) → (Nat → Int32) → (Nat → Int32) → Prop} {kd : Int32} {q j : Nat} {N : Nat → Int32} {l : List (Nat × Nat)} (hC : C ≤ 4) (hR : R ≤ 2) (hq : q ≤ 40) (hj : j < C - 1) (hN : ynxt = pv_fe ymd q l N)
    (h : ∀ a : Nat → Int32, a = pv_fe ymd q (l ++ pv_ev j (4 * R)) N → J (nI (4 * (j + 1 + 1))) (nI C) (nI R) (nI g) (nI (4 * C)) (nI (4 * R)) ycn ydn yct ysrc yold ypic a ydec ymd yvx yvy ydm ydx ydy yprd ydif ysca ysp ysm ysx ysy ysn ysk ydam) : ∃ n : Nat, wY_encode_128 post J kd (nI q) (nI (4 * (j + 1))) n 0 (nI C) (nI R) (nI g) (nI (4 * C)) (nI (4 * R)) ycn ydn yct ysrc yold ypic ynxt ydec ymd yvx yvy ydm ydx ydy yprd ydif ysca ysp ysm ysx ysy ysn ysk ydam := by
  refine loop_0 (fun n i a => wY_encode_128 post J kd (nI q) (nI (4 * (j + 1))) n (nI i) (nI C) (nI R) (nI g) (nI (4 * C)) (nI (4 * R)) ycn ydn yct ysrc yold ypic a ydec ymd yvx yvy ydm ydx ydy yprd ydif ysca ysp ysm ysx ysy ysn ysk ydam) (fun i a => a = pv_fe ymd q (l ++ pv_ev j i) N) (4 * R) ynxt ?_ (fun n a ha => ?_) (fun n i a hi ha ih => ?_)
  · show _ = pv_fe ymd q (l ++ []) N
    rw [List.append_nil, hN]
  · exact br_t (nI_le (by omega) (by omega)) (nm_r (pv_a4 _) (h a ha))
  · refine br_f (nI_ge hi (by omega)) (yq_flineV hC hR hq hj hi (nm_r (nI_1 i) (ih _ ?_)))
    rw [ha, pv_ev_s, ← List.append_assoc, pv_fe_a _ _ (l ++ pv_ev j i)]
    rfl
theorem yq_en112 {kd : Int32} {q : Nat} (hC : C ≤ 4) (hR : R ≤ 2) (hC0 : 1 ≤ C) (hR0 : 1 ≤ R) (hq : q ≤ 40)
    (h : ∀ a : Nat → Int32, a = pv_FP C R q ymd ynxt → wY_encode_208 post kd (nI C) (nI R) (nI g) (nI (4 * C)) (nI (4 * R)) ycn ydn yct ysrc yold ypic a ydec ymd yvx yvy ydm ydx ydy yprd ydif ysca ysp ysm ysx ysy ysn ysk ydam) : ∃ n : Nat, wY_encode_112 post kd (nI q) n 4 (nI C) (nI R) (nI g) (nI (4 * C)) (nI (4 * R)) ycn ydn yct ysrc yold ypic ynxt ydec ymd yvx yvy ydm ydx ydy yprd ydif ysca ysp ysm ysx ysy ysn ysk ydam := by
  unfold pv_FP at h
  by_cases q0 : q = 0
  · rw [if_pos q0] at h
    have lt : nI q < 1 := nI_lt (b := 1) (by omega) (by omega)
    have L : ∃ n : Nat, wY_encode_161 post kd (nI q) n 4 (nI C) (nI R) (nI g) (nI (4 * C)) (nI (4 * R)) ycn ydn yct ysrc yold ypic ynxt ydec ymd yvx yvy ydm ydx ydy yprd ydif ysca ysp ysm ysx ysy ysn ysk ydam := ⟨1, br_c (fun _ => h _ rfl) (fun _ => br_t lt (h _ rfl))⟩
    exact ⟨1, br_c (fun _ => L) (fun _ => br_t lt L)⟩
  · rw [if_neg q0] at h
    refine loop_0 (fun n j a => wY_encode_112 post kd (nI q) n (nI (4 * (j + 1))) (nI C) (nI R) (nI g) (nI (4 * C)) (nI (4 * R)) ycn ydn yct ysrc yold ypic a ydec ymd yvx yvy ydm ydx ydy yprd ydif ysca ysp ysm ysx ysy ysn ysk ydam) (fun j a => a = pv_fe ymd q (pv_evs R j) ynxt) (C - 1) ynxt rfl (fun n a ha => ?_) (fun n j a hj ha ih => ?_)
    · exact br_t (nI_le (by omega) (by omega)) (yq_en161 (N := ynxt) (l := pv_evs R (C - 1)) hC hR hR0 hq q0 ha (fun a' h1 => h a' h1))
    · refine br_f (nI_ge (by omega) (by omega)) (br_f (nI_nlt (b := 1) (by omega) (by omega)) (yq_en128 (N := ynxt) (l := pv_evs R j) hC hR hq hj ha (fun a' h1 => ih a' ?_)))
      rw [h1, pv_evs_s]
/-- Y's blocks follow the record -/
theorem yq_en72 {J : Int32 → Int32 → Int32 → Int32 → Int32 → Int32 → Int32 → Int32 → Int32 → (Nat → Int32) → (Nat → Int32) → (Nat → Int32) → (Nat → Int32) → (Nat → Int32) → (Nat → Int32) → (Nat → Int32) → (Nat → Int32) → (Nat → Int32) → (Nat → Int32) → (Nat → Int32) → (Nat → Int32) → (Nat → Int32) → (Nat → Int32) → (Nat → Int32) → (Nat → Int32) → (Nat → Int32) → (Nat → Int32) → (Nat → Int32) → (Nat → Int32) → (Nat → Int32) → Prop} {kind q r : Nat} {S P NE B : Nat → Int32} {md : Nat → Nat} {vx vy : Nat → Int32} {rs : Nat → Nat → Int32} {K : Nat → Nat}
    (hC : C ≤ 4) (hR : R ≤ 2) (hr : r < R) (hk : kind < 2) (hq : q ≤ 40)
    (hF : ∀ c r, c < C → r < R → pv_bl C R q kind g S P NE B md vx vy rs K c r) (hS : ∀ p, pv_is C R p → ysrc p = S p ∧ pv_by (S p)) (hP : ∀ p, pv_is C R p → ypic p = P p ∧ pv_by (P p)) (hE : ∀ p, pv_is C R p → pv_by (NE p))
    (hN : ∀ p, pv_dn C R (4 * r + 0) p → ynxt p = NE p) (hmv : pv_mv C R (4 * r + 0) ymd yvx yvy md vx vy)
    (h : ∀ a M VX VY sc df pd : Nat → Int32, (∀ p, pv_dn C R (4 * (r + 1) + 0) p → a p = NE p) → pv_mv C R (4 * (r + 1) + 0) M VX VY md vx vy → J (nI (r + 1)) (nI C) (nI R) (nI g) (nI (4 * C)) (nI (4 * R)) ycn ydn yct ysrc yold ypic a ydec M VX VY ydm ydx ydy pd df sc ysp ysm ysx ysy ysn ysk ydam) :
    ∃ n : Nat, wY_encode_72 post J (nI kind) (nI q) (nI r) n 0 (nI C) (nI R) (nI g) (nI (4 * C)) (nI (4 * R)) ycn ydn yct ysrc yold ypic ynxt ydec ymd yvx yvy ydm ydx ydy yprd ydif ysca ysp ysm ysx ysy ysn ysk ydam := by
  refine loop_0 (fun n c (z : (Nat → Int32) × (Nat → Int32) × (Nat → Int32) × (Nat → Int32) × (Nat → Int32) × (Nat → Int32) × (Nat → Int32)) => wY_encode_72 post J (nI kind) (nI q) (nI r) n (nI c) (nI C) (nI R) (nI g) (nI (4 * C)) (nI (4 * R)) ycn ydn yct ysrc yold ypic z.1 ydec z.2.1 z.2.2.1 z.2.2.2.1 ydm ydx ydy z.2.2.2.2.2.2 z.2.2.2.2.2.1 z.2.2.2.2.1 ysp ysm ysx ysy ysn ysk ydam)
    (fun c z => (∀ p, pv_dn C R (4 * r + c) p → z.1 p = NE p) ∧ pv_mv C R (4 * r + c) z.2.1 z.2.2.1 z.2.2.2.1 md vx vy) C (ynxt, ymd, yvx, yvy, ysca, ydif, yprd) ⟨hN, hmv⟩ (fun n z hz => ?_) (fun n c z hc hz ih => ?_)
  · obtain ⟨a, M, VX, VY, sc, df, pd⟩ := z
    exact br_t (nI_le (by omega) (by omega)) (nm_r (nI_1 r) (h a M VX VY sc df pd (pv_dn_row hC hz.1) (pv_mv_row hC hz.2)))
  · obtain ⟨a, M, VX, VY, sc, df, pd⟩ := z
    obtain ⟨z1, z2⟩ := hz
    dsimp only at z1 z2
    dsimp only
    refine br_f (nI_ge hc (by omega)) ?_
    obtain ⟨f1, f2, f3, f4, f5, f6, f7, f8, f9, f10⟩ := hF c r hc hr
    have ex : pv_gs VX C c r = pv_gs vx C c r := pv_gs_congr hc hr (fun c' r' a1 a2 a3 => (z2 c' r' a1 a2 a3).2.1) hC
    have ey : pv_gs VY C c r = pv_gs vy C c r := pv_gs_congr hc hr (fun c' r' a1 a2 a3 => (z2 c' r' a1 a2 a3).2.2) hC
    have eqP : ∀ m dx dy, m ≤ 5 → (m = 2 → 0 < r) → (m = 3 → 0 < c) → ∀ i, i < 16 → pv_py a ypic C R m c r dx dy i = pv_pr NE P C R m c r dx dy i := fun m dx dy m5 m2 m3 i hi => by
      rw [pv_py_pr m5 m2 m3]
      exact pv_pr_congr hC hR hc hr hi z1 (fun _ p hp => (hP p hp).1)
    have eS : ∀ i, i < 16 → ysrc (pv_at c r i) = S (pv_at c r i) := fun i hi => (hS _ (pv_at_is hC hc hr hi)).1
    refine yq_choose (T := pv_T S NE P C R c r) (W := pv_W S NE P C R c r 5 (pv_gs vx C c r) (pv_gs vy C c r)) (b := 4 * r + c) hC hR hk hq hc hr rfl (fun m dx dy m5 m2 m3 => ?_) ?_ (fun s es => ?_)
    · exact (pv_sd_congr 16 (fun i hi => ⟨(eS i hi).symm, (eqP m dx dy m5 m2 m3 i hi).symm⟩)).1
    · rw [ex, ey]
      refine (pv_sd_congr 16 (fun i hi => ⟨(eS i hi).symm, ?_⟩)).2
      rw [eqP 4 _ _ (by omega) (by omega) (by omega) i hi, pv_pr_hi (show 4 ≤ 5 by omega), pv_pr_hi (show 4 ≤ 4 by omega)]
    · rw [ex, ey, f8] at es
      subst es
      obtain ⟨v1, v2, v3, v4⟩ := f1
      refine yq_rebuild (m := md (4 * r + c)) (dx := vx (4 * r + c)) (dy := vy (4 * r + c)) (b := 4 * r + c) hC hR v2 hq hc hr rfl pk_us pk_us pk_us (fun a' sc' df' pd' w1 w2 => nm_r (nI_1 c) (ih (a', _, _, _, sc', df', pd') ⟨pv_dn_s (by omega) (fun p hp => ?_) (fun i hi => ?_), pv_mv_s hC hc z2⟩))
      · show a' p = NE p
        rw [w2 p (fun i hi e => ?_)]
        · exact z1 p hp
        · have b1 := hp.2
          rw [e, pv_bk_at (by omega) hi] at b1
          omega
      · show a' (pv_at c r i) = NE (pv_at c r i)
        rw [w1 i hi, f7 i hi, pv_yv_rc (S := S) (m := md (4 * r + c)) (fun i hi => (hS _ (pv_at_is hC hc hr hi)).2) (fun i hi => pv_pr_by hC hR hc hr hi (fun p hp => hE p hp.1) (fun p hp => (hP p hp).2)) f9 hi]
        have epr : ∀ i, i < 16 → pv_py a ypic C R (md (4 * r + c)) c r (vx (4 * r + c)) (vy (4 * r + c)) i = pv_pr NE P C R (md (4 * r + c)) c r (vx (4 * r + c)) (vy (4 * r + c)) i := eqP _ _ _ v2 f3 f4
        unfold pv_yv
        rw [epr i hi, eS i hi, pv_ir_congr (f := pv_ic fun j => pv_ms q (fun k => ysrc (pv_at c r k) - pv_py a ypic C R (md (4 * r + c)) c r (vx (4 * r + c)) (vy (4 * r + c)) k) j * nI q) (fun j hj => pv_ic_congr (fun j hj => by rw [pv_ms_congr (fun k hk => by rw [eS k hk, epr k hk]) hj]) hj) hi]
theorem yq_en61 {kind q : Nat} {S P NE B : Nat → Int32} {md : Nat → Nat} {vx vy : Nat → Int32} {rs : Nat → Nat → Int32} {K : Nat → Nat}
    (hC : C ≤ 4) (hR : R ≤ 2) (hC0 : 1 ≤ C) (hR0 : 1 ≤ R) (hk : kind < 2) (hq : q ≤ 40)
    (hF : ∀ c r, c < C → r < R → pv_bl C R q kind g S P NE B md vx vy rs K c r) (hS : ∀ p, pv_is C R p → ysrc p = S p ∧ pv_by (S p)) (hP : ∀ p, pv_is C R p → ypic p = P p ∧ pv_by (P p)) (hE : ∀ p, pv_is C R p → pv_by (NE p))
    (h : ∀ N a M VX VY sc df pd : Nat → Int32, (∀ p, pv_is C R p → N p = NE p) → pv_mv C R (4 * R + 0) M VX VY md vx vy → a = pv_FP C R q M N → wY_encode_208 post (nI kind) (nI C) (nI R) (nI g) (nI (4 * C)) (nI (4 * R)) ycn ydn yct ysrc yold ypic a ydec M VX VY ydm ydx ydy pd df sc ysp ysm ysx ysy ysn ysk ydam) :
    ∃ n : Nat, wY_encode_61 post (nI kind) (nI q) n 0 (nI C) (nI R) (nI g) (nI (4 * C)) (nI (4 * R)) ycn ydn yct ysrc yold ypic ynxt ydec ymd yvx yvy ydm ydx ydy yprd ydif ysca ysp ysm ysx ysy ysn ysk ydam := by
  refine loop_0 (fun n r (z : (Nat → Int32) × (Nat → Int32) × (Nat → Int32) × (Nat → Int32) × (Nat → Int32) × (Nat → Int32) × (Nat → Int32)) => wY_encode_61 post (nI kind) (nI q) n (nI r) (nI C) (nI R) (nI g) (nI (4 * C)) (nI (4 * R)) ycn ydn yct ysrc yold ypic z.1 ydec z.2.1 z.2.2.1 z.2.2.2.1 ydm ydx ydy z.2.2.2.2.2.2 z.2.2.2.2.2.1 z.2.2.2.2.1 ysp ysm ysx ysy ysn ysk ydam)
    (fun r z => (∀ p, pv_dn C R (4 * r + 0) p → z.1 p = NE p) ∧ pv_mv C R (4 * r + 0) z.2.1 z.2.2.1 z.2.2.2.1 md vx vy) R (ynxt, ymd, yvx, yvy, ysca, ydif, yprd) ⟨fun p hp => ?_, fun c' r' a1 a2 a3 => ?_⟩ (fun n z hz => ?_) (fun n r z hr hz ih => ?_)
  · exact absurd hp.2 (by omega)
  · exact absurd a3 (by omega)
  · obtain ⟨a, M, VX, VY, sc, df, pd⟩ := z
    exact br_t (nI_le (by omega) (by omega)) (yq_en112 hC hR hC0 hR0 hq (fun a' h1 => h a a' M VX VY sc df pd (pv_dn_all hz.1) hz.2 h1))
  · obtain ⟨a, M, VX, VY, sc, df, pd⟩ := z
    exact br_f (nI_ge hr (by omega)) (yq_en72 hC hR hr hk hq hF hS hP hE hz.1 hz.2 (fun a' M' VX' VY' sc' df' pd' w1 w2 => ih (a', M', VX', VY', sc', df', pd') ⟨w1, w2⟩))
end
end
section
/-! Y: the rest -/
theorem pv_lt_o {a f : Nat → Int32} {o i : Nat} {x : Int32} (h : ∀ j, j < i → a (o + j) = f j) (hx : x = f i) : ∀ j, j < i + 1 → upd a (o + i) x (o + j) = f j := fun j hj => by
  by_cases e : j = i
  · rw [e, pk_us, hx]
  · rw [pk_un (by omega)]
    exact h j (by omega)
theorem pv_ou {a f : Nat → Int32} {o i n : Nat} {x : Int32} (hi : i < n) (h : ∀ j, (j < o ∨ o + n ≤ j) → a j = f j) : ∀ j, (j < o ∨ o + n ≤ j) → upd a (o + i) x j = f j := fun j hj => by
  rw [pk_un (by omega)]
  exact h j hj
section
variable {C R g : Nat} {ycn ydn yct : Int32} {ysrc yold ypic ynxt ydec ymd yvx yvy ydm ydx ydy yprd ydif ysca ysp ysm ysx ysy ysn ysk ydam : Nat → Int32} {post : Int32 → SY → Prop}
theorem yq_en268 {kind pk : Nat} (hpk : pk < 2)
    (h : ∀ sm sx sy : Nat → Int32, (∀ b, b < 8 → sm (8 * pk + b) = ymd b ∧ sx (8 * pk + b) = yvx b ∧ sy (8 * pk + b) = yvy b) → (∀ b, (b < 8 * pk ∨ 8 * pk + 8 ≤ b) → sm b = ysm b ∧ sx b = ysx b ∧ sy b = ysy b) → post ycn ((nI C), (nI R), (nI g), (nI (4 * C)), (nI (4 * R)), ycn, ydn, nI (pk + 1), ysrc, yold, ypic, ynxt, ydec, ymd, yvx, yvy, ydm, ydx, ydy, yprd, ydif, ysca, ysp, sm, sx, sy, upd ysn pk ycn, upd ysk pk (nI kind), upd ydam pk 0)) :
    ∃ n : Nat, wY_encode_268 post (nI kind) (nI C) (nI R) (nI g) (nI (4 * C)) (nI (4 * R)) ycn ydn (nI pk) n 0 ysrc yold ypic ynxt ydec ymd yvx yvy ydm ydx ydy yprd ydif ysca ysp ysm ysx ysy ysn ysk ydam := by
  refine loop_0 (fun n i (z : (Nat → Int32) × (Nat → Int32) × (Nat → Int32)) => wY_encode_268 post (nI kind) (nI C) (nI R) (nI g) (nI (4 * C)) (nI (4 * R)) ycn ydn (nI pk) n (nI i) ysrc yold ypic ynxt ydec ymd yvx yvy ydm ydx ydy yprd ydif ysca ysp z.1 z.2.1 z.2.2 ysn ysk ydam)
    (fun i z => ((∀ b, b < i → z.1 (8 * pk + b) = ymd b) ∧ (∀ b, b < i → z.2.1 (8 * pk + b) = yvx b) ∧ (∀ b, b < i → z.2.2 (8 * pk + b) = yvy b)) ∧ (∀ b, (b < 8 * pk ∨ 8 * pk + 8 ≤ b) → z.1 b = ysm b) ∧ (∀ b, (b < 8 * pk ∨ 8 * pk + 8 ≤ b) → z.2.1 b = ysx b) ∧ (∀ b, (b < 8 * pk ∨ 8 * pk + 8 ≤ b) → z.2.2 b = ysy b)) 8 (ysm, ysx, ysy) ⟨⟨lt_0, lt_0, lt_0⟩, fun _ _ => rfl, fun _ _ => rfl, fun _ _ => rfl⟩ (fun n z hz => ?_) (fun n i z hi hz ih => ?_)
  · obtain ⟨sm, sx, sy⟩ := z
    obtain ⟨⟨h1, h2, h3⟩, h4, h5, h6⟩ := hz
    have i2 : vp_in (nI pk) 2 := vp_in_nI hpk (by omega)
    refine br_t (nI_le (a := 8) (by omega) (by omega)) ?_
    rw [nI_clamp (by omega), pv_vb0]
    exact ⟨i2, nm_e ⟨i2, nm_e ⟨i2, nm_e (nm_r (nI_1 pk) (h sm sx sy (fun b hb => ⟨h1 b hb, h2 b hb, h3 b hb⟩) (fun b hb => ⟨h4 b hb, h5 b hb, h6 b hb⟩)))⟩⟩⟩
  · obtain ⟨sm, sx, sy⟩ := z
    obtain ⟨⟨h1, h2, h3⟩, h4, h5, h6⟩ := hz
    dsimp only at h1 h2 h3 h4 h5 h6
    have e : nI pk * 8 + nI i = nI (8 * pk + i) := by rw [pv_m8, nI_add, Nat.mul_comm]
    have i8 : vp_in (nI i) 8 := vp_in_nI hi (by omega)
    have i16 : vp_in (nI (8 * pk + i)) 16 := vp_in_nI (by omega) (by omega)
    refine br_f (nI_ge (b := 8) hi (by omega)) ?_
    rw [e, nI_clamp (n := i) (by omega), nI_clamp (n := 8 * pk + i) (by omega)]
    exact ⟨i8, i16, nm_e ⟨i8, i16, nm_e ⟨i8, i16, nm_e (nm_r (nI_1 i) (ih (_, _, _) ⟨⟨pv_lt_o h1 rfl, pv_lt_o h2 rfl, pv_lt_o h3 rfl⟩, pv_ou hi h4, pv_ou hi h5, pv_ou hi h6⟩))⟩⟩⟩
theorem yq_en208 {kind pk cc : Nat} (hpk : pk < 2)
    (h : ∀ pc sp sm sx sy : Nat → Int32, (∀ p, p < 128 → pc p = ynxt p) → (∀ p, p < 128 → sp (128 * pk + p) = ynxt p) → (∀ p, (p < 128 * pk ∨ 128 * pk + 128 ≤ p) → sp p = ysp p) → (∀ b, b < 8 → sm (8 * pk + b) = ymd b ∧ sx (8 * pk + b) = yvx b ∧ sy (8 * pk + b) = yvy b) → (∀ b, (b < 8 * pk ∨ 8 * pk + 8 ≤ b) → sm b = ysm b ∧ sx b = ysx b ∧ sy b = ysy b) →
      post (nI (cc + 1)) ((nI C), (nI R), (nI g), (nI (4 * C)), (nI (4 * R)), nI (cc + 1), ydn, nI (pk + 1), ysrc, yold, pc, ynxt, ydec, ymd, yvx, yvy, ydm, ydx, ydy, yprd, ydif, ysca, sp, sm, sx, sy, upd ysn pk (nI (cc + 1)), upd ysk pk (nI kind), upd ydam pk 0)) :
    wY_encode_208 post (nI kind) (nI C) (nI R) (nI g) (nI (4 * C)) (nI (4 * R)) (nI cc) ydn (nI pk) ysrc yold ypic ynxt ydec ymd yvx yvy ydm ydx ydy yprd ydif ysca ysp ysm ysx ysy ysn ysk ydam := by
  unfold wY_encode_208
  refine nm_r (nI_1 cc) ?_
  refine loop_0 (fun n i (z : (Nat → Int32) × (Nat → Int32)) => wY_encode_220 post (nI kind) (nI C) (nI R) (nI g) (nI (4 * C)) (nI (4 * R)) (nI (cc + 1)) ydn (nI pk) n (nI i) ysrc yold z.1 ynxt ydec ymd yvx yvy ydm ydx ydy yprd ydif ysca z.2 ysm ysx ysy ysn ysk ydam)
    (fun i z => (∀ p, p < i → z.1 p = ynxt p) ∧ (∀ p, p < i → z.2 (128 * pk + p) = ynxt p) ∧ (∀ p, (p < 128 * pk ∨ 128 * pk + 128 ≤ p) → z.2 p = ysp p)) 128 (ypic, ysp) ⟨lt_0, lt_0, fun _ _ => rfl⟩ (fun n z hz => ?_) (fun n i z hi hz ih => ?_)
  · obtain ⟨pc, sp⟩ := z
    obtain ⟨h1, h2, h3⟩ := hz
    exact br_t (nI_le (a := 128) (by omega) (by omega)) (yq_en268 hpk (fun sm sx sy w1 w2 => h pc sp sm sx sy h1 h2 h3 w1 w2))
  · obtain ⟨pc, sp⟩ := z
    obtain ⟨h1, h2, h3⟩ := hz
    dsimp only at h1 h2 h3
    have e : nI pk * 128 + nI i = nI (128 * pk + i) := by rw [pv_m128, nI_add, Nat.mul_comm]
    have i1 : vp_in (nI i) 128 := vp_in_nI hi (by omega)
    refine br_f (nI_ge (b := 128) hi (by omega)) ?_
    rw [e, nI_clamp (n := i) (by omega), nI_clamp (n := 128 * pk + i) (by omega)]
    exact ⟨i1, i1, nm_e ⟨i1, vp_in_nI (by omega) (by omega), nm_e (nm_r (nI_1 i) (ih (_, _) ⟨pv_lt_s h1 rfl, pv_lt_o h2 rfl, pv_ou hi h3⟩))⟩⟩
theorem yq_move {post : SY → Prop}
    (h : ∀ sp sm sx sy : Nat → Int32, (∀ p, p < 128 → sp p = ysp (128 + p)) → (∀ b, b < 8 → sm b = ysm (8 + b) ∧ sx b = ysx (8 + b) ∧ sy b = ysy (8 + b)) → post ((nI C), (nI R), (nI g), (nI (4 * C)), (nI (4 * R)), ycn, ydn, yct, ysrc, yold, ypic, ynxt, ydec, ymd, yvx, yvy, ydm, ydx, ydy, yprd, ydif, ysca, sp, sm, sx, sy, upd ysn 0 (ysn 1), upd ysk 0 (ysk 1), upd ydam 0 (vp_nar .boolean (ydam 1)))) :
    wpY_moveDown post ((nI C), (nI R), (nI g), (nI (4 * C)), (nI (4 * R)), ycn, ydn, yct, ysrc, yold, ypic, ynxt, ydec, ymd, yvx, yvy, ydm, ydx, ydy, yprd, ydif, ysca, ysp, ysm, ysx, ysy, ysn, ysk, ydam) := by
  unfold wpY_moveDown
  refine loop_0 (fun n i a => wY_moveDown_2 post (nI C) (nI R) (nI g) (nI (4 * C)) (nI (4 * R)) ycn ydn yct n (nI i) ysrc yold ypic ynxt ydec ymd yvx yvy ydm ydx ydy yprd ydif ysca a ysm ysx ysy ysn ysk ydam) (fun i a => (∀ p, p < i → a p = ysp (128 + p)) ∧ (∀ p, 128 ≤ p → a p = ysp p)) 128 ysp ⟨lt_0, fun _ _ => rfl⟩ (fun n a ha => ?_) (fun n i a hi ha ih => ?_)
  · refine br_t (nI_le (a := 128) (by omega) (by omega)) ?_
    refine loop_0 (fun n i (z : (Nat → Int32) × (Nat → Int32) × (Nat → Int32)) => wY_moveDown_33 post (nI C) (nI R) (nI g) (nI (4 * C)) (nI (4 * R)) ycn ydn yct n (nI i) ysrc yold ypic ynxt ydec ymd yvx yvy ydm ydx ydy yprd ydif ysca a z.1 z.2.1 z.2.2 ysn ysk ydam)
      (fun i z => ((∀ b, b < i → z.1 b = ysm (8 + b)) ∧ (∀ b, b < i → z.2.1 b = ysx (8 + b)) ∧ (∀ b, b < i → z.2.2 b = ysy (8 + b))) ∧ (∀ b, 8 ≤ b → z.1 b = ysm b) ∧ (∀ b, 8 ≤ b → z.2.1 b = ysx b) ∧ (∀ b, 8 ≤ b → z.2.2 b = ysy b)) 8 (ysm, ysx, ysy) ⟨⟨lt_0, lt_0, lt_0⟩, fun _ _ => rfl, fun _ _ => rfl, fun _ _ => rfl⟩ (fun n z hz => ?_) (fun n i z hi hz ih => ?_)
    · obtain ⟨sm, sx, sy⟩ := z
      obtain ⟨⟨h1, h2, h3⟩, h4, h5, h6⟩ := hz
      exact br_t (nI_le (a := 8) (by omega) (by omega)) (nm_e (nm_e (nm_e (h a sm sx sy ha.1 (fun b hb => ⟨h1 b hb, h2 b hb, h3 b hb⟩)))))
    · obtain ⟨sm, sx, sy⟩ := z
      obtain ⟨⟨h1, h2, h3⟩, h4, h5, h6⟩ := hz
      dsimp only at h1 h2 h3 h4 h5 h6
      have i1 : vp_in (nI i) 16 := vp_in_nI (by omega) (by omega)
      have i2 : vp_in (nI (8 + i)) 16 := vp_in_nI (by omega) (by omega)
      have keep : ∀ {f a : Nat → Int32} {x : Int32}, (∀ b, 8 ≤ b → a b = f b) → ∀ b, 8 ≤ b → upd a i x b = f b := fun {f a x} hf b hb => by
        rw [pk_un (by omega)]
        exact hf b hb
      refine br_f (nI_ge (b := 8) hi (by omega)) ?_
      rw [pv_8a, nI_clamp (n := i) (by omega), nI_clamp (n := 8 + i) (by omega)]
      exact ⟨i2, i1, nm_e ⟨i2, i1, nm_e ⟨i2, i1, nm_e (nm_r (nI_1 i) (ih (_, _, _) ⟨⟨pv_lt_s h1 (h4 _ (by omega)), pv_lt_s h2 (h5 _ (by omega)), pv_lt_s h3 (h6 _ (by omega))⟩, keep h4, keep h5, keep h6⟩))⟩⟩⟩
  · refine br_f (nI_ge (b := 128) hi (by omega)) ?_
    rw [pv_128a, nI_clamp (n := i) (by omega), nI_clamp (n := 128 + i) (by omega)]
    refine ⟨vp_in_nI (by omega) (by omega), vp_in_nI (by omega) (by omega), nm_e (nm_r (nI_1 i) (ih _ ⟨pv_lt_s ha.1 (ha.2 _ (by omega)), fun p hp => ?_⟩))⟩
    rw [pk_un (by omega)]
    exact ha.2 p hp
theorem yq_rc188 {i ct : Nat} {x2 : Int32} (hi : i < ct) (hct : ct ≤ 2)
    (h0 : i = 0 → ∀ sp sm sx sy : Nat → Int32, (∀ p, p < 128 → sp p = ysp (128 + p)) → (∀ b, b < 8 → sm b = ysm (8 + b) ∧ sx b = ysx (8 + b) ∧ sy b = ysy (8 + b)) → post x2 ((nI C), (nI R), (nI g), (nI (4 * C)), (nI (4 * R)), ycn, ydn, nI (ct - 1), ysrc, yold, ypic, ynxt, ydec, ymd, yvx, yvy, ydm, ydx, ydy, yprd, ydif, ysca, sp, sm, sx, sy, upd ysn 0 (ysn 1), upd ysk 0 (ysk 1), upd ydam 0 (vp_nar .boolean (ydam 1))))
    (h1 : i ≠ 0 → post x2 ((nI C), (nI R), (nI g), (nI (4 * C)), (nI (4 * R)), ycn, ydn, nI (ct - 1), ysrc, yold, ypic, ynxt, ydec, ymd, yvx, yvy, ydm, ydx, ydy, yprd, ydif, ysca, ysp, ysm, ysx, ysy, ysn, ysk, ydam)) : wY_receive_188 post (nI i) x2 (nI C) (nI R) (nI g) (nI (4 * C)) (nI (4 * R)) ycn ydn (nI ct) ysrc yold ypic ynxt ydec ymd yvx yvy ydm ydx ydy yprd ydif ysca ysp ysm ysx ysy ysn ysk ydam := by
  unfold wY_receive_188 wY_receive_196
  have e : nI ct - 1 = nI (ct - 1) := pv_s1 (by omega)
  by_cases i0 : i = 0
  · refine br_t (congrArg nI i0) (yq_move (fun sp sm sx sy w1 w2 => ?_))
    exact nm_r e (h0 i0 sp sm sx sy w1 w2)
  · exact br_f (nI_ne0 (by omega) (by omega)) (nm_r e (h1 i0))
theorem yq_rc92 {i : Nat} {x2 : Int32} (hi : i < 2)
    (h : ∀ dc dm dx dy : Nat → Int32, (∀ p, p < 128 → dc p = ysp (128 * i + p)) → (∀ b, b < 8 → dm b = ysm (8 * i + b) ∧ dx b = ysx (8 * i + b) ∧ dy b = ysy (8 * i + b)) → wY_receive_188 post (nI i) x2 (nI C) (nI R) (nI g) (nI (4 * C)) (nI (4 * R)) ycn ydn yct ysrc yold ypic ynxt dc ymd yvx yvy dm dx dy yprd ydif ysca ysp ysm ysx ysy ysn ysk ydam) : ∃ n : Nat, wY_receive_92 post (nI i) x2 (nI C) (nI R) (nI g) (nI (4 * C)) (nI (4 * R)) ycn ydn yct n 0 ysrc yold ypic ynxt ydec ymd yvx yvy ydm ydx ydy yprd ydif ysca ysp ysm ysx ysy ysn ysk ydam := by
  refine loop_0 (fun n j a => wY_receive_92 post (nI i) x2 (nI C) (nI R) (nI g) (nI (4 * C)) (nI (4 * R)) ycn ydn yct n (nI j) ysrc yold ypic ynxt a ymd yvx yvy ydm ydx ydy yprd ydif ysca ysp ysm ysx ysy ysn ysk ydam) (fun j a => ∀ p, p < j → a p = ysp (128 * i + p)) 128 ydec lt_0 (fun n a ha => ?_) (fun n j a hj ha ih => ?_)
  · refine br_t (nI_le (a := 128) (by omega) (by omega)) ?_
    refine loop_0 (fun n j (z : (Nat → Int32) × (Nat → Int32) × (Nat → Int32)) => wY_receive_125 post (nI i) x2 (nI C) (nI R) (nI g) (nI (4 * C)) (nI (4 * R)) ycn ydn yct n (nI j) ysrc yold ypic ynxt a ymd yvx yvy z.1 z.2.1 z.2.2 yprd ydif ysca ysp ysm ysx ysy ysn ysk ydam)
      (fun j z => (∀ b, b < j → z.1 b = ysm (8 * i + b)) ∧ (∀ b, b < j → z.2.1 b = ysx (8 * i + b)) ∧ (∀ b, b < j → z.2.2 b = ysy (8 * i + b))) 8 (ydm, ydx, ydy) ⟨lt_0, lt_0, lt_0⟩ (fun n z hz => ?_) (fun n j z hj hz ih => ?_)
    · exact br_t (nI_le (a := 8) (by omega) (by omega)) (h a z.1 z.2.1 z.2.2 ha (fun b hb => ⟨hz.1 b hb, hz.2.1 b hb, hz.2.2 b hb⟩))
    · obtain ⟨dm, dx, dy⟩ := z
      obtain ⟨h1, h2, h3⟩ := hz
      dsimp only at h1 h2 h3
      have e : nI i * 8 + nI j = nI (8 * i + j) := by rw [pv_m8, nI_add, Nat.mul_comm]
      have i8 : vp_in (nI j) 8 := vp_in_nI hj (by omega)
      have i16 : vp_in (nI (8 * i + j)) 16 := vp_in_nI (by omega) (by omega)
      refine br_f (nI_ge (b := 8) hj (by omega)) ?_
      rw [e, nI_clamp (n := j) (by omega), nI_clamp (n := 8 * i + j) (by omega)]
      exact ⟨i16, i8, nm_e ⟨i16, i8, nm_e ⟨i16, i8, nm_e (nm_r (nI_1 j) (ih (_, _, _) ⟨pv_lt_s h1 rfl, pv_lt_s h2 rfl, pv_lt_s h3 rfl⟩))⟩⟩⟩
  · have e : nI i * 128 + nI j = nI (128 * i + j) := by rw [pv_m128, nI_add, Nat.mul_comm]
    refine br_f (nI_ge (b := 128) hj (by omega)) ?_
    rw [e, nI_clamp (n := j) (by omega), nI_clamp (n := 128 * i + j) (by omega)]
    exact ⟨vp_in_nI (by omega) (by omega), vp_in_nI (by omega) (by omega), nm_e (nm_r (nI_1 j) (ih _ (pv_lt_s ha rfl)))⟩
theorem yq_restart {post : SY → Prop}
    (h : ∀ pc dc dm dx dy : Nat → Int32, (∀ p, p < 128 → pc p = 0 ∧ dc p = 0) → (∀ b, b < 8 → dm b = 0 ∧ dx b = 0 ∧ dy b = 0) → post ((nI C), (nI R), (nI g), (nI (4 * C)), (nI (4 * R)), 0, 0, 0, ysrc, yold, pc, ynxt, dc, ymd, yvx, yvy, dm, dx, dy, yprd, ydif, ysca, ysp, ysm, ysx, ysy, ysn, ysk, ydam)) : wpY_restart post ((nI C), (nI R), (nI g), (nI (4 * C)), (nI (4 * R)), ycn, ydn, yct, ysrc, yold, ypic, ynxt, ydec, ymd, yvx, yvy, ydm, ydx, ydy, yprd, ydif, ysca, ysp, ysm, ysx, ysy, ysn, ysk, ydam) := by
  unfold wpY_restart
  refine loop_0 (fun n i (z : (Nat → Int32) × (Nat → Int32)) => wY_restart_17 post (nI C) (nI R) (nI g) (nI (4 * C)) (nI (4 * R)) 0 0 0 n (nI i) ysrc yold z.1 ynxt z.2 ymd yvx yvy ydm ydx ydy yprd ydif ysca ysp ysm ysx ysy ysn ysk ydam) (fun i z => (∀ p, p < i → z.1 p = 0) ∧ (∀ p, p < i → z.2 p = 0)) 128 (ypic, ydec) ⟨lt_0, lt_0⟩ (fun n z hz => ?_) (fun n i z hi hz ih => ?_)
  · refine br_t (nI_le (a := 128) (by omega) (by omega)) ?_
    refine loop_0 (fun n j (y : (Nat → Int32) × (Nat → Int32) × (Nat → Int32)) => wY_restart_46 post (nI C) (nI R) (nI g) (nI (4 * C)) (nI (4 * R)) 0 0 0 n (nI j) ysrc yold z.1 ynxt z.2 ymd yvx yvy y.1 y.2.1 y.2.2 yprd ydif ysca ysp ysm ysx ysy ysn ysk ydam)
      (fun j y => (∀ b, b < j → y.1 b = 0) ∧ (∀ b, b < j → y.2.1 b = 0) ∧ (∀ b, b < j → y.2.2 b = 0)) 8 (ydm, ydx, ydy) ⟨lt_0, lt_0, lt_0⟩ (fun n y hy => ?_) (fun n j y hj hy ih => ?_)
    · exact br_t (nI_le (a := 8) (by omega) (by omega)) (h z.1 z.2 y.1 y.2.1 y.2.2 (fun p hp => ⟨hz.1 p hp, hz.2 p hp⟩) (fun b hb => ⟨hy.1 b hb, hy.2.1 b hb, hy.2.2 b hb⟩))
    · have i8 : vp_in (nI j) 8 := vp_in_nI hj (by omega)
      refine br_f (nI_ge (b := 8) hj (by omega)) ?_
      rw [nI_clamp (by omega)]
      exact ⟨i8, nm_e ⟨i8, nm_e ⟨i8, nm_e (nm_r (nI_1 j) (ih (_, _, _) ⟨pv_lt_s hy.1 rfl, pv_lt_s hy.2.1 rfl, pv_lt_s hy.2.2 rfl⟩))⟩⟩⟩
  · have i1 : vp_in (nI i) 128 := vp_in_nI hi (by omega)
    refine br_f (nI_ge (b := 128) hi (by omega)) ?_
    rw [nI_clamp (by omega)]
    exact ⟨i1, nm_e ⟨i1, nm_e (nm_r (nI_1 i) (ih (_, _) ⟨pv_lt_s hz.1 rfl, pv_lt_s hz.2 rfl⟩))⟩⟩
end
end
section
/-! X: packets -/
def pv_ck (B : Nat → Int32) : Nat → Nat
  | 0 => 0
  | n + 1 => pv_ck B n + (if 32 ≤ n ∧ ¬ B n = 0 then n else 0)
theorem pv_ck_le (B : Nat → Int32) : ∀ n, n ≤ 4096 → pv_ck B n ≤ 4096 * n
  | 0, _ => Nat.le_refl _
  | n + 1, h => by
    have a := pv_ck_le B n (by omega)
    show pv_ck B n + (if 32 ≤ n ∧ ¬ B n = 0 then n else 0) ≤ _
    split <;> omega
theorem pv_ck_32 (B : Nat → Int32) : ∀ n, n ≤ 32 → pv_ck B n = 0
  | 0, _ => rfl
  | n + 1, h => by
    have a := pv_ck_32 B n (by omega)
    show pv_ck B n + (if 32 ≤ n ∧ ¬ B n = 0 then n else 0) = 0
    rw [a, if_neg (fun k => by omega)]
theorem pv_ck_congr {B B' : Nat → Int32} : ∀ n, (∀ j, 32 ≤ j → j < n → B' j = B j) → pv_ck B' n = pv_ck B n
  | 0, _ => rfl
  | n + 1, h => by
    have a := pv_ck_congr n (fun j j1 j2 => h j j1 (by omega))
    show pv_ck B' n + (if 32 ≤ n ∧ ¬ B' n = 0 then n else 0) = pv_ck B n + (if 32 ≤ n ∧ ¬ B n = 0 then n else 0)
    rw [a]
    by_cases c : 32 ≤ n
    · rw [h n c (by omega)]
    · rw [if_neg (fun k => c k.1), if_neg (fun k => c k.1)]
def pv_ok (B : Nat → Int32) (L : Nat) : Prop := 44 ≤ L ∧ pv_bn B 0 16 = L ∧ pv_bn B 16 16 = pv_ck B L % 65536
section
variable {C R g : Nat} {qa1 qa2 qa3 qa4 xcc xdc xpk xfi xsl xcu xrf xpx xpy xbc xbl xto xwo xwr : Int32} {pix xmd xvx xvy sem sev prd rsd bts len tgs dam : Nat → Int32}
theorem xq_check {post : Int32 → Prop} {s L : Nat} (hs : s < 2) (hL : L ≤ 4096) (hl : len s = nI L) (h : post (nI (pv_ck (pv_sl bts s) L % 65536))) : wpX_checksum post (qa1, qa2, qa3, qa4, (nI C), (nI R), (nI g), (nI (4 * C)), (nI (4 * R)), xcc, xdc, xpk, xfi, nI s, xcu, xrf, xpx, xpy, xbc, xbl, xto, xwo, xwr, pix, xmd, xvx, xvy, sem, sev, prd, rsd, bts, len, tgs, dam) := by
  unfold wpX_checksum
  have hi : vp_in (nI s) 2 := vp_in_nI hs (by omega)
  have es : (nI s).toNatClampNeg = s := nI_clamp (by omega)
  refine pk_loop (fun n i (a : Int32) => wX_checksum_5 post qa1 qa2 qa3 qa4 (nI C) (nI R) (nI g) (nI (4 * C)) (nI (4 * R)) xcc xdc xpk xfi (nI s) xcu xrf xpx xpy xbc xbl xto xwo xwr pix xmd xvx xvy sem sev prd rsd bts len tgs dam n a (nI i)) (fun i a => 32 ≤ i ∧ a = nI (pv_ck (pv_sl bts s) i)) (if 32 ≤ L then L else 32) 32 0 (by split <;> omega) ?_ (fun n a ha => ?_) (fun n i a hi2 ha ih => ?_)
  · refine ⟨by omega, ?_⟩
    rw [pv_ck_32 _ 32 (by omega)]
    rfl
  · obtain ⟨-, ha⟩ := ha
    refine ⟨hi, ?_⟩
    rw [es, hl]
    have ec : pv_ck (pv_sl bts s) (if 32 ≤ L then L else 32) = pv_ck (pv_sl bts s) L := by
      split
      · rfl
      · rw [pv_ck_32 _ 32 (by omega), pv_ck_32 _ L (by omega)]
    have hb := pv_ck_le (pv_sl bts s) L hL
    refine br_t (nI_le (by split <;> omega) (by split <;> omega)) ?_
    rw [ha, ec, pv_and64k (by omega)]
    exact h
  · obtain ⟨i32, ha⟩ := ha
    have hi3 : i < L := by
      by_cases h32 : 32 ≤ L
      · rw [if_pos h32] at hi2
        exact hi2
      · rw [if_neg h32] at hi2
        omega
    refine ⟨hi, ?_⟩
    rw [es, hl]
    refine br_f (nI_ge hi3 (by omega)) (br_f (nI_ge (b := 4096) (by omega) (by omega)) ?_)
    rw [pv_4096m, nI_add, nI_clamp (n := 4096 * s + i) (by omega)]
    refine ⟨vp_in_nI (by omega) (by omega), br_c (fun e => nm_r (nI_1 i) (ih _ ⟨by omega, ?_⟩)) (fun e => nm_e (nm_r (nI_1 i) (ih _ ⟨by omega, ?_⟩)))⟩
    · rw [ha]
      show _ = nI (pv_ck (pv_sl bts s) i + (if 32 ≤ i ∧ ¬ bts (4096 * s + i) = 0 then i else 0))
      rw [if_neg (fun k => k.2 e), Nat.add_zero]
    · rw [ha, nI_add]
      show _ = nI (pv_ck (pv_sl bts s) i + (if 32 ≤ i ∧ ¬ bts (4096 * s + i) = 0 then i else 0))
      rw [if_pos ⟨i32, e⟩]
theorem pv_head : ∀ a, a < 17 → ∀ k, k < 2 → ∀ q, q < 41 → ((nI a <<< ((7 : Int32) &&& 31)) ||| (nI k <<< ((6 : Int32) &&& 31))) ||| nI q = nI (a * 128 + k * 64 + q) := by decide +kernel
theorem xq_open {post : SX → Prop} {cc fi pk kind q : Nat} (hcc : cc < 17) (hfi : fi ≤ 1) (hpk : pk < 2) (hk : kind < 2) (hq : q ≤ 40)
    (h : ∀ b : Nat → Int32, (∀ j, (j < 4096 * ((fi + pk) % 2) + 32 ∨ 4096 * ((fi + pk) % 2) + 44 ≤ j) → b j = bts j) → (pv_01 bts → pv_01 b) → pv_bn (pv_sl b ((fi + pk) % 2)) 32 12 = cc * 128 + kind * 64 + q →
      post (qa1, qa2, qa3, qa4, (nI C), (nI R), (nI g), (nI (4 * C)), (nI (4 * R)), nI cc, xdc, nI (pk + 1), nI fi, nI ((fi + pk) % 2), nI 44, xrf, xpx, xpy, xbc, xbl, xto, xwo, 1, pix, xmd, xvx, xvy, sem, sev, prd, rsd, b, len, upd tgs ((fi + pk) % 2) (nI (if kind = 0 then cc + 32 else cc)), upd dam ((fi + pk) % 2) 0)) :
    wpX_openPacket post (qa1, qa2, qa3, qa4, (nI C), (nI R), (nI g), (nI (4 * C)), (nI (4 * R)), nI cc, xdc, nI pk, nI fi, xsl, xcu, xrf, xpx, xpy, xbc, xbl, xto, xwo, xwr, pix, xmd, xvx, xvy, sem, sev, prd, rsd, bts, len, tgs, dam) (nI kind) (nI q) := by
  unfold wpX_openPacket
  refine nm_r (e' := nI ((fi + pk) % 2)) (by rw [nI_add, pv_and1 (by omega)]) (nm_r (nI_1 pk) ?_)
  have hs : (fi + pk) % 2 < 2 := Nat.mod_lt _ (by decide)
  generalize (fi + pk) % 2 = s at hs h ⊢
  have i2 : vp_in (nI s) 2 := vp_in_nI hs (by omega)
  have L : ∀ z : Int32, z = nI (if kind = 0 then cc + 32 else cc) → wX_openPacket_51 post (nI kind) (nI q) z (nI s) qa1 qa2 qa3 qa4 (nI C) (nI R) (nI g) (nI (4 * C)) (nI (4 * R)) (nI cc) xdc (nI (pk + 1)) (nI fi) (nI s) xcu xrf xpx xpy xbc xbl xto xwo xwr pix xmd xvx xvy sem sev prd rsd bts len tgs dam := fun z ez => by
    unfold wX_openPacket_51
    rw [nI_clamp (by omega), pv_vb0, pv_head cc hcc kind hk q (by omega), ez]
    have hV : cc * 128 + kind * 64 + q < 4096 := by omega
    refine ⟨i2, nm_e ⟨i2, nm_e (xq_carryW (cu := 32) (n := 12) hs (by omega) (by omega) (by omega) (fun b b1 b2 b3 => h b (fun j hj => b1 j (by omega)) b2 ?_))⟩⟩
    rw [b3]
    exact Nat.mod_eq_of_lt hV
  refine br_c (fun e => ?_) (fun e => ?_)
  · have k0 : kind = 0 := (nI_eq (b := 0) (by omega) (by omega)).mp e
    exact L _ (by rw [if_pos k0]; exact nI_add cc 32)
  · have k0 : ¬ kind = 0 := fun z => e (congrArg nI z)
    exact L _ (by rw [if_neg k0])
theorem xq_close {post : SX → Prop} {s L : Nat} (hs : s < 2) (hL : L ≤ 4000) (hL2 : 44 ≤ L)
    (h : ∀ b : Nat → Int32, (∀ j, (j < 4096 * s ∨ 4096 * s + 32 ≤ j) → b j = bts j) → (pv_01 bts → pv_01 b) → pv_ok (pv_sl b s) L → post (qa1, qa2, qa3, qa4, (nI C), (nI R), (nI g), (nI (4 * C)), (nI (4 * R)), xcc, xdc, xpk, xfi, nI s, nI 32, xrf, xpx, xpy, xbc, xbl, xto, xwo, 1, pix, xmd, xvx, xvy, sem, sev, prd, rsd, b, upd len s (nI L), tgs, dam)) :
    wpX_closePacket post (qa1, qa2, qa3, qa4, (nI C), (nI R), (nI g), (nI (4 * C)), (nI (4 * R)), xcc, xdc, xpk, xfi, nI s, nI L, xrf, xpx, xpy, xbc, xbl, xto, xwo, 1, pix, xmd, xvx, xvy, sem, sev, prd, rsd, bts, len, tgs, dam) := by
  unfold wpX_closePacket
  have i2 : vp_in (nI s) 2 := vp_in_nI hs (by omega)
  have es : (nI s).toNatClampNeg = s := nI_clamp (by omega)
  refine ⟨i2, nm_r (congrArg (fun k => upd len k (nI L)) es) ?_⟩
  refine xq_check (len := upd len s (nI L)) hs (by omega) pk_us ⟨i2, ?_⟩
  rw [es, pk_us]
  refine xq_carryW (cu := 0) (n := 16) hs (by omega) (by omega) (by omega) (fun b1 t1 t2 t3 => ?_)
  have hm : pv_ck (pv_sl bts s) L % 65536 < 65536 := Nat.mod_lt _ (by decide)
  refine xq_carryW (cu := 16) (n := 16) hs (by omega) (by omega) (by omega) (fun b2 u1 u2 u3 => h b2 (fun j hj => ?_) (fun z => u2 (t2 z)) ⟨hL2, ?_, ?_⟩)
  · rw [u1 j (by omega), t1 j (by omega)]
  · rw [pv_bn_congr (B' := pv_sl b1 s) 16 (fun j hj => u1 _ (by omega)), t3]
    exact Nat.mod_eq_of_lt (by omega)
  · rw [u3, pv_ck_congr (B := pv_sl bts s) (B' := pv_sl b2 s) L (fun j j1 j2 => ?_)]
    · exact Nat.mod_eq_of_lt hm
    · show b2 (4096 * s + j) = bts (4096 * s + j)
      rw [u1 _ (by omega), t1 _ (by omega)]
theorem xq_intact {post : Int32 → SX → Prop} {s L : Nat} (hs : s < 2) (hL : L ≤ 4096) (hl : len s = nI L)
    (h1 : pv_ok (pv_sl bts s) L → post 1 (qa1, qa2, qa3, qa4, (nI C), (nI R), (nI g), (nI (4 * C)), (nI (4 * R)), xcc, xdc, xpk, xfi, nI s, nI 32, xrf, xpx, xpy, xbc, xbl, xto, xwo, 0, pix, xmd, xvx, xvy, sem, sev, prd, rsd, bts, len, tgs, dam)) (h0 : ¬ pv_ok (pv_sl bts s) L → post 0 (qa1, qa2, qa3, qa4, (nI C), (nI R), (nI g), (nI (4 * C)), (nI (4 * R)), xcc, xdc, xpk, xfi, nI s, nI 32, xrf, xpx, xpy, xbc, xbl, xto, xwo, 0, pix, xmd, xvx, xvy, sem, sev, prd, rsd, bts, len, tgs, dam)) :
    wpX_intact post (qa1, qa2, qa3, qa4, (nI C), (nI R), (nI g), (nI (4 * C)), (nI (4 * R)), xcc, xdc, xpk, xfi, nI s, xcu, xrf, xpx, xpy, xbc, xbl, xto, xwo, xwr, pix, xmd, xvx, xvy, sem, sev, prd, rsd, bts, len, tgs, dam) := by
  unfold wpX_intact
  have i2 : vp_in (nI s) 2 := vp_in_nI hs (by omega)
  have es : (nI s).toNatClampNeg = s := nI_clamp (by omega)
  have l1 := pv_bn_lt (pv_sl bts s) 0 16
  have l2 := pv_bn_lt (pv_sl bts s) 16 16
  refine xq_carryR (cu := 0) (n := 16) hs (by omega) (by omega) ?_
  refine xq_carryR (cu := 16) (n := 16) hs (by omega) (by omega) ⟨i2, ?_⟩
  rw [es, hl]
  by_cases c1 : L < 44
  · exact br_t (nI_lt (b := 44) c1 (by omega)) (h0 (fun z => by have := z.1; omega))
  · refine br_f (nI_nlt (b := 44) (by omega) (by omega)) ⟨i2, ?_⟩
    by_cases c2 : pv_bn (pv_sl bts s) 0 16 = L
    · refine br_t (congrArg nI c2) ?_
      refine xq_check hs hL hl ?_
      have l3 : pv_ck (pv_sl bts s) L % 65536 < 65536 := Nat.mod_lt _ (by decide)
      by_cases c3 : pv_bn (pv_sl bts s) 16 16 = pv_ck (pv_sl bts s) L % 65536
      · exact br_t (congrArg nI c3) (h1 ⟨by omega, c2, c3⟩)
      · exact br_f (fun z => c3 ((nI_eq (by omega) (by omega)).mp z)) (h0 (fun z => c3 z.2.2))
    · exact br_f (fun z => c2 ((nI_eq (by omega) (by omega)).mp z)) (h0 (fun z => c2 z.2.1))
theorem xq_pad {post : SX → Prop} {s L n : Nat} (hs : s < 2) (hn : n ≤ 16) (hL : L + n ≤ 4096) (hl : len s = nI L)
    (h : ∀ b : Nat → Int32, (∀ j, (j < 4096 * s + L ∨ 4096 * s + L + n ≤ j) → b j = bts j) → (pv_01 bts → pv_01 b) → post (qa1, qa2, qa3, qa4, (nI C), (nI R), (nI g), (nI (4 * C)), (nI (4 * R)), xcc, xdc, xpk, xfi, nI s, nI (L + n), xrf, xpx, xpy, xbc, xbl, xto, xwo, 1, pix, xmd, xvx, xvy, sem, sev, prd, rsd, b, upd len s (nI (L + n)), tgs, dam)) :
    wpX_pad post (qa1, qa2, qa3, qa4, (nI C), (nI R), (nI g), (nI (4 * C)), (nI (4 * R)), xcc, xdc, xpk, xfi, nI s, xcu, xrf, xpx, xpy, xbc, xbl, xto, xwo, xwr, pix, xmd, xvx, xvy, sem, sev, prd, rsd, bts, len, tgs, dam) (nI n) := by
  unfold wpX_pad
  have i2 : vp_in (nI s) 2 := vp_in_nI hs (by omega)
  have es : (nI s).toNatClampNeg = s := nI_clamp (by omega)
  refine ⟨i2, nm_r ((congrArg len es).trans hl) ?_⟩
  refine xq_carryW (V := 0) hs hn hL (by omega) (fun b b1 b2 b3 => ⟨i2, ?_⟩)
  rw [es]
  exact nm_e (h b b1 b2)
theorem xq_seen {post : Int32 → SX → Prop} (h : ∀ sm sv : Nat → Int32, (∀ b, b < 8 → sm b = xmd b ∧ sv b = 10 * xvy b + xvx b) → post 1 (qa1, qa2, qa3, qa4, (nI C), (nI R), (nI g), (nI (4 * C)), (nI (4 * R)), xcc, xdc, xpk, xfi, xsl, xcu, xrf, xpx, xpy, xbc, xbl, xto, xwo, xwr, pix, xmd, xvx, xvy, sm, sv, prd, rsd, bts, len, tgs, dam)) : ∃ n : Nat, wX_readPacket_76 post qa1 qa2 qa3 qa4 (nI C) (nI R) (nI g) (nI (4 * C)) (nI (4 * R)) xcc xdc xpk xfi xsl xcu xrf xpx xpy xbc xbl xto xwo xwr n 0 pix xmd xvx xvy sem sev prd rsd bts len tgs dam := by
  refine loop_0 (fun n i a => wX_readPacket_76 post qa1 qa2 qa3 qa4 (nI C) (nI R) (nI g) (nI (4 * C)) (nI (4 * R)) xcc xdc xpk xfi xsl xcu xrf xpx xpy xbc xbl xto xwo xwr n (nI i) pix xmd xvx xvy a sev prd rsd bts len tgs dam) (fun i a => ∀ b, b < i → a b = xmd b) 8 sem lt_0 (fun n a ha => ?_) (fun n i a hi ha ih => ?_)
  · refine br_t (nI_le (a := 8) (by omega) (by omega)) ?_
    refine loop_0 (fun n i v => wX_readPacket_106 post qa1 qa2 qa3 qa4 (nI C) (nI R) (nI g) (nI (4 * C)) (nI (4 * R)) xcc xdc xpk xfi xsl xcu xrf xpx xpy xbc xbl xto xwo xwr n (nI i) pix xmd xvx xvy a v prd rsd bts len tgs dam) (fun i v => ∀ b, b < i → v b = 10 * xvy b + xvx b) 8 sev lt_0 (fun n v hv => ?_) (fun n i v hi hv ih => ?_)
    · exact br_t (nI_le (a := 8) (by omega) (by omega)) (h a v (fun b hb => ⟨ha b hb, hv b hb⟩))
    · refine br_f (nI_ge (b := 8) hi (by omega)) ?_
      rw [nI_clamp (by omega)]
      exact ⟨vp_in_nI (by omega) (by omega), vp_in_nI (by omega) (by omega), vp_in_nI hi (by omega), nm_e (nm_r (nI_1 i) (ih _ (pv_lt_s hv rfl)))⟩
  · refine br_f (nI_ge (b := 8) hi (by omega)) ?_
    rw [nI_clamp (by omega)]
    exact ⟨vp_in_nI hi (by omega), vp_in_nI hi (by omega), nm_e (nm_r (nI_1 i) (ih _ (pv_lt_s ha rfl)))⟩
theorem xq_readBad {post : Int32 → SX → Prop} {s L : Nat} (hs : s < 2) (hL : L ≤ 4096) (hl : len s = nI L) (hb : ¬ pv_ok (pv_sl bts s) L) (h : post 2 (qa1, qa2, qa3, qa4, (nI C), (nI R), (nI g), (nI (4 * C)), (nI (4 * R)), xcc, xdc, xpk, xfi, nI s, nI 32, xrf, xpx, xpy, xbc, xbl, xto, xwo, 0, pix, xmd, xvx, xvy, sem, sev, prd, rsd, bts, len, tgs, dam)) : wpX_readPacket post (qa1, qa2, qa3, qa4, (nI C), (nI R), (nI g), (nI (4 * C)), (nI (4 * R)), xcc, xdc, xpk, xfi, nI s, xcu, xrf, xpx, xpy, xbc, xbl, xto, xwo, xwr, pix, xmd, xvx, xvy, sem, sev, prd, rsd, bts, len, tgs, dam) := by
  unfold wpX_readPacket
  exact xq_intact hs hL hl (fun z => absurd z hb) (fun _ => br_t rfl h)
theorem xq_readGood {post : Int32 → SX → Prop} {s L num kind q dc : Nat} {P NE : Nat → Int32} {md : Nat → Nat} {vx vy : Nat → Int32} {rs : Nat → Nat → Int32} {K : Nat → Nat}
    (hC : C ≤ 4) (hR : R ≤ 2) (hC0 : 1 ≤ C) (hR0 : 1 ≤ R) (hs : s < 2) (hL : L ≤ 4096) (hl : len s = nI L) (hb : pv_ok (pv_sl bts s) L) (hh : pv_bn (pv_sl bts s) 32 12 = num * 128 + kind * 64 + q) (hn : num ≤ 16) (hdc : dc ≤ 16) (hk : kind < 2) (hq : q ≤ 40)
    (hF : pv_FR C R q kind P NE md vx vy rs) (hT : pv_TR (pv_sl bts s) C R md vx vy rs K) (hP : kind = 1 → num = dc + 1 → ∀ p, pv_is C R p → pix (256 + p) = P p)
    (hx8 : xvx 8 = 0) (hy8 : xvy 8 = 0)
    (h3 : num ≤ dc → post 3 (qa1, qa2, qa3, qa4, (nI C), (nI R), (nI g), (nI (4 * C)), (nI (4 * R)), xcc, nI dc, xpk, xfi, nI s, nI 44, xrf, xpx, xpy, xbc, xbl, xto, xwo, 0, pix, xmd, xvx, xvy, sem, sev, prd, rsd, bts, len, tgs, dam))
    (h4 : dc < num → kind = 1 → num ≠ dc + 1 → post 4 (qa1, qa2, qa3, qa4, (nI C), (nI R), (nI g), (nI (4 * C)), (nI (4 * R)), xcc, nI dc, xpk, xfi, nI s, nI 44, xrf, xpx, xpy, xbc, xbl, xto, xwo, 0, pix, xmd, xvx, xvy, sem, sev, prd, rsd, bts, len, tgs, dam))
    (h1 : dc < num → (kind = 1 → num = dc + 1) → ∀ (a f' p' M VX VY N sm sv : Nat → Int32) (cu x y : Int32), (∀ p, p < 256 → a p = pix p) → (∀ p, pv_is C R p → N p = NE p) → (∀ p, p < 128 → a (256 + p) = pv_FP C R q M N p) → pv_mv C R (4 * R + 0) M VX VY md vx vy → VX 8 = 0 → VY 8 = 0 → (∀ b, b < 8 → sm b = M b ∧ sv b = 10 * VY b + VX b) →
      post 1 (qa1, qa2, qa3, qa4, (nI C), (nI R), (nI g), (nI (4 * C)), (nI (4 * R)), xcc, nI num, xpk, xfi, nI s, cu, nI 256, x, y, xbc, xbl, xto, xwo, 0, a, M, VX, VY, sm, sv, p', f', bts, len, tgs, dam)) :
    wpX_readPacket post (qa1, qa2, qa3, qa4, (nI C), (nI R), (nI g), (nI (4 * C)), (nI (4 * R)), xcc, nI dc, xpk, xfi, nI s, xcu, xrf, xpx, xpy, xbc, xbl, xto, xwo, xwr, pix, xmd, xvx, xvy, sem, sev, prd, rsd, bts, len, tgs, dam) := by
  unfold wpX_readPacket
  refine xq_intact hs hL hl (fun _ => br_f (by decide) ?_) (fun z => absurd hb z)
  refine xq_carryR (cu := 32) (n := 12) hs (by omega) (by omega) ?_
  rw [hh]
  have e7 : nI (num * 128 + kind * 64 + q) >>> ((7 : Int32) &&& 31) = nI num := by
    rw [pv_shr7 (by omega)]
    exact congrArg nI (by omega)
  have e6 : (nI (num * 128 + kind * 64 + q) >>> ((6 : Int32) &&& 31)) &&& 1 = nI kind := by
    rw [pv_shr6 (by omega), pv_and1 (by omega)]
    exact congrArg nI (by omega)
  have e63 : nI (num * 128 + kind * 64 + q) &&& 63 = nI q := by
    rw [pv_and63 (by omega)]
    exact congrArg nI (by omega)
  refine nm_r e7 (nm_r e6 ?_)
  have go : dc < num → (kind = 1 → num = dc + 1) → wX_readPacket_56 post (nI (num * 128 + kind * 64 + q)) (nI num) (nI kind) qa1 qa2 qa3 qa4 (nI C) (nI R) (nI g) (nI (4 * C)) (nI (4 * R)) xcc (nI dc) xpk xfi (nI s) (nI 44) xrf xpx xpy xbc xbl xto xwo 0 pix xmd xvx xvy sem sev prd rsd bts len tgs dam := fun g1 g2 => by
    unfold wX_readPacket_56
    rw [e63]
    refine xq_frameR (B := 256) (kind := kind) hC hR hC0 hR0 (by omega) hq hs hF hT ?_ hx8 hy8 (fun a f' p' M VX VY N x y w1 w2 w3 w4 w5 w6 => xq_seen (fun sm sv u1 => h1 g1 g2 a f' p' M VX VY N sm sv _ x y (fun p hp => w1 p (by omega) (by omega)) w2 w3 w4 w5 w6 u1))
    by_cases k0 : kind = 0
    · exact Or.inl k0
    · exact Or.inr ⟨by omega, hP (by omega) (g2 (by omega))⟩
  by_cases c1 : dc < num
  · refine br_t (nI_lt c1 (by omega)) ?_
    by_cases c2 : kind = 1
    · refine br_t (congrArg nI c2) ?_
      rw [nI_1]
      by_cases c3 : num = dc + 1
      · exact br_t (congrArg nI c3) (go c1 (fun _ => c3))
      · exact br_f (fun z => c3 ((nI_eq (by omega) (by omega)).mp z)) (h4 c1 c2 c3)
    · exact br_f (fun z => c2 ((nI_eq (b := 1) (by omega) (by omega)).mp z)) (go c1 (fun z => absurd z c2))
  · exact br_f (nI_nlt (by omega) (by omega)) (h3 (by omega))
theorem xq_restart {post : SX → Prop} (h : ∀ a sm sv : Nat → Int32, (∀ p, (p < 128 ∨ 384 ≤ p) → a p = pix p) → (∀ p, 128 ≤ p → p < 384 → a p = 0) → (∀ b, b < 8 → sm b = 0 ∧ sv b = 0) → post (qa1, qa2, qa3, qa4, (nI C), (nI R), (nI g), (nI (4 * C)), (nI (4 * R)), 0, 0, 0, xfi, xsl, xcu, xrf, xpx, xpy, xbc, xbl, xto, xwo, xwr, a, xmd, xvx, xvy, sm, sv, prd, rsd, bts, len, tgs, dam)) : wpX_restart post (qa1, qa2, qa3, qa4, (nI C), (nI R), (nI g), (nI (4 * C)), (nI (4 * R)), xcc, xdc, xpk, xfi, xsl, xcu, xrf, xpx, xpy, xbc, xbl, xto, xwo, xwr, pix, xmd, xvx, xvy, sem, sev, prd, rsd, bts, len, tgs, dam) := by
  unfold wpX_restart
  refine pk_loop (fun n i a => wX_restart_19 post qa1 qa2 qa3 qa4 (nI C) (nI R) (nI g) (nI (4 * C)) (nI (4 * R)) 0 0 0 xfi xsl xcu xrf xpx xpy xbc xbl xto xwo xwr n (nI i) a xmd xvx xvy sem sev prd rsd bts len tgs dam) (fun i a => 128 ≤ i ∧ (∀ p, (p < 128 ∨ i ≤ p) → a p = pix p) ∧ (∀ p, 128 ≤ p → p < i → a p = 0)) 384 128 pix (by omega) ⟨Nat.le_refl _, fun _ _ => rfl, fun p p1 p2 => absurd p2 (by omega)⟩ (fun n a ha => ?_) (fun n i a hi ha ih => ?_)
  · refine br_t (nI_le (a := 384) (by omega) (by omega)) ?_
    refine loop_0 (fun n i m => wX_restart_41 post qa1 qa2 qa3 qa4 (nI C) (nI R) (nI g) (nI (4 * C)) (nI (4 * R)) 0 0 0 xfi xsl xcu xrf xpx xpy xbc xbl xto xwo xwr n (nI i) a xmd xvx xvy m sev prd rsd bts len tgs dam) (fun i m => ∀ b, b < i → m b = 0) 8 sem lt_0 (fun n m hm => ?_) (fun n i m hi hm ih => ?_)
    · refine br_t (nI_le (a := 8) (by omega) (by omega)) ?_
      refine loop_0 (fun n i v => wX_restart_62 post qa1 qa2 qa3 qa4 (nI C) (nI R) (nI g) (nI (4 * C)) (nI (4 * R)) 0 0 0 xfi xsl xcu xrf xpx xpy xbc xbl xto xwo xwr n (nI i) a xmd xvx xvy m v prd rsd bts len tgs dam) (fun i v => ∀ b, b < i → v b = 0) 8 sev lt_0 (fun n v hv => ?_) (fun n i v hi hv ih => ?_)
      · exact br_t (nI_le (a := 8) (by omega) (by omega)) (h a m v ha.2.1 ha.2.2 (fun b hb => ⟨hm b hb, hv b hb⟩))
      · refine br_f (nI_ge (b := 8) hi (by omega)) ?_
        rw [nI_clamp (by omega)]
        exact ⟨vp_in_nI hi (by omega), nm_e (nm_r (nI_1 i) (ih _ (pv_lt_s (f := fun _ => 0) hv rfl)))⟩
    · refine br_f (nI_ge (b := 8) hi (by omega)) ?_
      rw [nI_clamp (by omega)]
      exact ⟨vp_in_nI hi (by omega), nm_e (nm_r (nI_1 i) (ih _ (pv_lt_s (f := fun _ => 0) hm rfl)))⟩
  · obtain ⟨h1, h2, h3⟩ := ha
    refine br_f (nI_ge (b := 384) hi (by omega)) ?_
    rw [nI_clamp (by omega)]
    refine ⟨vp_in_nI (by omega) (by omega), nm_e (nm_r (nI_1 i) (ih _ ⟨by omega, fun p hp => ?_, fun p p1 p2 => ?_⟩))⟩
    · rw [pk_un (by omega)]
      exact h2 p (by omega)
    · by_cases e : p = i
      · rw [e, pk_us]
      · rw [pk_un e]
        exact h3 p p1 (by omega)
end
end
section
/-! the relation -/
/-- an undamaged packet: its bits, the record that they tell, the picture that it gives -/
def r_GD (C R num kind q : Nat) (P0 P1 B : Nat → Int32) (ls : Int32) (sm sx sy : Nat → Int32) : Prop :=
  ∃ (L : Nat) (NE : Nat → Int32) (md : Nat → Nat) (vx vy : Nat → Int32) (rs : Nat → Nat → Int32) (K : Nat → Nat), L ≤ 4000 ∧ ls = nI L ∧ pv_ok B L ∧ pv_bn B 32 12 = num * 128 + kind * 64 + q ∧
    pv_FR C R q kind P0 NE md vx vy rs ∧ pv_TR B C R md vx vy rs K ∧ pv_mv C R (4 * R + 0) sm sx sy md vx vy ∧ (∀ p, pv_is C R p → P1 p = pv_FP C R q (fun b => nI (md b)) NE p)
/-- a damaged packet: it doesn't pass -/
def r_BD (B : Nat → Int32) (ls : Int32) : Prop := ∃ L : Nat, L ≤ 4096 ∧ ls = nI L ∧ ¬ pv_ok B L
def r_PK (C R cc : Nat) (H : Nat → Nat → Int32) (bts len tgs dam ysp ysm ysx ysy ysn ysk ydam : Nat → Int32) (s i : Nat) : Prop :=
  ∃ num kind q : Nat, 1 ≤ num ∧ num ≤ cc ∧ kind < 2 ∧ q ≤ 40 ∧ ysn i = nI num ∧ ysk i = nI kind ∧ tgs s = nI (if kind = 0 then num + 32 else num) ∧ ydam i = dam s ∧ (∀ p, pv_is C R p → ysp (128 * i + p) = H num p) ∧
    ((dam s = 0 ∧ r_GD C R num kind q (H (num - 1)) (H num) (pv_sl bts s) (len s) (fun b => ysm (8 * i + b)) (fun b => ysx (8 * i + b)) (fun b => ysy (8 * i + b))) ∨ (dam s = 1 ∧ r_BD (pv_sl bts s) (len s)))
def r_R (C R g cc dc pk fi : Nat) (pix xvx xvy sem sev bts len tgs dam ysrc ypic ydec ydm ydx ydy ysp ysm ysx ysy ysn ysk ydam : Nat → Int32) : Prop :=
  (1 ≤ C ∧ C ≤ 4 ∧ 1 ≤ R ∧ R ≤ 2 ∧ g ≤ 3) ∧ (cc ≤ 16 ∧ dc ≤ cc ∧ pk ≤ 2 ∧ fi ≤ 1) ∧ (∀ p, pv_is C R p → pix p = ysrc p ∧ pv_by (ysrc p)) ∧ (∀ p, pv_is C R p → pix (128 + p) = ypic p ∧ pv_by (ypic p)) ∧ (∀ p, pv_is C R p → pix (256 + p) = ydec p) ∧
  (xvx 8 = 0 ∧ xvy 8 = 0) ∧ (∀ c r, c < C → r < R → sem (4 * r + c) = ydm (4 * r + c) ∧ sev (4 * r + c) = 10 * ydy (4 * r + c) + ydx (4 * r + c)) ∧ pv_01 bts ∧
  ∃ H : Nat → Nat → Int32, (∀ p, pv_is C R p → H cc p = ypic p) ∧ (∀ p, pv_is C R p → H dc p = ydec p) ∧ ∀ i, i < pk → r_PK C R cc H bts len tgs dam ysp ysm ysx ysy ysn ysk ydam ((fi + i) % 2) i
def i_Rel (k : Nat) (u : SX) (v : SY) : Prop :=
  match u, v with
  | (qa1, qa2, qa3, qa4, e1, e2, e3, e4, e5, xcc, xdc, xpk, xfi, xsl, xcu, xrf, xpx, xpy, xbc, xbl, xto, xwo, xwr, pix, xmd, xvx, xvy, sem, sev, prd, rsd, bts, len, tgs, dam), (d1, d2, d3, d4, d5, ycn, ydn, yct, ysrc, yold, ypic, ynxt, ydec, ymd, yvx, yvy, ydm, ydx, ydy, yprd, ydif, ysca, ysp, ysm, ysx, ysy, ysn, ysk, ydam) =>
    ∃ C R g cc dc pk fi : Nat, (e1 = nI C ∧ e2 = nI R ∧ e3 = nI g ∧ e4 = nI (4 * C) ∧ e5 = nI (4 * R) ∧ xcc = nI cc ∧ xdc = nI dc ∧ xpk = nI pk ∧ xfi = nI fi) ∧ (d1 = nI C ∧ d2 = nI R ∧ d3 = nI g ∧ d4 = nI (4 * C) ∧ d5 = nI (4 * R) ∧ ycn = nI cc ∧ ydn = nI dc ∧ yct = nI pk) ∧ r_R C R g cc dc pk fi pix xvx xvy sem sev bts len tgs dam ysrc ypic ydec ydm ydx ydy ysp ysm ysx ysy ysn ysk ydam
theorem r_mk {k : Nat} {C R g cc dc pk fi : Nat} {qa1 qa2 qa3 qa4 xsl xcu xrf xpx xpy xbc xbl xto xwo xwr : Int32} {pix xmd xvx xvy sem sev prd rsd bts len tgs dam ysrc yold ypic ynxt ydec ymd yvx yvy ydm ydx ydy yprd ydif ysca ysp ysm ysx ysy ysn ysk ydam : Nat → Int32} (h : r_R C R g cc dc pk fi pix xvx xvy sem sev bts len tgs dam ysrc ypic ydec ydm ydx ydy ysp ysm ysx ysy ysn ysk ydam) : i_Rel k (qa1, qa2, qa3, qa4, (nI C), (nI R), (nI g), (nI (4 * C)), (nI (4 * R)), (nI cc), (nI dc), (nI pk), (nI fi), xsl, xcu, xrf, xpx, xpy, xbc, xbl, xto, xwo, xwr, pix, xmd, xvx, xvy, sem, sev, prd, rsd, bts, len, tgs, dam) ((nI C), (nI R), (nI g), (nI (4 * C)), (nI (4 * R)), (nI cc), (nI dc), (nI pk), ysrc, yold, ypic, ynxt, ydec, ymd, yvx, yvy, ydm, ydx, ydy, yprd, ydif, ysca, ysp, ysm, ysx, ysy, ysn, ysk, ydam) :=
  ⟨C, R, g, cc, dc, pk, fi, ⟨rfl, rfl, rfl, rfl, rfl, rfl, rfl, rfl, rfl⟩, ⟨rfl, rfl, rfl, rfl, rfl, rfl, rfl, rfl⟩, h⟩
theorem r_el {P : SX → SY → Prop} {k : Nat} {u : SX} {v : SY} (I : i_Rel k u v) (h : ∀ (C R g cc dc pk fi : Nat) (qa1 qa2 qa3 qa4 xsl xcu xrf xpx xpy xbc xbl xto xwo xwr : Int32) (pix xmd xvx xvy sem sev prd rsd bts len tgs dam ysrc yold ypic ynxt ydec ymd yvx yvy ydm ydx ydy yprd ydif ysca ysp ysm ysx ysy ysn ysk ydam : Nat → Int32), r_R C R g cc dc pk fi pix xvx xvy sem sev bts len tgs dam ysrc ypic ydec ydm ydx ydy ysp ysm ysx ysy ysn ysk ydam → P (qa1, qa2, qa3, qa4, (nI C), (nI R), (nI g), (nI (4 * C)), (nI (4 * R)), (nI cc), (nI dc), (nI pk), (nI fi), xsl, xcu, xrf, xpx, xpy, xbc, xbl, xto, xwo, xwr, pix, xmd, xvx, xvy, sem, sev, prd, rsd, bts, len, tgs, dam) ((nI C), (nI R), (nI g), (nI (4 * C)), (nI (4 * R)), (nI cc), (nI dc), (nI pk), ysrc, yold, ypic, ynxt, ydec, ymd, yvx, yvy, ydm, ydx, ydy, yprd, ydif, ysca, ysp, ysm, ysx, ysy, ysn, ysk, ydam)) : P u v := by
  obtain ⟨qa1, qa2, qa3, qa4, e1, e2, e3, e4, e5, xcc, xdc, xpk, xfi, xsl, xcu, xrf, xpx, xpy, xbc, xbl, xto, xwo, xwr, pix, xmd, xvx, xvy, sem, sev, prd, rsd, bts, len, tgs, dam⟩ := u
  obtain ⟨d1, d2, d3, d4, d5, ycn, ydn, yct, ysrc, yold, ypic, ynxt, ydec, ymd, yvx, yvy, ydm, ydx, ydy, yprd, ydif, ysca, ysp, ysm, ysx, ysy, ysn, ysk, ydam⟩ := v
  obtain ⟨C, R, g, cc, dc, pk, fi, ⟨a1, a2, a3, a4, a5, a6, a7, a8, a9⟩, ⟨b1, b2, b3, b4, b5, b6, b7, b8⟩, hr⟩ := I
  subst a1 a2 a3 a4 a5 a6 a7 a8 a9 b1 b2 b3 b4 b5 b6 b7 b8
  exact h _ _ _ _ _ _ _ _ _ _ _ _ _ _ _ _ _ _ _ _ _ _ _ _ _ _ _ _ _ _ _ _ _ _ _ _ _ _ _ _ _ _ _ _ _ _ _ _ _ _ _ _ _ _ hr
theorem i_up {k : Nat} {u : SX} {v : SY} (h : i_Rel k u v) : i_Rel (k + 5) u v := h
theorem pv_cl_nat (x : Int32) {lo hi : Nat} (h : lo ≤ hi) (hh : hi < 2 ^ 31) : ∃ j, lo ≤ j ∧ j ≤ hi ∧ pv_cl x (nI lo) (nI hi) = nI j := by
  unfold pv_cl
  by_cases c1 : nI lo ≤ x
  · rw [if_pos c1]
    by_cases c2 : x ≤ nI hi
    · rw [if_pos c2]
      have n0 : ¬ x < 0 := by
        intro z
        rw [Int32.lt_iff_toInt_lt, show (0 : Int32).toInt = 0 from by decide] at z
        rw [Int32.le_iff_toInt_le, nI_toInt (by omega)] at c1
        omega
      obtain ⟨j, hj, rfl⟩ := nI_of n0
      rw [nI_leI (by omega) hj] at c1
      rw [nI_leI hj hh] at c2
      exact ⟨j, c1, c2, rfl⟩
    · rw [if_neg c2]
      exact ⟨hi, h, Nat.le_refl _, rfl⟩
  · rw [if_neg c1]
    exact ⟨lo, Nat.le_refl _, h, rfl⟩
theorem i_vc0 (k0 : Int32) (k1 : Int32) (k2 : Int32) : wpX_init (fun u => wpY_init (fun v => i_Rel 3 u v) k0 k1 k2) k0 k1 k2 := by
  obtain ⟨C, hC0, hC, eC⟩ := pv_cl_nat k0 (lo := 1) (hi := 4) (by omega) (by omega)
  obtain ⟨R, hR0, hR, eR⟩ := pv_cl_nat k1 (lo := 1) (hi := 2) (by omega) (by omega)
  obtain ⟨g, -, hg, eg⟩ := pv_cl_nat k2 (lo := 0) (hi := 3) (by omega) (by omega)
  have eC' : pv_cl k0 1 4 = nI C := eC
  have eR' : pv_cl k1 1 2 = nI R := eR
  have eg' : pv_cl k2 0 3 = nI g := eg
  unfold wpX_init
  refine xq_clamp ?_
  rw [eC']
  refine xq_clamp ?_
  rw [eR']
  refine xq_clamp ?_
  rw [eg']
  refine nm_r (pv_4m C) (nm_r (pv_4m R) ?_)
  unfold wpY_init
  refine yq_limit ?_
  rw [eC']
  refine yq_limit ?_
  rw [eR']
  refine yq_limit ?_
  rw [eg']
  refine nm_r (pv_4m C) (nm_r (pv_4m R) ?_)
  have b0 : pv_by 0 := pv_by_nI (n := 0) (by omega)
  have z0 : (0 : Int32) = 10 * 0 + 0 := by decide
  exact r_mk (cc := 0) (dc := 0) (pk := 0) (fi := 0) ⟨⟨hC0, hC, hR0, hR, hg⟩, ⟨by omega, by omega, by omega, by omega⟩, fun _ _ => ⟨rfl, b0⟩, fun _ _ => ⟨rfl, b0⟩, fun _ _ => rfl, ⟨rfl, rfl⟩, fun _ _ _ _ => ⟨rfl, z0⟩, fun _ => Or.inl rfl, fun _ _ => 0, fun _ _ => rfl, fun _ _ => rfl, fun i hi => absurd hi (Nat.not_lt_zero i)⟩
end
section
/-! the small owed ones -/
section
variable {C R g : Nat} {qa1 qa2 qa3 qa4 xcc xdc xpk xfi xsl xcu xrf xpx xpy xbc xbl xto xwo xwr : Int32} {pix xmd xvx xvy sem sev prd rsd bts len tgs dam : Nat → Int32} {ycn ydn yct : Int32} {ysrc yold ypic ynxt ydec ymd yvx yvy ydm ydx ydy yprd ydif ysca ysp ysm ysx ysy ysn ysk ydam : Nat → Int32}
theorem xq_put1 {post : Int32 → SX → Prop} {a b : Nat} {v : Int32} (hC : C ≤ 4) (hR : R ≤ 2) (ha : a < 4 * C) (hb : b < 4 * R) (c1 : ¬ v < 0) (c2 : v ≤ 255) (h : post 1 (qa1, qa2, qa3, qa4, (nI C), (nI R), (nI g), (nI (4 * C)), (nI (4 * R)), xcc, xdc, xpk, xfi, xsl, xcu, xrf, xpx, xpy, xbc, xbl, xto, xwo, xwr, upd pix (16 * b + a) v, xmd, xvx, xvy, sem, sev, prd, rsd, bts, len, tgs, dam)) : wpX_put post (qa1, qa2, qa3, qa4, (nI C), (nI R), (nI g), (nI (4 * C)), (nI (4 * R)), xcc, xdc, xpk, xfi, xsl, xcu, xrf, xpx, xpy, xbc, xbl, xto, xwo, xwr, pix, xmd, xvx, xvy, sem, sev, prd, rsd, bts, len, tgs, dam) (nI a) (nI b) v := by
  unfold wpX_put
  refine xq_in1 hC hR ha hb (br_f (by decide) (br_f c1 (br_t c2 ?_)))
  rw [pv_16m, nI_add, nI_clamp (by omega)]
  exact ⟨vp_in_nI (by omega) (by omega), nm_e h⟩
theorem yq_put1 {post : Int32 → SY → Prop} {a b : Nat} {v : Int32} (hC : C ≤ 4) (hR : R ≤ 2) (ha : a < 4 * C) (hb : b < 4 * R) (c1 : ¬ v < 0) (c2 : v ≤ 255) (h : post 1 ((nI C), (nI R), (nI g), (nI (4 * C)), (nI (4 * R)), ycn, ydn, yct, upd ysrc (16 * b + a) v, yold, ypic, ynxt, ydec, ymd, yvx, yvy, ydm, ydx, ydy, yprd, ydif, ysca, ysp, ysm, ysx, ysy, ysn, ysk, ydam)) : wpY_put post ((nI C), (nI R), (nI g), (nI (4 * C)), (nI (4 * R)), ycn, ydn, yct, ysrc, yold, ypic, ynxt, ydec, ymd, yvx, yvy, ydm, ydx, ydy, yprd, ydif, ysca, ysp, ysm, ysx, ysy, ysn, ysk, ydam) (nI a) (nI b) v := by
  unfold wpY_put
  refine yq_in1 hC hR ha hb (br_f (by decide) (br_f c1 (br_t c2 ?_)))
  rw [pv_yi, nI_clamp (by omega)]
  exact ⟨vp_in_nI (by omega) (by omega), nm_e h⟩
theorem xq_put0 {post : Int32 → SX → Prop} {x y v : Int32} (hC : C ≤ 4) (hR : R ≤ 2) (hn : pv_ins C R x y → v < 0 ∨ ¬ v ≤ 255) (h : post 0 (qa1, qa2, qa3, qa4, (nI C), (nI R), (nI g), (nI (4 * C)), (nI (4 * R)), xcc, xdc, xpk, xfi, xsl, xcu, xrf, xpx, xpy, xbc, xbl, xto, xwo, xwr, pix, xmd, xvx, xvy, sem, sev, prd, rsd, bts, len, tgs, dam)) : wpX_put post (qa1, qa2, qa3, qa4, (nI C), (nI R), (nI g), (nI (4 * C)), (nI (4 * R)), xcc, xdc, xpk, xfi, xsl, xcu, xrf, xpx, xpy, xbc, xbl, xto, xwo, xwr, pix, xmd, xvx, xvy, sem, sev, prd, rsd, bts, len, tgs, dam) x y v := by
  unfold wpX_put
  by_cases hi : pv_ins C R x y
  · have hn' := hn hi
    obtain ⟨a, b, ha, hb, rfl, rfl⟩ := hi
    refine xq_in1 hC hR ha hb (br_f (by decide) (br_c (fun _ => h) (fun c1 => br_c (fun c2 => ?_) (fun _ => h))))
    exact absurd c2 (hn'.resolve_left c1)
  · exact xq_in0 hC hR hi (br_t rfl h)
theorem yq_put0 {post : Int32 → SY → Prop} {x y v : Int32} (hC : C ≤ 4) (hR : R ≤ 2) (hn : pv_ins C R x y → v < 0 ∨ ¬ v ≤ 255) (h : post 0 ((nI C), (nI R), (nI g), (nI (4 * C)), (nI (4 * R)), ycn, ydn, yct, ysrc, yold, ypic, ynxt, ydec, ymd, yvx, yvy, ydm, ydx, ydy, yprd, ydif, ysca, ysp, ysm, ysx, ysy, ysn, ysk, ydam)) : wpY_put post ((nI C), (nI R), (nI g), (nI (4 * C)), (nI (4 * R)), ycn, ydn, yct, ysrc, yold, ypic, ynxt, ydec, ymd, yvx, yvy, ydm, ydx, ydy, yprd, ydif, ysca, ysp, ysm, ysx, ysy, ysn, ysk, ydam) x y v := by
  unfold wpY_put
  by_cases hi : pv_ins C R x y
  · have hn' := hn hi
    obtain ⟨a, b, ha, hb, rfl, rfl⟩ := hi
    refine yq_in1 hC hR ha hb (br_f (by decide) (br_c (fun _ => h) (fun c1 => br_c (fun c2 => ?_) (fun _ => h))))
    exact absurd c2 (hn'.resolve_left c1)
  · exact yq_in0 hC hR hi (br_t rfl h)
theorem xq_sample1 {post : Int32 → Prop} {a b B : Nat} (hC : C ≤ 4) (hR : R ≤ 2) (ha : a < 4 * C) (hb : b < 4 * R) (hB : B ≤ 256) (h : post (pix (B + (16 * b + a)))) : wpX_sample post (qa1, qa2, qa3, qa4, (nI C), (nI R), (nI g), (nI (4 * C)), (nI (4 * R)), xcc, xdc, xpk, xfi, xsl, xcu, xrf, xpx, xpy, xbc, xbl, xto, xwo, xwr, pix, xmd, xvx, xvy, sem, sev, prd, rsd, bts, len, tgs, dam) (nI B) (nI a) (nI b) := by
  unfold wpX_sample
  refine xq_in1 hC hR ha hb (br_f (by decide) ?_)
  rw [pv_16m, nI_add, nI_add, Nat.add_assoc, nI_clamp (by omega)]
  exact ⟨vp_in_nI (by omega) (by omega), h⟩
theorem xq_sample0 {post : Int32 → Prop} {x y z : Int32} (hC : C ≤ 4) (hR : R ≤ 2) (hi : ¬ pv_ins C R x y) (h : post (-1)) : wpX_sample post (qa1, qa2, qa3, qa4, (nI C), (nI R), (nI g), (nI (4 * C)), (nI (4 * R)), xcc, xdc, xpk, xfi, xsl, xcu, xrf, xpx, xpy, xbc, xbl, xto, xwo, xwr, pix, xmd, xvx, xvy, sem, sev, prd, rsd, bts, len, tgs, dam) z x y := by
  unfold wpX_sample
  exact xq_in0 hC hR hi (br_t rfl h)
end
theorem pv_by_of {v : Int32} (c1 : ¬ v < 0) (c2 : v ≤ 255) : pv_by v := by
  rw [Int32.lt_iff_toInt_lt, show (0 : Int32).toInt = 0 from by decide] at c1
  rw [Int32.le_iff_toInt_le, show (255 : Int32).toInt = 255 from by decide] at c2
  unfold pv_by
  omega
theorem pv_is_xy {C R a b : Nat} (hC : C ≤ 4) (ha : a < 4 * C) (hb : b < 4 * R) : pv_is C R (16 * b + a) := by
  unfold pv_is
  omega
theorem i_vc_put {k : Nat} {u : SX} {v : SY} (I : i_Rel k u v) (hk : k + 5 ≤ 2563) (v1 : Int32) (v2 : Int32) (v3 : Int32) : wpX_put (fun r u' => wpY_put (fun r' v' => r' = r ∧ i_Rel (k + 5) u' v') v v1 v2 v3) u v1 v2 v3 := by
  refine r_el (P := fun u v => wpX_put (fun r u' => wpY_put (fun r' v' => r' = r ∧ i_Rel (k + 5) u' v') v v1 v2 v3) u v1 v2 v3) I ?_
  intro C R g cc dc pk fi qa1 qa2 qa3 qa4 xsl xcu xrf xpx xpy xbc xbl xto xwo xwr pix xmd xvx xvy sem sev prd rsd bts len tgs dam ysrc yold ypic ynxt ydec ymd yvx yvy ydm ydx ydy yprd ydif ysca ysp ysm ysx ysy ysn ysk ydam hr
  have hr' := hr
  obtain ⟨⟨hC0, hC, hR0, hR, hg⟩, ⟨h16, hdc, hpk, hfi⟩, hS, hP, hD, ⟨hx8, hy8⟩, hB, h01, H, hH1, hH2, hK⟩ := hr'
  by_cases ok : pv_ins C R v1 v2 ∧ ¬ v3 < 0 ∧ v3 ≤ 255
  · obtain ⟨⟨a, b, ha, hb, rfl, rfl⟩, c1, c2⟩ := ok
    refine xq_put1 hC hR ha hb c1 c2 (yq_put1 hC hR ha hb c1 c2 ⟨rfl, r_mk ?_⟩)
    refine ⟨⟨hC0, hC, hR0, hR, hg⟩, ⟨h16, hdc, hpk, hfi⟩, fun p hp => ?_, fun p hp => ?_, fun p hp => ?_, ⟨hx8, hy8⟩, hB, h01, H, hH1, hH2, hK⟩
    · by_cases e : p = 16 * b + a
      · rw [e, pk_us, pk_us]
        exact ⟨rfl, pv_by_of c1 c2⟩
      · rw [pk_un e, pk_un e]
        exact hS p hp
    · rw [pk_un (by omega)]
      exact hP p hp
    · rw [pk_un (by omega)]
      exact hD p hp
  · have hn : pv_ins C R v1 v2 → v3 < 0 ∨ ¬ v3 ≤ 255 := fun hi => by
      by_cases c1 : v3 < 0
      · exact Or.inl c1
      · exact Or.inr (fun c2 => ok ⟨hi, c1, c2⟩)
    exact xq_put0 hC hR hn (yq_put0 hC hR hn ⟨rfl, r_mk hr⟩)
theorem i_vc_source {k : Nat} {u : SX} {v : SY} (I : i_Rel k u v) (hk : k + 5 ≤ 2563) (v1 : Int32) (v2 : Int32) : wpX_source (fun r => wpY_source (fun r' => r' = r ∧ i_Rel (k + 5) u v) v v1 v2) u v1 v2 := by
  refine r_el (P := fun u v => wpX_source (fun r => wpY_source (fun r' => r' = r ∧ i_Rel (k + 5) u v) v v1 v2) u v1 v2) I ?_
  intro C R g cc dc pk fi qa1 qa2 qa3 qa4 xsl xcu xrf xpx xpy xbc xbl xto xwo xwr pix xmd xvx xvy sem sev prd rsd bts len tgs dam ysrc yold ypic ynxt ydec ymd yvx yvy ydm ydx ydy yprd ydif ysca ysp ysm ysx ysy ysn ysk ydam hr
  have hr' := hr
  obtain ⟨⟨hC0, hC, hR0, hR, hg⟩, ⟨h16, hdc, hpk, hfi⟩, hS, hP, hD, -⟩ := hr'
  unfold wpX_source wpY_source
  by_cases hi : pv_ins C R v1 v2
  · obtain ⟨a, b, ha, hb, rfl, rfl⟩ := hi
    refine xq_sample1 (B := 0) hC hR ha hb (by omega) ?_
    refine yq_in1 hC hR ha hb (br_f (by decide) ?_)
    rw [pv_yi, nI_clamp (by omega)]
    refine ⟨vp_in_nI (by omega) (by omega), ?_, r_mk hr⟩
    rw [Nat.zero_add]
    exact (hS _ (pv_is_xy hC ha hb)).1.symm
  · refine xq_sample0 hC hR hi ?_
    exact yq_in0 hC hR hi (br_t rfl ⟨rfl, r_mk hr⟩)
theorem i_vc_coded {k : Nat} {u : SX} {v : SY} (I : i_Rel k u v) (hk : k + 5 ≤ 2563) (v1 : Int32) (v2 : Int32) : wpX_coded (fun r => wpY_coded (fun r' => r' = r ∧ i_Rel (k + 5) u v) v v1 v2) u v1 v2 := by
  refine r_el (P := fun u v => wpX_coded (fun r => wpY_coded (fun r' => r' = r ∧ i_Rel (k + 5) u v) v v1 v2) u v1 v2) I ?_
  intro C R g cc dc pk fi qa1 qa2 qa3 qa4 xsl xcu xrf xpx xpy xbc xbl xto xwo xwr pix xmd xvx xvy sem sev prd rsd bts len tgs dam ysrc yold ypic ynxt ydec ymd yvx yvy ydm ydx ydy yprd ydif ysca ysp ysm ysx ysy ysn ysk ydam hr
  have hr' := hr
  obtain ⟨⟨hC0, hC, hR0, hR, hg⟩, ⟨h16, hdc, hpk, hfi⟩, hS, hP, hD, -⟩ := hr'
  unfold wpX_coded wpY_coded
  by_cases hi : pv_ins C R v1 v2
  · obtain ⟨a, b, ha, hb, rfl, rfl⟩ := hi
    refine xq_sample1 (B := 128) hC hR ha hb (by omega) ?_
    refine yq_in1 hC hR ha hb (br_f (by decide) ?_)
    rw [pv_yi, nI_clamp (by omega)]
    exact ⟨vp_in_nI (by omega) (by omega), (hP _ (pv_is_xy hC ha hb)).1.symm, r_mk hr⟩
  · refine xq_sample0 hC hR hi ?_
    exact yq_in0 hC hR hi (br_t rfl ⟨rfl, r_mk hr⟩)
theorem i_vc_decoded {k : Nat} {u : SX} {v : SY} (I : i_Rel k u v) (hk : k + 5 ≤ 2563) (v1 : Int32) (v2 : Int32) : wpX_decoded (fun r => wpY_decoded (fun r' => r' = r ∧ i_Rel (k + 5) u v) v v1 v2) u v1 v2 := by
  refine r_el (P := fun u v => wpX_decoded (fun r => wpY_decoded (fun r' => r' = r ∧ i_Rel (k + 5) u v) v v1 v2) u v1 v2) I ?_
  intro C R g cc dc pk fi qa1 qa2 qa3 qa4 xsl xcu xrf xpx xpy xbc xbl xto xwo xwr pix xmd xvx xvy sem sev prd rsd bts len tgs dam ysrc yold ypic ynxt ydec ymd yvx yvy ydm ydx ydy yprd ydif ysca ysp ysm ysx ysy ysn ysk ydam hr
  have hr' := hr
  obtain ⟨⟨hC0, hC, hR0, hR, hg⟩, ⟨h16, hdc, hpk, hfi⟩, hS, hP, hD, -⟩ := hr'
  unfold wpX_decoded wpY_decoded
  by_cases hi : pv_ins C R v1 v2
  · obtain ⟨a, b, ha, hb, rfl, rfl⟩ := hi
    refine xq_sample1 (B := 256) hC hR ha hb (by omega) ?_
    refine yq_in1 hC hR ha hb (br_f (by decide) ?_)
    rw [pv_yi, nI_clamp (by omega)]
    exact ⟨vp_in_nI (by omega) (by omega), (hD _ (pv_is_xy hC ha hb)).symm, r_mk hr⟩
  · refine xq_sample0 hC hR hi ?_
    exact yq_in0 hC hR hi (br_t rfl ⟨rfl, r_mk hr⟩)
theorem i_vc_codedNumber {k : Nat} {u : SX} {v : SY} (I : i_Rel k u v) (hk : k + 5 ≤ 2563) : wpX_codedNumber (fun r => wpY_codedNumber (fun r' => r' = r ∧ i_Rel (k + 5) u v) v) u := by
  refine r_el (P := fun u v => wpX_codedNumber (fun r => wpY_codedNumber (fun r' => r' = r ∧ i_Rel (k + 5) u v) v) u) I ?_
  intro C R g cc dc pk fi qa1 qa2 qa3 qa4 xsl xcu xrf xpx xpy xbc xbl xto xwo xwr pix xmd xvx xvy sem sev prd rsd bts len tgs dam ysrc yold ypic ynxt ydec ymd yvx yvy ydm ydx ydy yprd ydif ysca ysp ysm ysx ysy ysn ysk ydam hr
  exact ⟨rfl, r_mk hr⟩
theorem i_vc_decodedNumber {k : Nat} {u : SX} {v : SY} (I : i_Rel k u v) (hk : k + 5 ≤ 2563) : wpX_decodedNumber (fun r => wpY_decodedNumber (fun r' => r' = r ∧ i_Rel (k + 5) u v) v) u := by
  refine r_el (P := fun u v => wpX_decodedNumber (fun r => wpY_decodedNumber (fun r' => r' = r ∧ i_Rel (k + 5) u v) v) u) I ?_
  intro C R g cc dc pk fi qa1 qa2 qa3 qa4 xsl xcu xrf xpx xpy xbc xbl xto xwo xwr pix xmd xvx xvy sem sev prd rsd bts len tgs dam ysrc yold ypic ynxt ydec ymd yvx yvy ydm ydx ydy yprd ydif ysca ysp ysm ysx ysy ysn ysk ydam hr
  exact ⟨rfl, r_mk hr⟩
theorem i_vc_blockMode {k : Nat} {u : SX} {v : SY} (I : i_Rel k u v) (hk : k + 5 ≤ 2563) (v1 : Int32) (v2 : Int32) : wpX_blockMode (fun r => wpY_blockMode (fun r' => r' = r ∧ i_Rel (k + 5) u v) v v1 v2) u v1 v2 := by
  refine r_el (P := fun u v => wpX_blockMode (fun r => wpY_blockMode (fun r' => r' = r ∧ i_Rel (k + 5) u v) v v1 v2) u v1 v2) I ?_
  intro C R g cc dc pk fi qa1 qa2 qa3 qa4 xsl xcu xrf xpx xpy xbc xbl xto xwo xwr pix xmd xvx xvy sem sev prd rsd bts len tgs dam ysrc yold ypic ynxt ydec ymd yvx yvy ydm ydx ydy yprd ydif ysca ysp ysm ysx ysy ysn ysk ydam hr
  have hr' := hr
  obtain ⟨⟨hC0, hC, hR0, hR, hg⟩, ⟨h16, hdc, hpk, hfi⟩, hS, hP, hD, ⟨hx8, hy8⟩, hB, -⟩ := hr'
  unfold wpX_blockMode wpY_blockMode
  by_cases hi : pv_hb C R v1 v2
  · obtain ⟨a, b, ha, hb, rfl, rfl⟩ := hi
    refine xq_hb1 hC hR ha hb (br_f (by decide) ?_)
    rw [pv_4m, nI_add, nI_clamp (by omega)]
    refine ⟨vp_in_nI (by omega) (by omega), ?_⟩
    refine yq_ib1 hC hR ha hb (br_f (by decide) ?_)
    rw [pv_yb, nI_clamp (by omega)]
    exact ⟨vp_in_nI (by omega) (by omega), (hB a b ha hb).1.symm, r_mk hr⟩
  · refine xq_hb0 hC hR hi (br_t rfl ?_)
    exact yq_ib0 hC hR hi (br_t rfl ⟨rfl, r_mk hr⟩)
theorem i_vc_blockVector {k : Nat} {u : SX} {v : SY} (I : i_Rel k u v) (hk : k + 5 ≤ 2563) (v1 : Int32) (v2 : Int32) : wpX_blockVector (fun r => wpY_blockVector (fun r' => r' = r ∧ i_Rel (k + 5) u v) v v1 v2) u v1 v2 := by
  refine r_el (P := fun u v => wpX_blockVector (fun r => wpY_blockVector (fun r' => r' = r ∧ i_Rel (k + 5) u v) v v1 v2) u v1 v2) I ?_
  intro C R g cc dc pk fi qa1 qa2 qa3 qa4 xsl xcu xrf xpx xpy xbc xbl xto xwo xwr pix xmd xvx xvy sem sev prd rsd bts len tgs dam ysrc yold ypic ynxt ydec ymd yvx yvy ydm ydx ydy yprd ydif ysca ysp ysm ysx ysy ysn ysk ydam hr
  have hr' := hr
  obtain ⟨⟨hC0, hC, hR0, hR, hg⟩, ⟨h16, hdc, hpk, hfi⟩, hS, hP, hD, ⟨hx8, hy8⟩, hB, -⟩ := hr'
  unfold wpX_blockVector wpY_blockVector
  by_cases hi : pv_hb C R v1 v2
  · obtain ⟨a, b, ha, hb, rfl, rfl⟩ := hi
    refine xq_hb1 hC hR ha hb (br_f (by decide) ?_)
    rw [pv_4m, nI_add, nI_clamp (by omega)]
    refine ⟨vp_in_nI (by omega) (by omega), ?_⟩
    refine yq_ib1 hC hR ha hb (br_f (by decide) ?_)
    rw [pv_yb, nI_clamp (by omega)]
    exact ⟨vp_in_nI (by omega) (by omega), vp_in_nI (by omega) (by omega), (hB a b ha hb).2.symm, r_mk hr⟩
  · refine xq_hb0 hC hR hi (br_t rfl ?_)
    exact yq_ib0 hC hR hi (br_t rfl ⟨rfl, r_mk hr⟩)
theorem pv_slot {fi i : Nat} (hfi : fi ≤ 1) (hi : i < 2) : (nI fi + nI i) &&& 1 = nI ((fi + i) % 2) := by
  rw [nI_add, pv_and1 (by omega)]
theorem i_vc_packet {k : Nat} {u : SX} {v : SY} (I : i_Rel k u v) (hk : k + 5 ≤ 2563) (v1 : Int32) : wpX_packet (fun r => wpY_packet (fun r' => r' = r ∧ i_Rel (k + 5) u v) v v1) u v1 := by
  refine r_el (P := fun u v => wpX_packet (fun r => wpY_packet (fun r' => r' = r ∧ i_Rel (k + 5) u v) v v1) u v1) I ?_
  intro C R g cc dc pk fi qa1 qa2 qa3 qa4 xsl xcu xrf xpx xpy xbc xbl xto xwo xwr pix xmd xvx xvy sem sev prd rsd bts len tgs dam ysrc yold ypic ynxt ydec ymd yvx yvy ydm ydx ydy yprd ydif ysca ysp ysm ysx ysy ysn ysk ydam hr
  have hr' := hr
  obtain ⟨⟨hC0, hC, hR0, hR, hg⟩, ⟨h16, hdc, hpk, hfi⟩, hS, hP, hD, ⟨hx8, hy8⟩, hB, h01, H, hH1, hH2, hK⟩ := hr'
  by_cases c1 : v1 < 0
  · exact br_t c1 (br_t c1 ⟨rfl, r_mk hr⟩)
  · obtain ⟨i, hi, rfl⟩ := nI_of c1
    by_cases c2 : i < pk
    · have hl : nI i < nI pk := nI_lt c2 (by omega)
      obtain ⟨num, kind, q, k1, k2, k3, k4, k5, k6, k7, k8, k9⟩ := hK i c2
      have hs : (fi + i) % 2 < 2 := Nat.mod_lt _ (by decide)
      refine br_f c1 (br_t hl (nm_r (pv_slot hfi (by omega)) ?_))
      generalize (fi + i) % 2 = s at k7 k8 k9 hs ⊢
      have i2 : vp_in (nI s) 2 := vp_in_nI hs (by omega)
      have j2 : vp_in (nI i) 2 := vp_in_nI (by omega) (by omega)
      rw [nI_clamp (by omega), k7]
      have L : ∀ P : Int32 → Prop, P (nI (if kind = 0 then num + 32 else num)) → (nI kind = 0 → P (nI num + 32)) ∧ (¬ nI kind = 0 → P (nI num + 0)) := fun P hP => by
        refine br_c (fun e => ?_) (fun e => ?_)
        · rw [if_pos ((nI_eq (b := 0) (by omega) (by omega)).mp e)] at hP
          rw [show (nI num + 32) = nI (num + 32) from nI_add num 32]
          exact hP
        · rw [if_neg (fun z => e (congrArg nI z))] at hP
          rw [Int32.add_zero]
          exact hP
      refine ⟨i2, br_c (fun d0 => ⟨i2, ?_⟩) (fun d0 => ⟨i2, ?_⟩)⟩
      · refine br_f c1 (br_t hl ⟨j2, j2, ?_⟩)
        unfold wY_packet_35
        rw [nI_clamp (by omega), k5, k6, k8]
        refine L (fun x => ∀ x2, x2 = x → vp_in (nI i) 2 ∧ ((dam s = 0 → x2 = _ ∧ _) ∧ (¬ dam s = 0 → -x2 = _ ∧ _))) (nm_e ⟨j2, br_t d0 ⟨rfl, r_mk hr⟩⟩)
      · refine br_f c1 (br_t hl ⟨j2, j2, ?_⟩)
        unfold wY_packet_35
        rw [nI_clamp (by omega), k5, k6, k8]
        refine L (fun x => ∀ x2, x2 = x → vp_in (nI i) 2 ∧ ((dam s = 0 → x2 = _ ∧ _) ∧ (¬ dam s = 0 → -x2 = _ ∧ _))) (nm_e ⟨j2, br_f d0 ⟨rfl, r_mk hr⟩⟩)
    · have hl : ¬ nI i < nI pk := nI_nlt (by omega) hi
      exact br_f c1 (br_f hl (br_f c1 (br_f hl ⟨rfl, r_mk hr⟩)))
end
section
/-! stamp, wash, shift, restart -/
def pv_cv (x y : Int32) (j p : Nat) : Prop := ((p % 16 : Nat) : Int) = x.toInt + ((j % 4 : Nat) : Int) ∧ ((p / 16 : Nat) : Int) = y.toInt + ((j / 4 : Nat) : Int)
def pv_st (C R : Nat) (x y v : Int32) (i : Nat) (S a : Nat → Int32) : Prop := ∀ p, pv_is C R p → ((∃ j, j < i ∧ pv_cv x y j p) → a p = v) ∧ ((¬ ∃ j, j < i ∧ pv_cv x y j p) → a p = S p)
theorem pv_st0 {C R : Nat} {x y v : Int32} {S : Nat → Int32} : pv_st C R x y v 0 S S := fun _ _ => ⟨fun ⟨j, h, _⟩ => absurd h (Nat.not_lt_zero j), fun _ => rfl⟩
theorem pv_sxI {x : Int32} {n : Nat} (h0 : -3 ≤ x.toInt) (h1 : x.toInt ≤ 16) (hn : n ≤ 100) : (x + nI n).toInt = x.toInt + n := by
  rw [pv_add (by rw [nI_toInt (by omega)]; omega) (by rw [nI_toInt (by omega)]; omega), nI_toInt (by omega)]
theorem pv_st_in {C R A B i : Nat} {x y v : Int32} {S a : Nat → Int32} (hC : C ≤ 4) (hR : R ≤ 2) (hi : i < 16) (x0 : -3 ≤ x.toInt) (x1 : x.toInt ≤ 16) (y0 : -3 ≤ y.toInt) (y1 : y.toInt ≤ 16) (hA : A < 4 * C) (hB : B < 4 * R) (ex : x + nI (i % 4) = nI A) (ey : y + nI (i / 4) = nI B) (h : pv_st C R x y v i S a) : pv_st C R x y v (i + 1) S (upd a (16 * B + A) v) := by
  have tx := pv_sxI (n := i % 4) x0 x1 (by omega)
  have ty := pv_sxI (n := i / 4) y0 y1 (by omega)
  rw [ex, nI_toInt (by omega)] at tx
  rw [ey, nI_toInt (by omega)] at ty
  intro p hp
  have hpp := h p hp
  by_cases e : p = 16 * B + A
  · rw [e, pk_us]
    refine ⟨fun _ => rfl, fun hn => absurd ⟨i, by omega, ?_⟩ hn⟩
    unfold pv_cv
    omega
  · rw [pk_un e]
    have ni : ¬ pv_cv x y i p := fun z => by
      unfold pv_cv at z
      omega
    refine ⟨fun ⟨j, j1, j2⟩ => hpp.1 ⟨j, ?_, j2⟩, fun hn => hpp.2 (fun ⟨j, j1, j2⟩ => hn ⟨j, by omega, j2⟩)⟩
    by_cases e2 : j = i
    · rw [e2] at j2
      exact absurd j2 ni
    · omega
theorem pv_st_out {C R i : Nat} {x y v : Int32} {S a : Nat → Int32} (hC : C ≤ 4) (hR : R ≤ 2) (hi : i < 16) (x0 : -3 ≤ x.toInt) (x1 : x.toInt ≤ 16) (y0 : -3 ≤ y.toInt) (y1 : y.toInt ≤ 16) (hn : ¬ pv_ins C R (x + nI (i % 4)) (y + nI (i / 4))) (h : pv_st C R x y v i S a) : pv_st C R x y v (i + 1) S a := by
  have tx := pv_sxI (n := i % 4) x0 x1 (by omega)
  have ty := pv_sxI (n := i / 4) y0 y1 (by omega)
  intro p hp
  have hpp := h p hp
  have ni : ¬ pv_cv x y i p := fun z => by
    refine hn ⟨p % 16, p / 16, hp.1, ?_, ?_, ?_⟩
    · have := hp.2
      omega
    · apply Int32.toInt_inj.mp
      rw [tx, nI_toInt (by omega)]
      exact z.1.symm
    · have := hp.2
      apply Int32.toInt_inj.mp
      rw [ty, nI_toInt (by omega)]
      exact z.2.symm
  refine ⟨fun ⟨j, j1, j2⟩ => hpp.1 ⟨j, ?_, j2⟩, fun hn => hpp.2 (fun ⟨j, j1, j2⟩ => hn ⟨j, by omega, j2⟩)⟩
  by_cases e2 : j = i
  · rw [e2] at j2
    exact absurd j2 ni
  · omega
section
variable {C R g : Nat} {qa1 qa2 qa3 qa4 xcc xdc xpk xfi xsl xcu xrf xpx xpy xbc xbl xto xwo xwr : Int32} {pix xmd xvx xvy sem sev prd rsd bts len tgs dam : Nat → Int32}
theorem xq_stamp {post : Int32 → SX → Prop} {x y v : Int32} (hC : C ≤ 4) (hR : R ≤ 2) (x0 : -3 ≤ x.toInt) (x1 : x.toInt ≤ 16) (y0 : -3 ≤ y.toInt) (y1 : y.toInt ≤ 16)
    (h : ∀ a : Nat → Int32, pv_st C R x y v 16 pix a → (∀ p, 128 ≤ p → a p = pix p) → post 1 (qa1, qa2, qa3, qa4, (nI C), (nI R), (nI g), (nI (4 * C)), (nI (4 * R)), xcc, xdc, xpk, xfi, xsl, xcu, xrf, xpx, xpy, xbc, xbl, xto, xwo, xwr, a, xmd, xvx, xvy, sem, sev, prd, rsd, bts, len, tgs, dam)) : ∃ n : Nat, wX_stamp_44 post x y v qa1 qa2 qa3 qa4 (nI C) (nI R) (nI g) (nI (4 * C)) (nI (4 * R)) xcc xdc xpk xfi xsl xcu xrf xpx xpy xbc xbl xto xwo xwr n 0 pix xmd xvx xvy sem sev prd rsd bts len tgs dam := by
  refine loop_0 (fun n i a => wX_stamp_44 post x y v qa1 qa2 qa3 qa4 (nI C) (nI R) (nI g) (nI (4 * C)) (nI (4 * R)) xcc xdc xpk xfi xsl xcu xrf xpx xpy xbc xbl xto xwo xwr n (nI i) a xmd xvx xvy sem sev prd rsd bts len tgs dam) (fun i a => pv_st C R x y v i pix a ∧ (∀ p, 128 ≤ p → a p = pix p)) 16 pix ⟨pv_st0, fun _ _ => rfl⟩ (fun n a ha => ?_) (fun n i a hi ha ih => ?_)
  · exact br_t (nI_le (a := 16) (by omega) (by omega)) (h a ha.1 ha.2)
  · refine br_f (nI_ge (b := 16) hi (by omega)) (nm_r (e' := x + nI (i % 4)) (by rw [pv_and3 (by omega)]) (nm_r (e' := y + nI (i / 4)) (by rw [pv_shr2 (by omega)]) ?_))
    by_cases hin : pv_ins C R (x + nI (i % 4)) (y + nI (i / 4))
    · obtain ⟨A, B, hA, hB, eA, eB⟩ := hin
      rw [eA, eB]
      refine xq_in1 hC hR hA hB (br_f (by decide) ?_)
      rw [pv_16m, nI_add, nI_clamp (by omega)]
      refine ⟨vp_in_nI (by omega) (by omega), nm_e (nm_r (nI_1 i) (ih _ ⟨pv_st_in hC hR hi x0 x1 y0 y1 hA hB eA eB ha.1, fun p hp => ?_⟩))⟩
      rw [pk_un (by omega)]
      exact ha.2 p hp
    · exact xq_in0 hC hR hin (br_t rfl (nm_r (nI_1 i) (ih _ ⟨pv_st_out hC hR hi x0 x1 y0 y1 hin ha.1, ha.2⟩)))
end
section
variable {C R g : Nat} {ycn ydn yct : Int32} {ysrc yold ypic ynxt ydec ymd yvx yvy ydm ydx ydy yprd ydif ysca ysp ysm ysx ysy ysn ysk ydam : Nat → Int32}
theorem yq_stamp {post : Int32 → SY → Prop} {x y v : Int32} (hC : C ≤ 4) (hR : R ≤ 2) (x0 : -3 ≤ x.toInt) (x1 : x.toInt ≤ 16) (y0 : -3 ≤ y.toInt) (y1 : y.toInt ≤ 16)
    (h : ∀ a : Nat → Int32, pv_st C R x y v 16 ysrc a → post 1 ((nI C), (nI R), (nI g), (nI (4 * C)), (nI (4 * R)), ycn, ydn, yct, a, yold, ypic, ynxt, ydec, ymd, yvx, yvy, ydm, ydx, ydy, yprd, ydif, ysca, ysp, ysm, ysx, ysy, ysn, ysk, ydam)) : ∃ n : Nat, wY_stamp_44 post x y v (nI C) (nI R) (nI g) (nI (4 * C)) (nI (4 * R)) ycn ydn yct n y ysrc yold ypic ynxt ydec ymd yvx yvy ydm ydx ydy yprd ydif ysca ysp ysm ysx ysy ysn ysk ydam := by
  have e3 : (3 : Int32) = nI 3 := rfl
  have cmp : ∀ {z : Int32} {n : Nat}, -3 ≤ z.toInt → z.toInt ≤ 16 → n ≤ 5 → (z + 3 < z + nI n ↔ 3 < n) := fun {z n} z0 z1 hn => by
    rw [Int32.lt_iff_toInt_lt, e3, pv_sxI z0 z1 (by omega), pv_sxI z0 z1 (by omega)]
    omega
  have inc : ∀ (z : Int32) (n : Nat), z + nI n + 1 = z + nI (n + 1) := fun z n => by
    rw [Int32.add_assoc, nI_1]
  have z0 : ∀ z : Int32, z + nI 0 = z := fun z => Int32.add_zero z
  have L : ∃ n : Nat, wY_stamp_44 post x y v (nI C) (nI R) (nI g) (nI (4 * C)) (nI (4 * R)) ycn ydn yct n (y + nI 0) ysrc yold ypic ynxt ydec ymd yvx yvy ydm ydx ydy yprd ydif ysca ysp ysm ysx ysy ysn ysk ydam := by
    refine loop_0 (fun n j a => wY_stamp_44 post x y v (nI C) (nI R) (nI g) (nI (4 * C)) (nI (4 * R)) ycn ydn yct n (y + nI j) a yold ypic ynxt ydec ymd yvx yvy ydm ydx ydy yprd ydif ysca ysp ysm ysx ysy ysn ysk ydam) (fun j a => pv_st C R x y v (4 * j) ysrc a) 4 ysrc pv_st0 (fun n a ha => ?_) (fun n j a hj ha ih => ?_)
    · exact br_t ((cmp y0 y1 (by omega)).mpr (by omega)) (h a ha)
    · refine br_f (fun z => absurd ((cmp y0 y1 (by omega)).mp z) (by omega)) ?_
      have M : ∃ m : Nat, wY_stamp_55 post (wY_stamp_44 post x y v (nI C) (nI R) (nI g) (nI (4 * C)) (nI (4 * R)) ycn ydn yct n) x y v (y + nI j) (nI C) (nI R) (nI g) (nI (4 * C)) (nI (4 * R)) ycn ydn yct m (x + nI 0) a yold ypic ynxt ydec ymd yvx yvy ydm ydx ydy yprd ydif ysca ysp ysm ysx ysy ysn ysk ydam := by
        refine loop_0 (fun m i b => wY_stamp_55 post (wY_stamp_44 post x y v (nI C) (nI R) (nI g) (nI (4 * C)) (nI (4 * R)) ycn ydn yct n) x y v (y + nI j) (nI C) (nI R) (nI g) (nI (4 * C)) (nI (4 * R)) ycn ydn yct m (x + nI i) b yold ypic ynxt ydec ymd yvx yvy ydm ydx ydy yprd ydif ysca ysp ysm ysx ysy ysn ysk ydam) (fun i b => pv_st C R x y v (4 * j + i) ysrc b) 4 a ha (fun m b hb => ?_) (fun m i b hi hb ih2 => ?_)
        · exact br_t ((cmp x0 x1 (by omega)).mpr (by omega)) (nm_r (inc y j) (ih b hb))
        · refine br_f (fun z => absurd ((cmp x0 x1 (by omega)).mp z) (by omega)) ?_
          have ei : (4 * j + i) % 4 = i := by omega
          have ej : (4 * j + i) / 4 = j := by omega
          by_cases hin : pv_ins C R (x + nI i) (y + nI j)
          · obtain ⟨A, B, hA, hB, eA, eB⟩ := hin
            rw [eA, eB]
            refine yq_in1 hC hR hA hB (br_f (by decide) ?_)
            rw [pv_yi, nI_clamp (by omega)]
            refine ⟨vp_in_nI (by omega) (by omega), nm_e ?_⟩
            rw [← eA, ← eB]
            exact nm_r (inc x i) (ih2 _ (pv_st_in (i := 4 * j + i) hC hR (by omega) x0 x1 y0 y1 hA hB (by rw [ei]; exact eA) (by rw [ej]; exact eB) hb))
          · exact yq_in0 hC hR hin (br_t rfl (nm_r (inc x i) (ih2 _ (pv_st_out (i := 4 * j + i) hC hR (by omega) x0 x1 y0 y1 (by rw [ei, ej]; exact hin) hb))))
      rw [z0] at M
      exact M
  rw [z0] at L
  exact L
end
theorem i_vc_stamp {k : Nat} {u : SX} {v : SY} (I : i_Rel k u v) (hk : k + 5 ≤ 2563) (v1 : Int32) (v2 : Int32) (v3 : Int32) : wpX_stamp (fun r u' => wpY_stamp (fun r' v' => r' = r ∧ i_Rel (k + 5) u' v') v v1 v2 v3) u v1 v2 v3 := by
  refine r_el (P := fun u v => wpX_stamp (fun r u' => wpY_stamp (fun r' v' => r' = r ∧ i_Rel (k + 5) u' v') v v1 v2 v3) u v1 v2 v3) I ?_
  intro C R g cc dc pk fi qa1 qa2 qa3 qa4 xsl xcu xrf xpx xpy xbc xbl xto xwo xwr pix xmd xvx xvy sem sev prd rsd bts len tgs dam ysrc yold ypic ynxt ydec ymd yvx yvy ydm ydx ydy yprd ydif ysca ysp ysm ysx ysy ysn ysk ydam hr
  have hr' := hr
  obtain ⟨⟨hC0, hC, hR0, hR, hg⟩, ⟨h16, hdc, hpk, hfi⟩, hS, hP, hD, ⟨hx8, hy8⟩, hB, h01, H, hH1, hH2, hK⟩ := hr'
  by_cases c1 : v1 < (-3)
  · exact br_t c1 (br_t c1 ⟨rfl, r_mk hr⟩)
  by_cases c2 : nI (4 * C) ≤ v1
  · exact br_f c1 (br_t c2 (br_f c1 (br_t c2 ⟨rfl, r_mk hr⟩)))
  by_cases c3 : v2 < (-3)
  · exact br_f c1 (br_f c2 (br_t c3 (br_f c1 (br_f c2 (br_t c3 ⟨rfl, r_mk hr⟩)))))
  by_cases c4 : nI (4 * R) ≤ v2
  · exact br_f c1 (br_f c2 (br_f c3 (br_t c4 (br_f c1 (br_f c2 (br_f c3 (br_t c4 ⟨rfl, r_mk hr⟩)))))))
  by_cases c5 : v3 < 0
  · exact br_f c1 (br_f c2 (br_f c3 (br_f c4 (br_t c5 (br_f c1 (br_f c2 (br_f c3 (br_f c4 (br_t c5 ⟨rfl, r_mk hr⟩)))))))))
  by_cases c6 : v3 ≤ 255
  · have m3 : (-3 : Int32).toInt = -3 := by decide
    have d1 := c1
    have d2 := c2
    have d3 := c3
    have d4 := c4
    rw [Int32.lt_iff_toInt_lt, m3] at d1 d3
    rw [Int32.le_iff_toInt_le, nI_toInt (by omega)] at d2 d4
    refine br_f c1 (br_f c2 (br_f c3 (br_f c4 (br_f c5 (br_t c6 (xq_stamp hC hR (by omega) (by omega) (by omega) (by omega) (fun a a1 a2 => ?_)))))))
    refine br_f c1 (br_f c2 (br_f c3 (br_f c4 (br_f c5 (br_t c6 (yq_stamp hC hR (by omega) (by omega) (by omega) (by omega) (fun b b1 => ⟨rfl, r_mk ?_⟩)))))))
    refine ⟨⟨hC0, hC, hR0, hR, hg⟩, ⟨h16, hdc, hpk, hfi⟩, fun p hp => ?_, fun p hp => ?_, fun p hp => ?_, ⟨hx8, hy8⟩, hB, h01, H, hH1, hH2, hK⟩
    · have s := hS p hp
      by_cases e : ∃ j, j < 16 ∧ pv_cv v1 v2 j p
      · rw [(a1 p hp).1 e, (b1 p hp).1 e]
        exact ⟨rfl, pv_by_of c5 c6⟩
      · rw [(a1 p hp).2 e, (b1 p hp).2 e]
        exact s
    · rw [a2 _ (by omega)]
      exact hP p hp
    · rw [a2 _ (by omega)]
      exact hD p hp
  · exact br_f c1 (br_f c2 (br_f c3 (br_f c4 (br_f c5 (br_f c6 (br_f c1 (br_f c2 (br_f c3 (br_f c4 (br_f c5 (br_f c6 ⟨rfl, r_mk hr⟩)))))))))))
/-! wash -/
def pv_wv (a b c d : Int32) (p : Nat) : Int32 := (((a + (b * nI (p % 16))) + (c * nI (p / 16))) + ((d * nI (p % 16)) * nI (p / 16))) &&& 255
theorem pv_wv_by (a b c d : Int32) (p : Nat) : pv_by (pv_wv a b c d p) := by
  unfold pv_wv
  obtain ⟨j, hj, e⟩ := pk_andE (((a + (b * nI (p % 16))) + (c * nI (p / 16))) + ((d * nI (p % 16)) * nI (p / 16))) (m := 255) 8 (by decide)
  rw [e]
  exact pv_by_nI (by omega)
theorem pv_wvI (a b c d : Int32) {x y : Nat} (hx : x < 16) : (((a + (b * nI x)) + (c * nI y)) + ((d * nI x) * nI y)) &&& 255 = pv_wv a b c d (16 * y + x) := by
  unfold pv_wv
  rw [show (16 * y + x) % 16 = x by omega, show (16 * y + x) / 16 = y by omega]
def pv_rw (C R y x : Nat) (F a : Nat → Int32) : Prop := ∀ p, pv_is C R p → (p / 16 < y ∨ (p / 16 = y ∧ p % 16 < x)) → a p = F p
theorem pv_rw0 {C R : Nat} {F a : Nat → Int32} : pv_rw C R 0 0 F a := fun p _ h => by omega
theorem pv_rw_s {C R y x : Nat} {F a : Nat → Int32} {v : Int32} (hx : x < 16) (hv : v = F (16 * y + x)) (h : pv_rw C R y x F a) : pv_rw C R y (x + 1) F (upd a (16 * y + x) v) := fun p hp hh => by
  by_cases e : p = 16 * y + x
  · rw [e, pk_us, hv]
  · rw [pk_un e]
    exact h p hp (by omega)
theorem pv_rw_r {C R y : Nat} {F a : Nat → Int32} (h : pv_rw C R y (4 * C) F a) : pv_rw C R (y + 1) 0 F a := fun p hp hh => h p hp (by have := hp.1; omega)
theorem pv_rw_e {C R : Nat} {F a : Nat → Int32} (h : pv_rw C R (4 * R) 0 F a) : ∀ p, pv_is C R p → a p = F p := fun p hp => h p hp (by have := hp.2; omega)
section
variable {C R g : Nat} {qa1 qa2 qa3 qa4 xcc xdc xpk xfi xsl xcu xrf xpx xpy xbc xbl xto xwo xwr : Int32} {pix xmd xvx xvy sem sev prd rsd bts len tgs dam : Nat → Int32} {ycn ydn yct : Int32} {ysrc yold ypic ynxt ydec ymd yvx yvy ydm ydx ydy yprd ydif ysca ysp ysm ysx ysy ysn ysk ydam : Nat → Int32}
theorem xq_wash {post : SX → Prop} {a b c d : Int32} (hC : C ≤ 4) (hR : R ≤ 2) (h : ∀ s : Nat → Int32, (∀ p, pv_is C R p → s p = pv_wv a b c d p) → (∀ p, 128 ≤ p → s p = pix p) → post (qa1, qa2, qa3, qa4, (nI C), (nI R), (nI g), (nI (4 * C)), (nI (4 * R)), xcc, xdc, xpk, xfi, xsl, xcu, xrf, xpx, xpy, xbc, xbl, xto, xwo, xwr, s, xmd, xvx, xvy, sem, sev, prd, rsd, bts, len, tgs, dam)) : wpX_wash post (qa1, qa2, qa3, qa4, (nI C), (nI R), (nI g), (nI (4 * C)), (nI (4 * R)), xcc, xdc, xpk, xfi, xsl, xcu, xrf, xpx, xpy, xbc, xbl, xto, xwo, xwr, pix, xmd, xvx, xvy, sem, sev, prd, rsd, bts, len, tgs, dam) a b c d := by
  unfold wpX_wash
  refine loop_0 (fun n y s => wX_wash_3 post a b c d qa1 qa2 qa3 qa4 (nI C) (nI R) (nI g) (nI (4 * C)) (nI (4 * R)) xcc xdc xpk xfi xsl xcu xrf xpx xpy xbc xbl xto xwo xwr n (nI y) s xmd xvx xvy sem sev prd rsd bts len tgs dam) (fun y s => pv_rw C R y 0 (pv_wv a b c d) s ∧ (∀ p, 128 ≤ p → s p = pix p)) (4 * R) pix ⟨pv_rw0, fun _ _ => rfl⟩ (fun n s hs => ?_) (fun n y s hy hs ih => ?_)
  · exact br_t (nI_le (by omega) (by omega)) (h s (pv_rw_e hs.1) hs.2)
  · refine br_f (nI_ge hy (by omega)) ?_
    refine loop_0 (fun m x t => wX_wash_15 post (wX_wash_3 post a b c d qa1 qa2 qa3 qa4 (nI C) (nI R) (nI g) (nI (4 * C)) (nI (4 * R)) xcc xdc xpk xfi xsl xcu xrf xpx xpy xbc xbl xto xwo xwr n) a b c d (nI y) qa1 qa2 qa3 qa4 (nI C) (nI R) (nI g) (nI (4 * C)) (nI (4 * R)) xcc xdc xpk xfi xsl xcu xrf xpx xpy xbc xbl xto xwo xwr m (nI x) t xmd xvx xvy sem sev prd rsd bts len tgs dam) (fun x t => pv_rw C R y x (pv_wv a b c d) t ∧ (∀ p, 128 ≤ p → t p = pix p)) (4 * C) s hs (fun m t ht => ?_) (fun m x t hx ht ih2 => ?_)
    · exact br_t (nI_le (by omega) (by omega)) (nm_r (nI_1 y) (ih t ⟨pv_rw_r ht.1, ht.2⟩))
    · refine br_f (nI_ge hx (by omega)) ?_
      rw [pv_wvI a b c d (by omega), pv_16m, nI_add, nI_clamp (by omega)]
      refine ⟨vp_in_nI (by omega) (by omega), nm_e (nm_r (nI_1 x) (ih2 _ ⟨pv_rw_s (by omega) rfl ht.1, fun p hp => ?_⟩))⟩
      rw [pk_un (by omega)]
      exact ht.2 p hp
theorem yq_wash {post : SY → Prop} {a b c d : Int32} (hC : C ≤ 4) (hR : R ≤ 2) (h : ∀ s : Nat → Int32, (∀ p, pv_is C R p → s p = pv_wv a b c d p) → post ((nI C), (nI R), (nI g), (nI (4 * C)), (nI (4 * R)), ycn, ydn, yct, s, yold, ypic, ynxt, ydec, ymd, yvx, yvy, ydm, ydx, ydy, yprd, ydif, ysca, ysp, ysm, ysx, ysy, ysn, ysk, ydam)) : wpY_wash post ((nI C), (nI R), (nI g), (nI (4 * C)), (nI (4 * R)), ycn, ydn, yct, ysrc, yold, ypic, ynxt, ydec, ymd, yvx, yvy, ydm, ydx, ydy, yprd, ydif, ysca, ysp, ysm, ysx, ysy, ysn, ysk, ydam) a b c d := by
  unfold wpY_wash
  refine loop_0 (fun n y s => wY_wash_3 post a b c d (nI C) (nI R) (nI g) (nI (4 * C)) (nI (4 * R)) ycn ydn yct n (nI y) s yold ypic ynxt ydec ymd yvx yvy ydm ydx ydy yprd ydif ysca ysp ysm ysx ysy ysn ysk ydam) (fun y s => pv_rw C R y 0 (pv_wv a b c d) s) (4 * R) ysrc pv_rw0 (fun n s hs => ?_) (fun n y s hy hs ih => ?_)
  · exact br_t (nI_le (by omega) (by omega)) (h s (pv_rw_e hs))
  · refine br_f (nI_ge hy (by omega)) ?_
    refine loop_0 (fun m x t => wY_wash_15 post (wY_wash_3 post a b c d (nI C) (nI R) (nI g) (nI (4 * C)) (nI (4 * R)) ycn ydn yct n) a b c d (nI y) (nI C) (nI R) (nI g) (nI (4 * C)) (nI (4 * R)) ycn ydn yct m (nI x) t yold ypic ynxt ydec ymd yvx yvy ydm ydx ydy yprd ydif ysca ysp ysm ysx ysy ysn ysk ydam) (fun x t => pv_rw C R y x (pv_wv a b c d) t) (4 * C) s hs (fun m t ht => ?_) (fun m x t hx ht ih2 => ?_)
    · exact br_t (nI_le (by omega) (by omega)) (nm_r (nI_1 y) (ih t (pv_rw_r ht)))
    · refine br_f (nI_ge hx (by omega)) ?_
      rw [pv_wvI a b c d (by omega), pv_yi, nI_clamp (by omega)]
      exact ⟨vp_in_nI (by omega) (by omega), nm_e (nm_r (nI_1 x) (ih2 _ (pv_rw_s (by omega) rfl ht)))⟩
theorem xq_shift {post : Int32 → SX → Prop} {dx dy : Int32} (hC : C ≤ 4) (hR : R ≤ 2) (hC0 : 1 ≤ C) (hR0 : 1 ≤ R) (h : ∀ s : Nat → Int32, (∀ p, p < 128 → s p = pv_rf pix C R (nI (p % 16) - dx) (nI (p / 16) - dy)) → (∀ p, 128 ≤ p → p < 384 → s p = pix p) → post 1 (qa1, qa2, qa3, qa4, (nI C), (nI R), (nI g), (nI (4 * C)), (nI (4 * R)), xcc, xdc, xpk, xfi, xsl, xcu, xrf, xpx, xpy, xbc, xbl, xto, xwo, xwr, s, xmd, xvx, xvy, sem, sev, prd, rsd, bts, len, tgs, dam)) : ∃ n : Nat, wX_shift_26 post dx dy qa1 qa2 qa3 qa4 (nI C) (nI R) (nI g) (nI (4 * C)) (nI (4 * R)) xcc xdc xpk xfi xsl xcu xrf xpx xpy xbc xbl xto xwo xwr n 0 pix xmd xvx xvy sem sev prd rsd bts len tgs dam := by
  refine loop_0 (fun n i s => wX_shift_26 post dx dy qa1 qa2 qa3 qa4 (nI C) (nI R) (nI g) (nI (4 * C)) (nI (4 * R)) xcc xdc xpk xfi xsl xcu xrf xpx xpy xbc xbl xto xwo xwr n (nI i) s xmd xvx xvy sem sev prd rsd bts len tgs dam) (fun i s => (∀ p, p < i → s (384 + p) = pv_rf pix C R (nI (p % 16) - dx) (nI (p / 16) - dy)) ∧ (∀ p, p < 384 → s p = pix p)) 128 pix ⟨lt_0, fun _ _ => rfl⟩ (fun n s hs => ?_) (fun n i s hi hs ih => ?_)
  · refine br_t (nI_le (a := 128) (by omega) (by omega)) ?_
    refine loop_0 (fun n i t => wX_shift_67 post qa1 qa2 qa3 qa4 (nI C) (nI R) (nI g) (nI (4 * C)) (nI (4 * R)) xcc xdc xpk xfi xsl xcu xrf xpx xpy xbc xbl xto xwo xwr n (nI i) t xmd xvx xvy sem sev prd rsd bts len tgs dam) (fun i t => (∀ p, p < i → t p = s (384 + p)) ∧ (∀ p, i ≤ p → t p = s p)) 128 s ⟨lt_0, fun _ _ => rfl⟩ (fun n t ht => ?_) (fun n i t hi ht ih => ?_)
    · refine br_t (nI_le (a := 128) (by omega) (by omega)) (h t (fun p hp => ?_) (fun p p1 p2 => ?_))
      · rw [ht.1 p hp, hs.1 p hp]
      · rw [ht.2 p p1, hs.2 p p2]
    · refine br_f (nI_ge (b := 128) hi (by omega)) ?_
      rw [pv_384, nI_clamp (n := i) (by omega), nI_clamp (n := 384 + i) (by omega)]
      refine ⟨vp_in_nI (by omega) (by omega), vp_in_nI (by omega) (by omega), nm_e (nm_r (nI_1 i) (ih _ ⟨pv_lt_s ht.1 (ht.2 _ (by omega)), fun p hp => ?_⟩))⟩
      rw [pk_un (by omega)]
      exact ht.2 p (by omega)
  · refine br_f (nI_ge (b := 128) hi (by omega)) ?_
    rw [pv_and15 (by omega), pv_shr4 (by omega)]
    refine xq_near (B := 0) hC hR hC0 hR0 (by omega) ?_
    have e : pv_rf (fun p => s (0 + p)) C R (nI (i % 16) - dx) (nI (i / 16) - dy) = pv_rf pix C R (nI (i % 16) - dx) (nI (i / 16) - dy) := pv_rf_congr hC hR hC0 hR0 (fun p hp => by
      have := hp.2
      rw [Nat.zero_add]
      exact hs.2 p (by omega))
    rw [e, pv_384, nI_clamp (by omega)]
    refine ⟨vp_in_nI (by omega) (by omega), nm_e (nm_r (nI_1 i) (ih _ ⟨pv_lt_o hs.1 rfl, fun p hp => ?_⟩))⟩
    rw [pk_un (by omega)]
    exact hs.2 p hp
theorem yq_shift {post : Int32 → SY → Prop} {dx dy : Int32} (hC : C ≤ 4) (hR : R ≤ 2) (hC0 : 1 ≤ C) (hR0 : 1 ≤ R) (h : ∀ s o : Nat → Int32, (∀ p, pv_is C R p → s p = pv_rf ysrc C R (nI (p % 16) - dx) (nI (p / 16) - dy)) → post 1 ((nI C), (nI R), (nI g), (nI (4 * C)), (nI (4 * R)), ycn, ydn, yct, s, o, ypic, ynxt, ydec, ymd, yvx, yvy, ydm, ydx, ydy, yprd, ydif, ysca, ysp, ysm, ysx, ysy, ysn, ysk, ydam)) : ∃ n : Nat, wY_shift_26 post dx dy (nI C) (nI R) (nI g) (nI (4 * C)) (nI (4 * R)) ycn ydn yct n 0 ysrc yold ypic ynxt ydec ymd yvx yvy ydm ydx ydy yprd ydif ysca ysp ysm ysx ysy ysn ysk ydam := by
  refine loop_0 (fun n i o => wY_shift_26 post dx dy (nI C) (nI R) (nI g) (nI (4 * C)) (nI (4 * R)) ycn ydn yct n (nI i) ysrc o ypic ynxt ydec ymd yvx yvy ydm ydx ydy yprd ydif ysca ysp ysm ysx ysy ysn ysk ydam) (fun i o => ∀ p, p < i → o p = ysrc p) 128 yold lt_0 (fun n o ho => ?_) (fun n i o hi ho ih => ?_)
  · refine br_t (nI_le (a := 128) (by omega) (by omega)) ?_
    refine loop_0 (fun n y s => wY_shift_53 post dx dy (nI C) (nI R) (nI g) (nI (4 * C)) (nI (4 * R)) ycn ydn yct n (nI y) s o ypic ynxt ydec ymd yvx yvy ydm ydx ydy yprd ydif ysca ysp ysm ysx ysy ysn ysk ydam) (fun y s => pv_rw C R y 0 (fun p => pv_rf ysrc C R (nI (p % 16) - dx) (nI (p / 16) - dy)) s) (4 * R) ysrc pv_rw0 (fun n s hs => ?_) (fun n y s hy hs ih => ?_)
    · exact br_t (nI_le (by omega) (by omega)) (h s o (pv_rw_e hs))
    · refine br_f (nI_ge hy (by omega)) ?_
      refine loop_0 (fun m x t => wY_shift_64 post (wY_shift_53 post dx dy (nI C) (nI R) (nI g) (nI (4 * C)) (nI (4 * R)) ycn ydn yct n) dx dy (nI y) (nI C) (nI R) (nI g) (nI (4 * C)) (nI (4 * R)) ycn ydn yct m (nI x) t o ypic ynxt ydec ymd yvx yvy ydm ydx ydy yprd ydif ysca ysp ysm ysx ysy ysn ysk ydam) (fun x t => pv_rw C R y x (fun p => pv_rf ysrc C R (nI (p % 16) - dx) (nI (p / 16) - dy)) t) (4 * C) s hs (fun m t ht => ?_) (fun m x t hx ht ih2 => ?_)
      · exact br_t (nI_le (by omega) (by omega)) (nm_r (nI_1 y) (ih t (pv_rw_r ht)))
      · refine br_f (nI_ge hx (by omega)) ?_
        have ex := pv_cnI (x := nI x - dx) (n := 4 * C) (by omega) (by omega)
        have ey := pv_cnI (x := nI y - dy) (n := 4 * R) (by omega) (by omega)
        refine yq_limit ?_
        refine yq_limit ?_
        rw [ex.1, ey.1, pv_yi, pv_yi, nI_clamp (n := 16 * y + x) (by omega), nI_clamp (n := 16 * pv_cn (nI y - dy) (4 * R - 1) + pv_cn (nI x - dx) (4 * C - 1)) (by omega), ho _ (by omega)]
        refine ⟨vp_in_nI (by omega) (by omega), vp_in_nI (by omega) (by omega), nm_e (nm_r (nI_1 x) (ih2 _ (pv_rw_s (by omega) ?_ ht)))⟩
        rw [show (16 * y + x) % 16 = x by omega, show (16 * y + x) / 16 = y by omega]
        rfl
  · refine br_f (nI_ge (b := 128) hi (by omega)) ?_
    rw [nI_clamp (by omega)]
    exact ⟨vp_in_nI hi (by omega), vp_in_nI hi (by omega), nm_e (nm_r (nI_1 i) (ih _ (pv_lt_s ho rfl)))⟩
end
theorem i_vc_wash {k : Nat} {u : SX} {v : SY} (I : i_Rel k u v) (hk : k + 5 ≤ 2563) (v1 : Int32) (v2 : Int32) (v3 : Int32) (v4 : Int32) : wpX_wash (fun u' => wpY_wash (fun v' => i_Rel (k + 5) u' v') v v1 v2 v3 v4) u v1 v2 v3 v4 := by
  refine r_el (P := fun u v => wpX_wash (fun u' => wpY_wash (fun v' => i_Rel (k + 5) u' v') v v1 v2 v3 v4) u v1 v2 v3 v4) I ?_
  intro C R g cc dc pk fi qa1 qa2 qa3 qa4 xsl xcu xrf xpx xpy xbc xbl xto xwo xwr pix xmd xvx xvy sem sev prd rsd bts len tgs dam ysrc yold ypic ynxt ydec ymd yvx yvy ydm ydx ydy yprd ydif ysca ysp ysm ysx ysy ysn ysk ydam hr
  obtain ⟨⟨hC0, hC, hR0, hR, hg⟩, ⟨h16, hdc, hpk, hfi⟩, hS, hP, hD, ⟨hx8, hy8⟩, hB, h01, H, hH1, hH2, hK⟩ := hr
  refine xq_wash hC hR (fun a a1 a2 => yq_wash hC hR (fun b b1 => r_mk ?_))
  refine ⟨⟨hC0, hC, hR0, hR, hg⟩, ⟨h16, hdc, hpk, hfi⟩, fun p hp => ?_, fun p hp => ?_, fun p hp => ?_, ⟨hx8, hy8⟩, hB, h01, H, hH1, hH2, hK⟩
  · rw [a1 p hp, b1 p hp]
    exact ⟨rfl, pv_wv_by _ _ _ _ _⟩
  · rw [a2 _ (by omega)]
    exact hP p hp
  · rw [a2 _ (by omega)]
    exact hD p hp
theorem i_vc_shift {k : Nat} {u : SX} {v : SY} (I : i_Rel k u v) (hk : k + 5 ≤ 2563) (v1 : Int32) (v2 : Int32) : wpX_shift (fun r u' => wpY_shift (fun r' v' => r' = r ∧ i_Rel (k + 5) u' v') v v1 v2) u v1 v2 := by
  refine r_el (P := fun u v => wpX_shift (fun r u' => wpY_shift (fun r' v' => r' = r ∧ i_Rel (k + 5) u' v') v v1 v2) u v1 v2) I ?_
  intro C R g cc dc pk fi qa1 qa2 qa3 qa4 xsl xcu xrf xpx xpy xbc xbl xto xwo xwr pix xmd xvx xvy sem sev prd rsd bts len tgs dam ysrc yold ypic ynxt ydec ymd yvx yvy ydm ydx ydy yprd ydif ysca ysp ysm ysx ysy ysn ysk ydam hr
  have hr' := hr
  obtain ⟨⟨hC0, hC, hR0, hR, hg⟩, ⟨h16, hdc, hpk, hfi⟩, hS, hP, hD, ⟨hx8, hy8⟩, hB, h01, H, hH1, hH2, hK⟩ := hr'
  by_cases c1 : v1 < (-4)
  · exact br_t c1 (br_t c1 ⟨rfl, r_mk hr⟩)
  by_cases c2 : 4 < v1
  · exact br_f c1 (br_t c2 (br_f c1 (br_t c2 ⟨rfl, r_mk hr⟩)))
  by_cases c3 : v2 < (-4)
  · exact br_f c1 (br_f c2 (br_t c3 (br_f c1 (br_f c2 (br_t c3 ⟨rfl, r_mk hr⟩)))))
  by_cases c4 : v2 ≤ 4
  · refine br_f c1 (br_f c2 (br_f c3 (br_t c4 (xq_shift hC hR hC0 hR0 (fun a a1 a2 => ?_)))))
    refine br_f c1 (br_f c2 (br_f c3 (br_t c4 (yq_shift hC hR hC0 hR0 (fun b o b1 => ⟨rfl, r_mk ?_⟩)))))
    refine ⟨⟨hC0, hC, hR0, hR, hg⟩, ⟨h16, hdc, hpk, hfi⟩, fun p hp => ?_, fun p hp => ?_, fun p hp => ?_, ⟨hx8, hy8⟩, hB, h01, H, hH1, hH2, hK⟩
    · have hp2 := hp.2
      rw [a1 p (by omega), b1 p hp, pv_rf_congr hC hR hC0 hR0 (fun q hq => (hS q hq).1)]
      refine ⟨rfl, ?_⟩
      unfold pv_rf
      have ex := (pv_cn_ok (nI (p % 16) - v1) (m := 4 * C - 1) (by omega)).2
      have ey := (pv_cn_ok (nI (p / 16) - v2) (m := 4 * R - 1) (by omega)).2
      exact (hS _ (pv_is_xy hC (by omega) (by omega))).2
    · have hp2 := hp.2
      rw [a2 _ (by omega) (by omega)]
      exact hP p hp
    · have hp2 := hp.2
      rw [a2 _ (by omega) (by omega)]
      exact hD p hp
  · exact br_f c1 (br_f c2 (br_f c3 (br_f c4 (br_f c1 (br_f c2 (br_f c3 (br_f c4 ⟨rfl, r_mk hr⟩)))))))
theorem i_vc_restart {k : Nat} {u : SX} {v : SY} (I : i_Rel k u v) (hk : k + 5 ≤ 2563) : wpX_restart (fun u' => wpY_restart (fun v' => i_Rel (k + 5) u' v') v) u := by
  refine r_el (P := fun u v => wpX_restart (fun u' => wpY_restart (fun v' => i_Rel (k + 5) u' v') v) u) I ?_
  intro C R g cc dc pk fi qa1 qa2 qa3 qa4 xsl xcu xrf xpx xpy xbc xbl xto xwo xwr pix xmd xvx xvy sem sev prd rsd bts len tgs dam ysrc yold ypic ynxt ydec ymd yvx yvy ydm ydx ydy yprd ydif ysca ysp ysm ysx ysy ysn ysk ydam hr
  obtain ⟨⟨hC0, hC, hR0, hR, hg⟩, ⟨h16, hdc, hpk, hfi⟩, hS, hP, hD, ⟨hx8, hy8⟩, hB, h01, H, hH1, hH2, hK⟩ := hr
  have b0 : pv_by 0 := pv_by_nI (n := 0) (by omega)
  have z0 : (0 : Int32) = 10 * 0 + 0 := by decide
  refine xq_restart (fun a sm sv a1 a2 a3 => yq_restart (fun pc dc' dm dx dy b1 b2 => r_mk (cc := 0) (dc := 0) (pk := 0) ?_))
  refine ⟨⟨hC0, hC, hR0, hR, hg⟩, ⟨by omega, by omega, by omega, hfi⟩, fun p hp => ?_, fun p hp => ?_, fun p hp => ?_, ⟨hx8, hy8⟩, fun c r hc hr => ?_, h01, fun _ _ => 0, fun p hp => ?_, fun p hp => ?_, fun i hi => absurd hi (Nat.not_lt_zero i)⟩
  · have hp2 := hp.2
    rw [a1 p (by omega)]
    exact hS p hp
  · have hp2 := hp.2
    rw [a2 _ (by omega) (by omega), (b1 p (by omega)).1]
    exact ⟨rfl, b0⟩
  · have hp2 := hp.2
    rw [a2 _ (by omega) (by omega), (b1 p (by omega)).2]
  · have s := a3 (4 * r + c) (by omega)
    have t := b2 (4 * r + c) (by omega)
    rw [s.1, s.2, t.1, t.2.1, t.2.2]
    exact ⟨rfl, z0⟩
  · have hp2 := hp.2
    exact (b1 p (by omega)).1.symm
  · have hp2 := hp.2
    exact (b1 p (by omega)).2.symm
end
section
/-! packets carried along; damage -/
theorem pv_ok_congr {B B' : Nat → Int32} {L : Nat} (hL : L ≤ 4096) (h : pv_ok B L) (hb : ∀ j, j < 4096 → B' j = B j) : pv_ok B' L := by
  obtain ⟨h1, h2, h3⟩ := h
  refine ⟨h1, ?_, ?_⟩
  · rw [pv_bn_congr (B' := B) 16 (fun j hj => hb _ (by omega))]
    exact h2
  · rw [pv_bn_congr (B' := B) 16 (fun j hj => hb _ (by omega)), pv_ck_congr (B := B) (B' := B') L (fun j j1 j2 => hb _ (by omega))]
    exact h3
theorem pv_TR_congr {B B' : Nat → Int32} {C R : Nat} {md : Nat → Nat} {vx vy : Nat → Int32} {rs : Nat → Nat → Int32} {K : Nat → Nat} (h : pv_TR B C R md vx vy rs K) (hb : ∀ j, j < 4096 → B' j = B j) : pv_TR B' C R md vx vy rs K := by
  obtain ⟨h1, h2, h3⟩ := h
  refine ⟨h1, h2, fun c r hc hr => pv_bt_congr (h3 c r hc hr) (fun j j1 j2 => hb j ?_)⟩
  have hk : r * C + (c + 1) ≤ R * C := by
    have : (r + 1) * C ≤ R * C := Nat.mul_le_mul_right C hr
    rw [Nat.add_mul, Nat.one_mul] at this
    omega
  have := h2 _ hk
  omega
theorem r_GD_congr {C R num kind q : Nat} {P0 P1 P0' P1' B B' : Nat → Int32} {ls : Int32} {sm sx sy sm' sx' sy' : Nat → Int32} (hC : C ≤ 4) (hR : R ≤ 2) (h : r_GD C R num kind q P0 P1 B ls sm sx sy) (hb : ∀ j, j < 4096 → B' j = B j) (h0 : P0' = P0) (h1 : P1' = P1) (hm : ∀ b, b < 8 → sm' b = sm b ∧ sx' b = sx b ∧ sy' b = sy b) : r_GD C R num kind q P0' P1' B' ls sm' sx' sy' := by
  obtain ⟨L, NE, md, vx, vy, rs, K, a1, a2, a3, a4, a5, a6, a7, a8⟩ := h
  subst h0 h1
  refine ⟨L, NE, md, vx, vy, rs, K, a1, a2, pv_ok_congr (by omega) a3 hb, ?_, a5, pv_TR_congr a6 hb, fun c r hc hr hbb => ?_, a8⟩
  · rw [pv_bn_congr (B' := B) 12 (fun j hj => hb _ (by omega))]
    exact a4
  · have m := hm (4 * r + c) (by omega)
    rw [m.1, m.2.1, m.2.2]
    exact a7 c r hc hr hbb
theorem r_BD_congr {B B' : Nat → Int32} {ls : Int32} (h : r_BD B ls) (hb : ∀ j, j < 4096 → B' j = B j) : r_BD B' ls := by
  obtain ⟨L, a1, a2, a3⟩ := h
  exact ⟨L, a1, a2, fun z => a3 (pv_ok_congr a1 z (fun j hj => (hb j hj).symm))⟩
theorem r_PK_congr {C R cc cc' : Nat} {H H' : Nat → Nat → Int32} {bts len tgs dam ysp ysm ysx ysy ysn ysk ydam bts' len' tgs' dam' ysp' ysm' ysx' ysy' ysn' ysk' ydam' : Nat → Int32} {s i i' : Nat} (hC : C ≤ 4) (hR : R ≤ 2)
    (h : r_PK C R cc H bts len tgs dam ysp ysm ysx ysy ysn ysk ydam s i) (hcc : cc ≤ cc') (hH : ∀ n, n ≤ cc → H' n = H n) (hb : ∀ j, j < 4096 → bts' (4096 * s + j) = bts (4096 * s + j)) (hl : len' s = len s) (ht : tgs' s = tgs s) (hd : dam' s = dam s)
    (hp : ∀ p, p < 128 → ysp' (128 * i' + p) = ysp (128 * i + p)) (hm : ∀ b, b < 8 → ysm' (8 * i' + b) = ysm (8 * i + b) ∧ ysx' (8 * i' + b) = ysx (8 * i + b) ∧ ysy' (8 * i' + b) = ysy (8 * i + b)) (hn : ysn' i' = ysn i) (hk : ysk' i' = ysk i) (hyd : ydam' i' = ydam i) :
    r_PK C R cc' H' bts' len' tgs' dam' ysp' ysm' ysx' ysy' ysn' ysk' ydam' s i' := by
  obtain ⟨num, kind, q, k1, k2, k3, k4, k5, k6, k7, k8, k9, k10⟩ := h
  refine ⟨num, kind, q, k1, by omega, k3, k4, by rw [hn]; exact k5, by rw [hk]; exact k6, by rw [ht]; exact k7, by rw [hyd, hd]; exact k8, fun p hpp => ?_, ?_⟩
  · have := hpp.2
    rw [hp p (by omega), hH num k2]
    exact k9 p hpp
  · rw [hd, hl]
    cases k10 with
    | inl a => exact Or.inl ⟨a.1, r_GD_congr hC hR a.2 hb (hH _ (by omega)) (hH _ k2) hm⟩
    | inr a => exact Or.inr ⟨a.1, r_BD_congr a.2 hb⟩
theorem pv_ck_flip {B B' : Nat → Int32} {p : Nat} (hp : 32 ≤ p) (h : ∀ j, j ≠ p → B' j = B j) (h0 : B p = 0) (h1 : ¬ B' p = 0) : ∀ n, p < n → pv_ck B' n = pv_ck B n + p
  | 0, hn => absurd hn (Nat.not_lt_zero p)
  | n + 1, hn => by
    show pv_ck B' n + (if 32 ≤ n ∧ ¬ B' n = 0 then n else 0) = pv_ck B n + (if 32 ≤ n ∧ ¬ B n = 0 then n else 0) + p
    by_cases e : n = p
    · rw [pv_ck_congr (B := B) (B' := B') n (fun j j1 j2 => h j (by omega)), e, if_pos ⟨hp, h1⟩, if_neg (fun z => z.2 h0), Nat.add_zero]
    · rw [pv_ck_flip hp h h0 h1 n (by omega), h n e]
      omega
theorem pv_flip_bad {B B' : Nat → Int32} {L p : Nat} (hL : L ≤ 4096) (hp : p < L) (ok : pv_ok B L) (h : ∀ j, j ≠ p → B' j = B j) (hx : pv_b (B' p) ≠ pv_b (B p)) : ¬ pv_ok B' L := by
  intro ok'
  obtain ⟨o1, o2, o3⟩ := ok
  obtain ⟨q1, q2, q3⟩ := ok'
  by_cases c1 : p < 16
  · have e := pv_bn_inj 16 (q2.trans o2.symm) p c1
    rw [Nat.zero_add] at e
    exact hx e
  · by_cases c2 : p < 32
    · rw [pv_ck_congr (B := B) (B' := B') L (fun j j1 j2 => h j (by omega))] at q3
      have e := pv_bn_inj 16 (q3.trans o3.symm) (p - 16) (by omega)
      rw [show 16 + (p - 16) = p by omega] at e
      exact hx e
    · have e : pv_bn B' 16 16 = pv_bn B 16 16 := pv_bn_congr 16 (fun j hj => h _ (by omega))
      have m : pv_ck B' L % 65536 = pv_ck B L % 65536 := by rw [← q3, ← o3, e]
      unfold pv_b at hx
      by_cases z : B p = 0
      · rw [if_pos z] at hx
        have z' : ¬ B' p = 0 := fun y => hx (if_pos y)
        have f := pv_ck_flip (by omega) h z z' L hp
        omega
      · rw [if_neg z] at hx
        have z' : B' p = 0 := Classical.byContradiction fun y => hx (if_neg y)
        have f := pv_ck_flip (B := B') (B' := B) (by omega) (fun j hj => (h j hj).symm) z' z L hp
        omega
section
variable {C R g : Nat} {qa1 qa2 qa3 qa4 xcc xdc xpk xfi xsl xcu xrf xpx xpy xbc xbl xto xwo xwr : Int32} {pix xmd xvx xvy sem sev prd rsd bts len tgs dam : Nat → Int32}
theorem xq_dm160 {post : Int32 → SX → Prop} {hw n s : Nat} (hhw : hw < 2) (h : post 1 (qa1, qa2, qa3, qa4, (nI C), (nI R), (nI g), (nI (4 * C)), (nI (4 * R)), xcc, xdc, xpk, xfi, nI s, xcu, xrf, xpx, xpy, xbc, xbl, xto, xwo, xwr, pix, xmd, xvx, xvy, sem, sev, prd, rsd, bts, len, tgs, dam)) : wX_damage_160 post (nI hw) (nI n) qa1 qa2 qa3 qa4 (nI C) (nI R) (nI g) (nI (4 * C)) (nI (4 * R)) xcc xdc xpk xfi (nI s) xcu xrf xpx xpy xbc xbl xto xwo xwr pix xmd xvx xvy sem sev prd rsd bts len tgs dam :=
  br_f (fun z => absurd ((nI_eq (b := 2) (by omega) (by omega)).mp z) (by omega)) h
theorem xq_damage {post : Int32 → SX → Prop} {hw n s L : Nat} (hhw : hw ≤ 2) (hn1 : 1 ≤ n) (hn2 : n ≤ 4096) (hs : s < 2) (hL : L ≤ 4000) (hl : len s = nI L) (h01 : pv_01 bts) (ok : pv_ok (pv_sl bts s) L)
    (h : ∀ (b l : Nat → Int32) (L' : Nat) (cu wr : Int32), (∀ j, (j < 4096 * s ∨ 4096 * s + 4096 ≤ j) → b j = bts j) → pv_01 b → (∀ t, t ≠ s → l t = len t) → l s = nI L' → L' ≤ 4096 → ¬ pv_ok (pv_sl b s) L' → post 1 (qa1, qa2, qa3, qa4, (nI C), (nI R), (nI g), (nI (4 * C)), (nI (4 * R)), xcc, xdc, xpk, xfi, nI s, cu, xrf, xpx, xpy, xbc, xbl, xto, xwo, wr, pix, xmd, xvx, xvy, sem, sev, prd, rsd, b, l, tgs, dam)) :
    (nI hw = 0 → vp_in (nI s) 2 ∧ ((len (nI s).toNatClampNeg ≤ nI n → wX_damage_111 post (nI hw) (nI n) 0 (nI s) qa1 qa2 qa3 qa4 (nI C) (nI R) (nI g) (nI (4 * C)) (nI (4 * R)) xcc xdc xpk xfi (nI s) xcu xrf xpx xpy xbc xbl xto xwo xwr pix xmd xvx xvy sem sev prd rsd bts len tgs dam) ∧ (¬ len (nI s).toNatClampNeg ≤ nI n → vp_in (nI s) 2 ∧ wX_damage_111 post (nI hw) (nI n) (len (nI s).toNatClampNeg - nI n) (nI s) qa1 qa2 qa3 qa4 (nI C) (nI R) (nI g) (nI (4 * C)) (nI (4 * R)) xcc xdc xpk xfi (nI s) xcu xrf xpx xpy xbc xbl xto xwo xwr pix xmd xvx xvy sem sev prd rsd bts len tgs dam))) ∧ (¬ nI hw = 0 → wX_damage_112 post (nI hw) (nI n) qa1 qa2 qa3 qa4 (nI C) (nI R) (nI g) (nI (4 * C)) (nI (4 * R)) xcc xdc xpk xfi (nI s) xcu xrf xpx xpy xbc xbl xto xwo xwr pix xmd xvx xvy sem sev prd rsd bts len tgs dam) := by
  have i2 : vp_in (nI s) 2 := vp_in_nI hs (by omega)
  have es : (nI s).toNatClampNeg = s := nI_clamp (by omega)
  obtain ⟨o1, o2, o3⟩ := ok
  rw [es, hl]
  refine br_c (fun e => ⟨i2, ?_⟩) (fun e => ?_)
  · have h0 : hw = 0 := (nI_eq (b := 0) (by omega) (by omega)).mp e
    have fin : ∀ L' : Nat, L' < L → wX_damage_111 post (nI hw) (nI n) (nI L') (nI s) qa1 qa2 qa3 qa4 (nI C) (nI R) (nI g) (nI (4 * C)) (nI (4 * R)) xcc xdc xpk xfi (nI s) xcu xrf xpx xpy xbc xbl xto xwo xwr pix xmd xvx xvy sem sev prd rsd bts len tgs dam := fun L' hL' => by
      unfold wX_damage_111
      rw [es]
      refine ⟨i2, nm_e ?_⟩
      unfold wX_damage_112
      refine br_f (fun z => absurd ((nI_eq (b := 1) (by omega) (by omega)).mp z) (by omega)) (xq_dm160 (by omega) (h bts (upd len s (nI L')) L' _ _ (fun _ _ => rfl) h01 (fun t ht => pk_un ht) pk_us (by omega) (fun z => ?_)))
      have := z.2.1
      omega
    refine br_c (fun e1 => fin 0 (by omega)) (fun e1 => ⟨i2, ?_⟩)
    rw [nI_leI (by omega) (by omega)] at e1
    rw [pk_sub (by omega)]
    exact fin (L - n) (by omega)
  · have h0 : ¬ hw = 0 := fun z => e (congrArg nI z)
    unfold wX_damage_112
    rw [es, hl]
    refine br_c (fun e1 => ⟨i2, ?_⟩) (fun e1 => ?_)
    · have h1 : hw = 1 := (nI_eq (b := 1) (by omega) (by omega)).mp e1
      refine br_f (nI_nle (by omega) (by omega)) ⟨i2, nI_ne0 (by omega) (by omega), ?_⟩
      have hm : (n - 1) % L < L := Nat.mod_lt _ (by omega)
      have ep : 4096 * nI s + ((nI n - 1) - (nI n - 1) / nI L * nI L) = nI (4096 * s + (n - 1) % L) := by
        rw [pv_s1 hn1, pk_rem (by omega) (by omega) (by omega), pv_4096m, nI_add]
      rw [ep, nI_clamp (by omega)]
      generalize (n - 1) % L = p at hm ep ⊢
      have ip : vp_in (nI (4096 * s + p)) 8192 := vp_in_nI (by omega) (by omega)
      refine ⟨ip, ip, nm_e (xq_dm160 (by omega) ?_)⟩
      have x0 : vp_nar .boolean ((0 : Int32) ^^^ 1) = 1 := by decide
      have x1 : vp_nar .boolean ((1 : Int32) ^^^ 1) = 0 := by decide
      refine h _ len L _ _ (fun j hj => pk_un (by omega)) (fun j => ?_) (fun _ _ => rfl) hl (by omega) (pv_flip_bad (p := p) (by omega) hm ⟨o1, o2, o3⟩ (fun j hj => pk_un (by omega)) ?_)
      · by_cases ej : j = 4096 * s + p
        · rw [ej, pk_us]
          cases h01 (4096 * s + p) with
          | inl z => rw [z, x0]; exact Or.inr rfl
          | inr z => rw [z, x1]; exact Or.inl rfl
        · rw [pk_un ej]
          exact h01 j
      · show pv_b (upd bts (4096 * s + p) (vp_nar .boolean (bts (4096 * s + p) ^^^ 1)) (4096 * s + p)) ≠ pv_b (bts (4096 * s + p))
        rw [pk_us]
        cases h01 (4096 * s + p) with
        | inl z => rw [z, x0]; decide
        | inr z => rw [z, x1]; decide
    · have h1 : ¬ hw = 1 := fun z => e1 (congrArg nI z)
      have h2 : hw = 2 := by omega
      unfold wX_damage_160
      refine br_t (congrArg nI h2) ⟨pv_16z, ?_⟩
      have en : 1 + (nI n - nI n / 16 * 16) = nI (1 + n % 16) := by
        rw [pv_rem16 (by omega)]
        exact nI_add 1 _
      rw [en]
      refine xq_pad hs (by omega) (by omega) hl (fun b b1 b2 => h b _ (L + (1 + n % 16)) _ _ (fun j hj => b1 j (by omega)) (b2 h01) (fun t ht => pk_un ht) pk_us (by omega) (fun z => ?_))
      have z2 := z.2.1
      rw [pv_bn_congr (B' := pv_sl bts s) 16 (fun j hj => b1 _ (by omega)), o2] at z2
      omega
end
theorem i_vc_damage {k : Nat} {u : SX} {v : SY} (I : i_Rel k u v) (hk : k + 5 ≤ 2563) (v1 : Int32) (v2 : Int32) (v3 : Int32) : wpX_damage (fun r u' => wpY_damage (fun r' v' => r' = r ∧ i_Rel (k + 5) u' v') v v1 v2 v3) u v1 v2 v3 := by
  refine r_el (P := fun u v => wpX_damage (fun r u' => wpY_damage (fun r' v' => r' = r ∧ i_Rel (k + 5) u' v') v v1 v2 v3) u v1 v2 v3) I ?_
  intro C R g cc dc pk fi qa1 qa2 qa3 qa4 xsl xcu xrf xpx xpy xbc xbl xto xwo xwr pix xmd xvx xvy sem sev prd rsd bts len tgs dam ysrc yold ypic ynxt ydec ymd yvx yvy ydm ydx ydy yprd ydif ysca ysp ysm ysx ysy ysn ysk ydam hr
  have hr' := hr
  obtain ⟨⟨hC0, hC, hR0, hR, hg⟩, ⟨h16, hdc, hpk, hfi⟩, hS, hP, hD, ⟨hx8, hy8⟩, hB, h01, H, hH1, hH2, hK⟩ := hr'
  by_cases c1 : v1 < 0
  · exact br_t c1 (br_t c1 ⟨rfl, r_mk hr⟩)
  by_cases c2 : nI pk ≤ v1
  · exact br_f c1 (br_t c2 (br_f c1 (br_t c2 ⟨rfl, r_mk hr⟩)))
  by_cases c3 : v2 < 0
  · exact br_f c1 (br_f c2 (br_t c3 (br_f c1 (br_f c2 (br_t c3 ⟨rfl, r_mk hr⟩)))))
  by_cases c4 : 2 < v2
  · exact br_f c1 (br_f c2 (br_f c3 (br_t c4 (br_f c1 (br_f c2 (br_f c3 (br_t c4 ⟨rfl, r_mk hr⟩)))))))
  by_cases c5 : v3 < 1
  · exact br_f c1 (br_f c2 (br_f c3 (br_f c4 (br_t c5 (br_f c1 (br_f c2 (br_f c3 (br_f c4 (br_t c5 ⟨rfl, r_mk hr⟩)))))))))
  by_cases c6 : v3 ≤ 4096
  · have c6' : ¬ 4096 < v3 := Int32.not_lt.mpr c6
    obtain ⟨i, hi, rfl⟩ := nI_of c1
    have hip : i < pk := by
      rw [nI_leI (by omega) hi] at c2
      omega
    obtain ⟨hw, hhw, rfl⟩ := nI_of c3
    have hw2 : hw ≤ 2 := by
      have z : ¬ nI 2 < nI hw := c4
      rw [nI_ltI (by omega) hhw] at z
      omega
    have n0 : ¬ v3 < 0 := fun z => c5 (by
      rw [Int32.lt_iff_toInt_lt, show (0 : Int32).toInt = 0 from by decide] at z
      rw [Int32.lt_iff_toInt_lt, show (1 : Int32).toInt = 1 from by decide]
      omega)
    obtain ⟨n, hn, rfl⟩ := nI_of n0
    have n1 : 1 ≤ n := by
      have z : ¬ nI n < nI 1 := c5
      rw [nI_ltI hn (by omega)] at z
      omega
    have n2 : n ≤ 4096 := by
      have z : nI n ≤ nI 4096 := c6
      rw [nI_leI hn (by omega)] at z
      exact z
    have pki := hK i hip
    have oth : ∀ j, j < pk → j ≠ i → (fi + j) % 2 ≠ (fi + i) % 2 := fun j hj hji => by omega
    have hs : (fi + i) % 2 < 2 := Nat.mod_lt _ (by decide)
    refine br_f c1 (br_f c2 (br_f c3 (br_f c4 (br_f c5 (br_t c6 (nm_r (pv_slot hfi (by omega)) ?_))))))
    obtain ⟨num, kind, q, k1, k2, k3, k4, k5, k6, k7, k8, k9, k10⟩ := pki
    generalize hsq : (fi + i) % 2 = s at hs k7 k8 k9 k10 oth ⊢
    have i2 : vp_in (nI s) 2 := vp_in_nI hs (by omega)
    have j2 : vp_in (nI i) 2 := vp_in_nI (by omega) (by omega)
    have es : (nI s).toNatClampNeg = s := nI_clamp (by omega)
    have ei : (nI i).toNatClampNeg = i := nI_clamp (by omega)
    refine ⟨i2, ?_⟩
    cases k10 with
    | inl a =>
      obtain ⟨d0, L, NE, md, vx, vy, rs, K, a1, a2, a3, a4, a5, a6, a7, a8⟩ := a
      refine br_t (by rw [es]; exact d0) ⟨i2, nm_r (congrArg (fun k => upd dam k (vp_nar .boolean 1)) es) ?_⟩
      refine xq_damage hw2 n1 n2 hs a1 a2 h01 a3 (fun b l L' cu wr b1 b2 b3 b4 b5 b6 => ?_)
      refine br_f c1 (br_f c2 (br_f c3 (br_f c4 (br_f c5 (br_f c6' ⟨j2, br_t (by rw [ei, k8]; exact d0) ⟨j2, nm_r (congrArg (fun k => upd ydam k (vp_nar .boolean 1)) ei) ⟨rfl, r_mk ?_⟩⟩⟩)))))
      rw [pv_vb1]
      refine ⟨⟨hC0, hC, hR0, hR, hg⟩, ⟨h16, hdc, hpk, hfi⟩, hS, hP, hD, ⟨hx8, hy8⟩, hB, b2, H, hH1, hH2, fun j hj => ?_⟩
      by_cases ej : j = i
      · subst ej
        rw [hsq]
        exact ⟨num, kind, q, k1, k2, k3, k4, k5, k6, k7, by rw [pk_us, pk_us], k9, Or.inr ⟨pk_us, L', b5, b4, b6⟩⟩
      · have o := oth j hj ej
        have hs2 : (fi + j) % 2 < 2 := Nat.mod_lt _ (by decide)
        refine r_PK_congr hC hR (hK j hj) (Nat.le_refl _) (fun _ _ => rfl) (fun t ht => b1 _ ?_) (b3 _ o) rfl (pk_un o) (fun _ _ => rfl) (fun _ _ => ⟨rfl, rfl, rfl⟩) rfl rfl (pk_un ej)
        generalize (fi + j) % 2 = s' at o hs2 ⊢
        omega
    | inr a =>
      have d1 : ¬ dam s = 0 := by rw [a.1]; decide
      refine br_f (by rw [es]; exact d1) ?_
      exact br_f c1 (br_f c2 (br_f c3 (br_f c4 (br_f c5 (br_f c6' ⟨j2, br_f (by rw [ei, k8]; exact d1) ⟨rfl, r_mk hr⟩⟩)))))
  · exact br_f c1 (br_f c2 (br_f c3 (br_f c4 (br_f c5 (br_f c6 (br_f c1 (br_f c2 (br_f c3 (br_f c4 (br_f c5 (br_t (Int32.not_le.mp c6) ⟨rfl, r_mk hr⟩)))))))))))
end
section
/-! the filtered picture; encode -/
theorem pv_edges_in : ∀ C, C < 5 → ∀ R, R < 3 → ∀ e, e ∈ pv_edges C R → 2 * e.2 ≤ e.1 ∧ ((e.1 - 2 * e.2) % 16 < 4 * C ∧ (e.1 - 2 * e.2) < 64 * R) ∧ ((e.1 - e.2) % 16 < 4 * C ∧ (e.1 - e.2) < 64 * R) ∧ (e.1 % 16 < 4 * C ∧ e.1 < 64 * R) ∧ ((e.1 + e.2) % 16 < 4 * C ∧ (e.1 + e.2) < 64 * R) := by decide +kernel
theorem pv_M_is {C R p : Nat} {M M' : Nat → Int32} (hM : ∀ c r, c < C → r < R → M (4 * r + c) = M' (4 * r + c)) (hp : p % 16 < 4 * C ∧ p < 64 * R) : M (pv_bk p) = M' (pv_bk p) :=
  hM (p % 16 / 4) (p / 64) (by omega) (by omega)
theorem pv_fln_congr {C R q : Nat} {M M' N N' : Nat → Int32} {e : Nat × Nat} (hC : C ≤ 4) (hR : R ≤ 2) (hM : ∀ c r, c < C → r < R → M (4 * r + c) = M' (4 * r + c)) (hN : ∀ p, pv_is C R p → N p = N' p) (he : e ∈ pv_edges C R) : ∀ p, pv_is C R p → pv_fln M q e N p = pv_fln M' q e N' p := by
  obtain ⟨v0, v1, v2, v3, v4⟩ := pv_edges_in C (by omega) R (by omega) e he
  intro p hp
  unfold pv_fln
  rw [pv_M_is hM v2, pv_M_is hM v3, hN _ v1, hN _ v2, hN _ v3, hN _ v4]
  split
  · exact hN p hp
  · split
    · exact hN p hp
    · split
      · exact hN p hp
      · split
        · unfold pv_fw2
          by_cases e1 : p = e.1
          · rw [e1, pk_us, pk_us]
          · rw [pk_un e1, pk_un e1]
            by_cases e2 : p = e.1 - e.2
            · rw [e2, pk_us, pk_us]
            · rw [pk_un e2, pk_un e2]
              exact hN p hp
        · exact hN p hp
theorem pv_fe_congr {C R q : Nat} {M M' : Nat → Int32} (hC : C ≤ 4) (hR : R ≤ 2) (hM : ∀ c r, c < C → r < R → M (4 * r + c) = M' (4 * r + c)) : ∀ (l : List (Nat × Nat)) (N N' : Nat → Int32), (∀ e, e ∈ l → e ∈ pv_edges C R) → (∀ p, pv_is C R p → N p = N' p) → ∀ p, pv_is C R p → pv_fe M q l N p = pv_fe M' q l N' p
  | [], N, N', _, hN => hN
  | e :: l, N, N', hl, hN => pv_fe_congr hC hR hM l _ _ (fun e' he' => hl e' (List.mem_cons_of_mem _ he')) (pv_fln_congr hC hR hM hN (hl e List.mem_cons_self))
theorem pv_FP_congr {C R q : Nat} {M M' N N' : Nat → Int32} (hC : C ≤ 4) (hR : R ≤ 2) (hM : ∀ c r, c < C → r < R → M (4 * r + c) = M' (4 * r + c)) (hN : ∀ p, pv_is C R p → N p = N' p) : ∀ p, pv_is C R p → pv_FP C R q M N p = pv_FP C R q M' N' p := by
  intro p hp
  unfold pv_FP
  by_cases q0 : q = 0
  · rw [if_pos q0, if_pos q0]
    exact hN p hp
  · rw [if_neg q0, if_neg q0]
    exact pv_fe_congr hC hR hM _ _ _ (fun _ h => h) hN p hp
theorem pv_fln_by {C R q : Nat} {M N : Nat → Int32} {e : Nat × Nat} (hN : ∀ p, pv_is C R p → pv_by (N p)) : ∀ p, pv_is C R p → pv_by (pv_fln M q e N p) := by
  intro p hp
  unfold pv_fln
  split
  · exact hN p hp
  · split
    · exact hN p hp
    · split
      · exact hN p hp
      · split
        · unfold pv_fw2
          by_cases e1 : p = e.1
          · rw [e1, pk_us]; exact pv_cl_by _
          · rw [pk_un e1]
            by_cases e2 : p = e.1 - e.2
            · rw [e2, pk_us]; exact pv_cl_by _
            · rw [pk_un e2]; exact hN p hp
        · exact hN p hp
theorem pv_fe_by {C R q : Nat} {M : Nat → Int32} : ∀ (l : List (Nat × Nat)) (N : Nat → Int32), (∀ p, pv_is C R p → pv_by (N p)) → ∀ p, pv_is C R p → pv_by (pv_fe M q l N p)
  | [], N, hN => hN
  | e :: l, N, hN => pv_fe_by l _ (pv_fln_by hN)
theorem pv_FP_by {C R q : Nat} {M N : Nat → Int32} (hN : ∀ p, pv_is C R p → pv_by (N p)) : ∀ p, pv_is C R p → pv_by (pv_FP C R q M N p) := by
  intro p hp
  unfold pv_FP
  by_cases q0 : q = 0
  · rw [if_pos q0]
    exact hN p hp
  · rw [if_neg q0]
    exact pv_fe_by _ _ hN p hp
section
variable {C R g : Nat} {qa1 qa2 qa3 qa4 xcc xdc xpk xfi xsl xcu xrf xpx xpy xbc xbl xto xwo xwr : Int32} {pix xmd xvx xvy sem sev prd rsd bts len tgs dam : Nat → Int32}
theorem xq_enc59 {post : Int32 → SX → Prop} {cc fi pk kind q : Nat} (hC : C ≤ 4) (hR : R ≤ 2) (hC0 : 1 ≤ C) (hR0 : 1 ≤ R) (hg : g ≤ 3) (hcc : cc < 16) (hfi : fi ≤ 1) (hpk : pk < 2) (hk : kind < 2) (hq : q ≤ 40)
    (hS : ∀ p, pv_is C R p → pv_by (pix p)) (hP : ∀ p, pv_is C R p → pv_by (pix (128 + p))) (hx8 : xvx 8 = 0) (hy8 : xvy 8 = 0) (h01 : pv_01 bts)
    (h : ∀ (NE a f' p' M VX VY B b : Nat → Int32) (md : Nat → Nat) (rs : Nat → Nat → Int32) (K : Nat → Nat) (L : Nat) (x y bc bl t w : Int32),
      (∀ p, p < 384 → (p < 128 ∨ 128 + 128 ≤ p) → a p = pix p) → (∀ p, p < 128 → a (128 + p) = pv_FP C R q M NE p) →
      (∀ c r, c < C → r < R → pv_bl C R q kind g pix (fun p => pix (128 + p)) NE B md VX VY rs K c r ∧ M (4 * r + c) = nI (md (4 * r + c))) → (∀ p, pv_is C R p → pv_by (NE p)) → VX 8 = 0 → VY 8 = 0 →
      pv_TR (pv_sl b ((fi + pk) % 2)) C R md VX VY rs K → (∀ j, (j < 4096 * ((fi + pk) % 2) ∨ 4096 * ((fi + pk) % 2) + 4096 ≤ j) → b j = bts j) → pv_01 b → L ≤ 4000 → pv_ok (pv_sl b ((fi + pk) % 2)) L → pv_bn (pv_sl b ((fi + pk) % 2)) 32 12 = (cc + 1) * 128 + kind * 64 + q →
      post (nI (cc + 1)) (qa1, qa2, qa3, qa4, (nI C), (nI R), (nI g), (nI (4 * C)), (nI (4 * R)), nI (cc + 1), xdc, nI (pk + 1), nI fi, nI ((fi + pk) % 2), nI 32, nI 128, x, y, bc, bl, t, w, 1, a, M, VX, VY, sem, sev, p', f', b, upd len ((fi + pk) % 2) (nI L), upd tgs ((fi + pk) % 2) (nI (if kind = 0 then cc + 1 + 32 else cc + 1)), upd dam ((fi + pk) % 2) 0)) :
    wX_encode_59 post (nI kind) (nI q) qa1 qa2 qa3 qa4 (nI C) (nI R) (nI g) (nI (4 * C)) (nI (4 * R)) (nI cc) xdc (nI pk) (nI fi) xsl xcu xrf xpx xpy xbc xbl xto xwo xwr pix xmd xvx xvy sem sev prd rsd bts len tgs dam := by
  unfold wX_encode_59
  refine nm_r (nI_1 cc) ?_
  refine xq_open (by omega) hfi hpk hk hq (fun b1 t1 t2 t3 => ?_)
  have hs : (fi + pk) % 2 < 2 := Nat.mod_lt _ (by decide)
  generalize (fi + pk) % 2 = s at hs h t1 t3 ⊢
  refine xq_frameW (B := 128) hC hR hC0 hR0 hg (by omega) hk hq hs hS hP hx8 hy8 (fun a0 a f' p' M VX VY b md rs K x y bc bl t w hI g1 g2 => ?_)
  obtain ⟨i1, i2, i3, i4, i5, i6, i7, i8, i9⟩ := hI
  have hRC : R * C + 0 ≤ 8 := by
    have : R * C ≤ 2 * 4 := Nat.mul_le_mul hR hC
    omega
  have kn := i7 (R * C + 0) (Nat.le_refl _)
  refine xq_close hs (L := K (R * C + 0)) (by omega) (by omega) (fun b3 u1 u2 u3 => ?_)
  have hF : ∀ c r, c < C → r < R → pv_bl C R q kind g pix (fun p => pix (128 + p)) (fun p => a0 (384 + p)) (pv_sl b s) md VX VY rs K c r ∧ M (4 * r + c) = nI (md (4 * r + c)) := fun c r hc hr => i3 c r hc hr (by omega)
  refine h (fun p => a0 (384 + p)) a f' p' M VX VY (pv_sl b s) b3 md rs K (K (R * C + 0)) x y bc bl t w g1 g2 hF (fun p hp => pv_dn_all (A := fun p => pv_by (a0 (384 + p))) i2 p hp) i4 i5 ⟨i6, fun n hn => ?_, fun c r hc hr => ?_⟩ (fun j hj => ?_) (u2 (i9 (t2 h01))) (by omega) u3 ?_
  · have := i7 n hn
    omega
  · have hk2 : r * C + (c + 1) ≤ R * C := by
      have : (r + 1) * C ≤ R * C := Nat.mul_le_mul_right C hr
      rw [Nat.add_mul, Nat.one_mul] at this
      omega
    have q1 := (i7 (r * C + c) (by omega)).2.2
    obtain ⟨_, _, _, _, _, _, _, _, _, h10⟩ := (hF c r hc hr).1
    exact pv_bt_congr h10 (fun j j1 j2 => u1 _ (by omega))
  · rw [u1 j (by omega), i8 j (by omega), t1 j (by omega)]
  · rw [pv_bn_congr (B' := pv_sl b1 s) 12 (fun j hj => ?_), t3]
    show b3 (4096 * s + (32 + j)) = b1 (4096 * s + (32 + j))
    rw [u1 _ (by omega), i8 _ (by omega)]
end
theorem pv_FR_P {C R q kind : Nat} {P P' NE : Nat → Int32} {md : Nat → Nat} {vx vy : Nat → Int32} {rs : Nat → Nat → Int32} (hC : C ≤ 4) (hR : R ≤ 2) (h : pv_FR C R q kind P NE md vx vy rs) (hP : ∀ p, pv_is C R p → P p = P' p) : pv_FR C R q kind P' NE md vx vy rs := by
  intro c r hc hr
  obtain ⟨h1, h2, h3⟩ := h c r hc hr
  refine ⟨h1, h2, fun i hi => ?_⟩
  rw [h3 i hi]
  exact pv_rc_congr (fun j hj => pv_pr_congr hC hR hc hr hj (fun _ _ => rfl) (fun _ => hP)) (fun _ _ => rfl) hi
theorem r_encode {k cc pk : Nat} {kind q : Nat} {C R g dc fi : Nat} {qa1 qa2 qa3 qa4 xsl xcu xrf xpx xpy xbc xbl xto xwo xwr : Int32} {pix xmd xvx xvy sem sev prd rsd bts len tgs dam ysrc yold ypic ynxt ydec ymd yvx yvy ydm ydx ydy yprd ydif ysca ysp ysm ysx ysy ysn ysk ydam : Nat → Int32}
    (hr : r_R C R g cc dc pk fi pix xvx xvy sem sev bts len tgs dam ysrc ypic ydec ydm ydx ydy ysp ysm ysx ysy ysn ysk ydam) (hcc : cc < 16) (hpk2 : pk < 2) (hk : kind < 2) (hq : q ≤ 40) (Q : Int32 → SX → Prop)
    (hQ : ∀ u' : SX, (∀ P : Int32 → SY → Prop, (∀ v', i_Rel (k + 5) u' v' → P (nI (cc + 1)) v') → ∃ n : Nat, wY_encode_61 P (nI kind) (nI q) n 0 (nI C) (nI R) (nI g) (nI (4 * C)) (nI (4 * R)) (nI cc) (nI dc) (nI pk) ysrc yold ypic ynxt ydec ymd yvx yvy ydm ydx ydy yprd ydif ysca ysp ysm ysx ysy ysn ysk ydam) → Q (nI (cc + 1)) u') :
    wX_encode_59 Q (nI kind) (nI q) qa1 qa2 qa3 qa4 (nI C) (nI R) (nI g) (nI (4 * C)) (nI (4 * R)) (nI cc) (nI dc) (nI pk) (nI fi) xsl xcu xrf xpx xpy xbc xbl xto xwo xwr pix xmd xvx xvy sem sev prd rsd bts len tgs dam := by
  obtain ⟨⟨hC0, hC, hR0, hR, hg⟩, ⟨h16, hdc, hpk, hfi⟩, hS, hP, hD, ⟨hx8, hy8⟩, hB, h01, H, hH1, hH2, hK⟩ := hr
  have bS : ∀ p, pv_is C R p → pv_by (pix p) := fun p hp => by rw [(hS p hp).1]; exact (hS p hp).2
  have bP : ∀ p, pv_is C R p → pv_by (pix (128 + p)) := fun p hp => by rw [(hP p hp).1]; exact (hP p hp).2
  refine xq_enc59 hC hR hC0 hR0 hg hcc hfi hpk2 hk hq bS bP hx8 hy8 h01 (fun NE a f' p' M VX VY B b md rs K L x y bc bl t w F1 F2 F3 F4 F5 F6 F7 F8 F9 F10 F11 F12 => hQ _ (fun P hPost => ?_))
  refine yq_en61 (S := pix) (P := fun p => pix (128 + p)) (NE := NE) (md := md) (vx := VX) (vy := VY) hC hR hC0 hR0 hk hq (fun c r hc hr => (F3 c r hc hr).1) (fun p hp => ⟨(hS p hp).1.symm, bS p hp⟩) (fun p hp => ⟨(hP p hp).1.symm, bP p hp⟩) F4 (fun N a' M' VX' VY' sc df pd y1 y2 y3 => ?_)
  refine yq_en208 hpk2 (fun pc sp sm sx sy z1 z2 z3 z4 z5 => hPost _ (r_mk ?_))
  have eM : ∀ c r, c < C → r < R → M (4 * r + c) = (fun b => nI (md b)) (4 * r + c) := fun c r hc hr => (F3 c r hc hr).2
  have eM' : ∀ c r, c < C → r < R → M' (4 * r + c) = (fun b => nI (md b)) (4 * r + c) := fun c r hc hr => (y2 c r hc hr (by omega)).1
  have eX : ∀ p, pv_is C R p → a (128 + p) = pv_FP C R q (fun b => nI (md b)) NE p := fun p hp => by
    have := hp.2
    rw [F2 p (by omega)]
    exact pv_FP_congr hC hR eM (fun _ _ => rfl) p hp
  have eY : ∀ p, pv_is C R p → a' p = pv_FP C R q (fun b => nI (md b)) NE p := fun p hp => by
    rw [y3]
    exact pv_FP_congr hC hR eM' y1 p hp
  have by1 : ∀ p, pv_is C R p → pv_by (pv_FP C R q (fun b => nI (md b)) NE p) := pv_FP_by F4
  have hs : (fi + pk) % 2 < 2 := Nat.mod_lt _ (by decide)
  obtain ⟨H', hA, nH⟩ : ∃ H' : Nat → Nat → Int32, H' (cc + 1) = pv_FP C R q (fun b => nI (md b)) NE ∧ ∀ n, n ≤ cc → H' n = H n := ⟨fun n => if n = cc + 1 then pv_FP C R q (fun b => nI (md b)) NE else H n, if_pos rfl, fun n hn => if_neg (by omega)⟩
  refine ⟨⟨hC0, hC, hR0, hR, hg⟩, ⟨by omega, by omega, by omega, hfi⟩, fun p hp => ?_, fun p hp => ?_, fun p hp => ?_, ⟨F5, F6⟩, hB, F9, H', fun p hp => ?_, fun p hp => ?_, fun i hi => ?_⟩
  · have := hp.2
    rw [F1 p (by omega) (by omega)]
    exact hS p hp
  · have := hp.2
    rw [eX p hp, z1 p (by omega), eY p hp]
    exact ⟨rfl, by1 p hp⟩
  · have := hp.2
    rw [F1 _ (by omega) (by omega)]
    exact hD p hp
  · have := hp.2
    rw [hA, z1 p (by omega), eY p hp]
  · rw [nH dc (by omega)]
    exact hH2 p hp
  · by_cases ei : i = pk
    · subst ei
      generalize (fi + i) % 2 = s at hs F7 F8 F11 F12 ⊢
      refine ⟨cc + 1, kind, q, by omega, by omega, hk, hq, pk_us, pk_us, pk_us, by rw [pk_us, pk_us], fun p hp => ?_, Or.inl ⟨pk_us, L, NE, md, VX, VY, rs, K, F10, pk_us, F11, F12, ?_, F7, fun c r hc hr hbb => ?_, fun p hp => ?_⟩⟩
      · have := hp.2
        rw [hA, z2 p (by omega), eY p hp]
      · refine pv_FR_P (P := fun p => pix (128 + p)) hC hR (fun c r hc hr => ?_) (fun p hp => ?_)
        · obtain ⟨w1, w2, _, _, _, _, w7, _⟩ := (F3 c r hc hr).1
          exact ⟨w1, w2, w7⟩
        · rw [Nat.add_sub_cancel, nH cc (Nat.le_refl _), hH1 p hp]
          exact (hP p hp).1
      · have m := z4 (4 * r + c) (by omega)
        dsimp only
        rw [m.1, m.2.1, m.2.2]
        exact y2 c r hc hr hbb
      · rw [hA]
    · have hip : i < pk := by omega
      have o : (fi + i) % 2 ≠ (fi + pk) % 2 := by omega
      have hs2 : (fi + i) % 2 < 2 := Nat.mod_lt _ (by decide)
      refine r_PK_congr hC hR (hK i hip) (by omega) nH (fun t ht => F8 _ ?_) (pk_un o) (pk_un o) (pk_un o) (fun p hp => z3 _ (by omega)) (fun b hb => z5 _ (by omega)) (pk_un ei) (pk_un ei) (pk_un ei)
      generalize (fi + i) % 2 = s' at o hs2 ⊢
      generalize (fi + pk) % 2 = s at o hs ⊢
      omega
theorem i_vc_encode {k : Nat} {u : SX} {v : SY} (I : i_Rel k u v) (hk : k + 5 ≤ 2563) (v1 : Int32) (v2 : Int32) : wpX_encode (fun r u' => wpY_encode (fun r' v' => r' = r ∧ i_Rel (k + 5) u' v') v v1 v2) u v1 v2 := by
  refine r_el (P := fun u v => wpX_encode (fun r u' => wpY_encode (fun r' v' => r' = r ∧ i_Rel (k + 5) u' v') v v1 v2) u v1 v2) I ?_
  intro C R g cc dc pk fi qa1 qa2 qa3 qa4 xsl xcu xrf xpx xpy xbc xbl xto xwo xwr pix xmd xvx xvy sem sev prd rsd bts len tgs dam ysrc yold ypic ynxt ydec ymd yvx yvy ydm ydx ydy yprd ydif ysca ysp ysm ysx ysy ysn ysk ydam hr
  have hr' := hr
  obtain ⟨⟨hC0, hC, hR0, hR, hg⟩, ⟨h16, hdc, hpk, hfi⟩, -⟩ := hr'
  have key : ∀ kind : Nat, kind < 2 → v1 = nI kind → ∀ lift : (∀ P : Int32 → SY → Prop, wY_encode_9 P v1 v2 (nI C) (nI R) (nI g) (nI (4 * C)) (nI (4 * R)) (nI cc) (nI dc) (nI pk) ysrc yold ypic ynxt ydec ymd yvx yvy ydm ydx ydy yprd ydif ysca ysp ysm ysx ysy ysn ysk ydam → wpY_encode P ((nI C), (nI R), (nI g), (nI (4 * C)), (nI (4 * R)), (nI cc), (nI dc), (nI pk), ysrc, yold, ypic, ynxt, ydec, ymd, yvx, yvy, ydm, ydx, ydy, yprd, ydif, ysca, ysp, ysm, ysx, ysy, ysn, ysk, ydam) v1 v2), wX_encode_9 (fun r u' => wpY_encode (fun r' v' => r' = r ∧ i_Rel (k + 5) u' v') ((nI C), (nI R), (nI g), (nI (4 * C)), (nI (4 * R)), (nI cc), (nI dc), (nI pk), ysrc, yold, ypic, ynxt, ydec, ymd, yvx, yvy, ydm, ydx, ydy, yprd, ydif, ysca, ysp, ysm, ysx, ysy, ysn, ysk, ydam) v1 v2) v1 v2 qa1 qa2 qa3 qa4 (nI C) (nI R) (nI g) (nI (4 * C)) (nI (4 * R)) (nI cc) (nI dc) (nI pk) (nI fi) xsl xcu xrf xpx xpy xbc xbl xto xwo xwr pix xmd xvx xvy sem sev prd rsd bts len tgs dam := by
    intro kind hkind ev lift
    unfold wX_encode_9
    by_cases c1 : v2 < 0
    · exact br_t c1 (lift _ (br_t c1 ⟨rfl, r_mk hr⟩))
    refine br_f c1 ?_
    by_cases c2 : v2 ≤ 40
    · refine br_t c2 ?_
      obtain ⟨q, hq, eq⟩ := nI_of c1
      have hq40 : q ≤ 40 := by
        have z : v2 ≤ nI 40 := c2
        rw [eq, nI_leI hq (by omega)] at z
        exact z
      by_cases c3 : pk < 2
      · have c3' : nI pk < 2 := nI_lt (b := 2) c3 (by omega)
        refine br_t c3' ?_
        by_cases c4 : cc < 16
        · have c4' : nI cc < 16 := nI_lt (b := 16) c4 (by omega)
          refine br_t c4' ?_
          have go : (∀ P : Int32 → SY → Prop, (∃ n : Nat, wY_encode_61 P v1 v2 n 0 (nI C) (nI R) (nI g) (nI (4 * C)) (nI (4 * R)) (nI cc) (nI dc) (nI pk) ysrc yold ypic ynxt ydec ymd yvx yvy ydm ydx ydy yprd ydif ysca ysp ysm ysx ysy ysn ysk ydam) → wY_encode_9 P v1 v2 (nI C) (nI R) (nI g) (nI (4 * C)) (nI (4 * R)) (nI cc) (nI dc) (nI pk) ysrc yold ypic ynxt ydec ymd yvx yvy ydm ydx ydy yprd ydif ysca ysp ysm ysx ysy ysn ysk ydam) → wX_encode_59 (fun r u' => wpY_encode (fun r' v' => r' = r ∧ i_Rel (k + 5) u' v') ((nI C), (nI R), (nI g), (nI (4 * C)), (nI (4 * R)), (nI cc), (nI dc), (nI pk), ysrc, yold, ypic, ynxt, ydec, ymd, yvx, yvy, ydm, ydx, ydy, yprd, ydif, ysca, ysp, ysm, ysx, ysy, ysn, ysk, ydam) v1 v2) v1 v2 qa1 qa2 qa3 qa4 (nI C) (nI R) (nI g) (nI (4 * C)) (nI (4 * R)) (nI cc) (nI dc) (nI pk) (nI fi) xsl xcu xrf xpx xpy xbc xbl xto xwo xwr pix xmd xvx xvy sem sev prd rsd bts len tgs dam := fun into => by
            subst ev eq
            exact r_encode (k := k) hr c4 c3 hkind hq40 _ (fun u' hu => lift _ (into _ (hu _ (fun v' hv => ⟨rfl, hv⟩))))
          by_cases c5 : v1 = 1
          · refine br_t c5 ?_
            by_cases c6 : nI cc = 0
            · exact br_t c6 (lift _ (br_f c1 (br_t c2 (br_t c3' (br_t c4' (br_t c5 (br_t c6 ⟨rfl, r_mk hr⟩)))))))
            · exact br_f c6 (go (fun P h => br_f c1 (br_t c2 (br_t c3' (br_t c4' (br_t c5 (br_f c6 h)))))))
          · exact br_f c5 (go (fun P h => br_f c1 (br_t c2 (br_t c3' (br_t c4' (br_f c5 h))))))
        · have c4' : ¬ nI cc < 16 := nI_nlt (b := 16) (by omega) (by omega)
          exact br_f c4' (lift _ (br_f c1 (br_t c2 (br_t c3' (br_f c4' ⟨rfl, r_mk hr⟩)))))
      · have c3' : ¬ nI pk < 2 := nI_nlt (b := 2) (by omega) (by omega)
        exact br_f c3' (lift _ (br_f c1 (br_t c2 (br_f c3' ⟨rfl, r_mk hr⟩))))
    · exact br_f c2 (lift _ (br_f c1 (br_f c2 ⟨rfl, r_mk hr⟩)))
  by_cases d0 : v1 = 0
  · exact br_t d0 (key 0 (by omega) d0 (fun P h => br_t d0 h))
  · by_cases d1 : v1 = 1
    · exact br_f d0 (br_t d1 (key 1 (by omega) d1 (fun P h => br_f d0 (br_t d1 h))))
    · exact br_f d0 (br_f d1 (br_f d0 (br_f d1 ⟨rfl, r_mk hr⟩)))
end
section
/-! receive -/
theorem pv_x1 : ∀ f, f < 2 → nI f ^^^ 1 = nI ((f + 1) % 2) := by decide
theorem pv_nb {x : Int32} (h : x = 0 ∨ x = 1) : vp_nar .boolean x = x := by
  cases h with
  | inl e => rw [e]; exact pv_vb0
  | inr e => rw [e]; exact pv_vb1
theorem r_rc {k i fi' : Nat} {C R g cc dc pk fi : Nat} {qa1 qa2 qa3 qa4 xsl xcu xrf xpx xpy xbc xbl xto xwo xwr : Int32} {pix xmd xvx xvy sem sev prd rsd bts len tgs dam ysrc yold ypic ynxt ydec ymd yvx yvy ydm ydx ydy yprd ydif ysca ysp ysm ysx ysy ysn ysk ydam : Nat → Int32} {post : Int32 → SY → Prop} {x2 : Int32} (hr : r_R C R g cc dc pk fi pix xvx xvy sem sev bts len tgs dam ysrc ypic ydec ydm ydx ydy ysp ysm ysx ysy ysn ysk ydam) (hi : i < pk) (hf0 : i = 0 → fi' = (fi + 1) % 2) (hf1 : i ≠ 0 → fi' = fi)
    (h : ∀ v', i_Rel (k + 5) (qa1, qa2, qa3, qa4, (nI C), (nI R), (nI g), (nI (4 * C)), (nI (4 * R)), (nI cc), (nI dc), nI (pk - 1), nI fi', xsl, xcu, xrf, xpx, xpy, xbc, xbl, xto, xwo, xwr, pix, xmd, xvx, xvy, sem, sev, prd, rsd, bts, len, tgs, dam) v' → post x2 v') : wY_receive_188 post (nI i) x2 (nI C) (nI R) (nI g) (nI (4 * C)) (nI (4 * R)) (nI cc) (nI dc) (nI pk) ysrc yold ypic ynxt ydec ymd yvx yvy ydm ydx ydy yprd ydif ysca ysp ysm ysx ysy ysn ysk ydam := by
  obtain ⟨⟨hC0, hC, hR0, hR, hg⟩, ⟨h16, hdc, hpk, hfi⟩, hS, hP, hD, ⟨hx8, hy8⟩, hB, h01, H, hH1, hH2, hK⟩ := hr
  refine yq_rc188 hi hpk (fun i0 sp sm sx sy w1 w2 => h _ (r_mk ?_)) (fun i1 => h _ (r_mk ?_))
  · have e := hf0 i0
    subst e
    refine ⟨⟨hC0, hC, hR0, hR, hg⟩, ⟨h16, hdc, by omega, by omega⟩, hS, hP, hD, ⟨hx8, hy8⟩, hB, h01, H, hH1, hH2, fun j hj => ?_⟩
    obtain rfl : j = 0 := by omega
    have k1 := hK 1 (by omega)
    have es : ((fi + 1) % 2 + 0) % 2 = (fi + 1) % 2 := by omega
    rw [es]
    have d01 : ydam 1 = 0 ∨ ydam 1 = 1 := by
      obtain ⟨num, kind, q, _, _, _, _, _, _, _, k8, _, k10⟩ := k1
      rw [k8]
      cases k10 with
      | inl a => exact Or.inl a.1
      | inr a => exact Or.inr a.1
    refine r_PK_congr hC hR k1 (Nat.le_refl _) (fun _ _ => rfl) (fun _ _ => rfl) rfl rfl rfl (fun p hp => ?_) (fun b hb => ?_) pk_us pk_us (pk_us.trans (pv_nb d01))
    · have := w1 p hp
      rw [Nat.mul_zero, Nat.zero_add]
      exact this
    · have := w2 b hb
      rw [Nat.mul_zero, Nat.zero_add]
      exact this
  · have e := hf1 i1
    subst e
    refine ⟨⟨hC0, hC, hR0, hR, hg⟩, ⟨h16, hdc, by omega, hfi⟩, hS, hP, hD, ⟨hx8, hy8⟩, hB, h01, H, hH1, hH2, fun j hj => ?_⟩
    exact hK j (by omega)
theorem r_rc40 {k i s fi' : Nat} {C R g cc dc pk fi : Nat} {qa1 qa2 qa3 qa4 xsl xcu xrf xpx xpy xbc xbl xto xwo xwr : Int32} {pix xmd xvx xvy sem sev prd rsd bts len tgs dam ysrc yold ypic ynxt ydec ymd yvx yvy ydm ydx ydy yprd ydif ysca ysp ysm ysx ysy ysn ysk ydam : Nat → Int32} {Q : Int32 → SX → Prop} (hr : r_R C R g cc dc pk fi pix xvx xvy sem sev bts len tgs dam ysrc ypic ydec ydm ydx ydy ysp ysm ysx ysy ysn ysk ydam) (hi : i < pk) (hs : (fi + i) % 2 = s) (hf0 : i = 0 → fi' = (fi + 1) % 2) (hf1 : i ≠ 0 → fi' = fi)
    (hQ : ∀ (a : Int32) (u' : SX), (∀ P : Int32 → SY → Prop, (∀ v', i_Rel (k + 5) u' v' → P a v') → wpY_receive P ((nI C), (nI R), (nI g), (nI (4 * C)), (nI (4 * R)), (nI cc), (nI dc), (nI pk), ysrc, yold, ypic, ynxt, ydec, ymd, yvx, yvy, ydm, ydx, ydy, yprd, ydif, ysca, ysp, ysm, ysx, ysy, ysn, ysk, ydam) (nI i)) → Q a u') :
    wX_receive_40 Q qa1 qa2 qa3 qa4 (nI C) (nI R) (nI g) (nI (4 * C)) (nI (4 * R)) (nI cc) (nI dc) (nI pk) (nI fi') (nI s) xcu xrf xpx xpy xbc xbl xto xwo xwr pix xmd xvx xvy sem sev prd rsd bts len tgs dam := by
  have hr' := hr
  obtain ⟨⟨hC0, hC, hR0, hR, hg⟩, ⟨h16, hdc, hpk, hfi⟩, hS, hP, hD, ⟨hx8, hy8⟩, hB, h01, H, hH1, hH2, hK⟩ := hr'
  obtain ⟨num, kind, q, k1, k2, k3, k4, k5, k6, k7, k8, k9, k10⟩ := hK i hi
  rw [hs] at k7 k8 k10
  have hs2 : s < 2 := by omega
  have j2 : vp_in (nI i) 2 := vp_in_nI (by omega) (by omega)
  have ei : (nI i).toNatClampNeg = i := nI_clamp (by omega)
  have l0 : ¬ nI i < 0 := nI_pos (by omega)
  have l1 : nI i < nI pk := nI_lt hi (by omega)
  unfold wX_receive_40
  refine nm_r (pv_s1 (by omega)) ?_
  cases k10 with
  | inr a =>
    obtain ⟨d1, L, a1, a2, a3⟩ := a
    have nd : ¬ dam s = 0 := by rw [d1]; decide
    refine xq_readBad hs2 a1 a2 a3 (hQ 2 _ (fun P hP' => ?_))
    refine br_f l0 (br_t l1 ⟨j2, br_f (by rw [ei, k8]; exact nd) ?_⟩)
    unfold wY_receive_75
    exact br_f (by decide) (r_rc hr hi hf0 hf1 hP')
  | inl a =>
    obtain ⟨d0, L, NE, md, vx, vy, rs, K, a1, a2, a3, a4, a5, a6, a7, a8⟩ := a
    have yd0 : ydam i = 0 := by rw [k8]; exact d0
    refine xq_readGood (num := num) (kind := kind) (q := q) (L := L) (P := H (num - 1)) (NE := NE) (md := md) (vx := vx) (vy := vy) (rs := rs) (K := K) hC hR hC0 hR0 hs2 (by omega) a2 a3 a4 (by omega) (by omega) k3 k4 a5 a6 (fun e1 e2 p hp => ?_) hx8 hy8 (fun g1 => hQ 3 _ (fun P hP' => ?_)) (fun g1 g2 g3 => hQ 4 _ (fun P hP' => ?_)) (fun g1 g2 b f' p' M VX VY N sm sv cu x y w1 w2 w3 w4 w5 w6 w7 => hQ 1 _ (fun P hP' => ?_))
    · rw [hD p hp, show num - 1 = dc by omega, hH2 p hp]
    · refine br_f l0 (br_t l1 ⟨j2, br_t (by rw [ei]; exact yd0) ⟨j2, br_f (by rw [ei, k5]; exact nI_nlt (by omega) (by omega)) ?_⟩⟩)
      unfold wY_receive_75
      exact br_f (by decide) (r_rc hr hi hf0 hf1 hP')
    · refine br_f l0 (br_t l1 ⟨j2, br_t (by rw [ei]; exact yd0) ⟨j2, br_t (by rw [ei, k5]; exact nI_lt (by omega) (by omega)) ⟨j2, br_t (by rw [ei, k6, g2]; rfl) ⟨j2, br_f ?_ ?_⟩⟩⟩⟩)
      · rw [ei, k5, nI_1, nI_eq (by omega) (by omega)]
        exact g3
      · unfold wY_receive_75
        exact br_f (by decide) (r_rc hr hi hf0 hf1 hP')
    · have go : wY_receive_75 P (nI i) 1 (nI C) (nI R) (nI g) (nI (4 * C)) (nI (4 * R)) (nI cc) (nI dc) (nI pk) ysrc yold ypic ynxt ydec ymd yvx yvy ydm ydx ydy yprd ydif ysca ysp ysm ysx ysy ysn ysk ydam := by
        unfold wY_receive_75
        refine br_t rfl ⟨j2, nm_r ((congrArg ysn ei).trans k5) (yq_rc92 (by omega) (fun dc' dm dx dy z1 z2 => ?_))⟩
        have eM : ∀ c r, c < C → r < R → M (4 * r + c) = (fun b => nI (md b)) (4 * r + c) := fun c r hc hr => (w4 c r hc hr (by omega)).1
        have eP : ∀ p, pv_is C R p → b (256 + p) = H num p := fun p hp => by
          have := hp.2
          rw [w3 p (by omega), a8 p hp]
          exact pv_FP_congr hC hR eM w2 p hp
        have eD : ∀ p, pv_is C R p → dc' p = H num p := fun p hp => by
          have := hp.2
          rw [z1 p (by omega), k9 p hp]
        refine r_rc ⟨⟨hC0, hC, hR0, hR, hg⟩, ⟨h16, k2, hpk, hfi⟩, fun p hp => ?_, fun p hp => ?_, fun p hp => ?_, ⟨w5, w6⟩, fun c r hc hr => ?_, h01, H, hH1, fun p hp => (eD p hp).symm, hK⟩ hi hf0 hf1 hP'
        · have := hp.2
          rw [w1 p (by omega)]
          exact hS p hp
        · have := hp.2
          rw [w1 _ (by omega)]
          exact hP p hp
        · rw [eP p hp, eD p hp]
        · have m := w7 (4 * r + c) (by omega)
          have n := w4 c r hc hr (by omega)
          have o := z2 (4 * r + c) (by omega)
          have t := a7 c r hc hr (by omega)
          dsimp only at t
          rw [m.1, m.2, n.1, n.2.1, n.2.2, o.1, o.2.1, o.2.2, t.1, t.2.1, t.2.2]
          exact ⟨rfl, rfl⟩
      refine br_f l0 (br_t l1 ⟨j2, br_t (by rw [ei]; exact yd0) ⟨j2, br_t (by rw [ei, k5]; exact nI_lt (by omega) (by omega)) ⟨j2, ?_⟩⟩⟩)
      rw [ei, k5, k6]
      by_cases kd : kind = 1
      · refine br_t (congrArg nI kd) ⟨j2, br_t ?_ go⟩
        rw [nI_1, g2 kd]
      · exact br_f (fun z => kd ((nI_eq (b := 1) (by omega) (by omega)).mp z)) go
theorem i_vc_receive {k : Nat} {u : SX} {v : SY} (I : i_Rel k u v) (hk : k + 5 ≤ 2563) (v1 : Int32) : wpX_receive (fun r u' => wpY_receive (fun r' v' => r' = r ∧ i_Rel (k + 5) u' v') v v1) u v1 := by
  refine r_el (P := fun u v => wpX_receive (fun r u' => wpY_receive (fun r' v' => r' = r ∧ i_Rel (k + 5) u' v') v v1) u v1) I ?_
  intro C R g cc dc pk fi qa1 qa2 qa3 qa4 xsl xcu xrf xpx xpy xbc xbl xto xwo xwr pix xmd xvx xvy sem sev prd rsd bts len tgs dam ysrc yold ypic ynxt ydec ymd yvx yvy ydm ydx ydy yprd ydif ysca ysp ysm ysx ysy ysn ysk ydam hr
  have hr' := hr
  obtain ⟨⟨hC0, hC, hR0, hR, hg⟩, ⟨h16, hdc, hpk, hfi⟩, -⟩ := hr'
  by_cases c1 : v1 < 0
  · exact br_t c1 (br_t c1 ⟨rfl, r_mk hr⟩)
  · obtain ⟨i, hi, rfl⟩ := nI_of c1
    by_cases c2 : i < pk
    · have hl : nI i < nI pk := nI_lt c2 (by omega)
      refine br_f c1 (br_t hl (nm_r (pv_slot hfi (by omega)) ?_))
      by_cases i0 : i = 0
      · refine br_t (congrArg nI i0) (nm_r (pv_x1 fi (by omega)) ?_)
        exact r_rc40 (xsl := xsl) (k := k) hr c2 rfl (fun _ => rfl) (fun z => absurd i0 z) (fun a u' hu => hu _ (fun v' hv => ⟨rfl, hv⟩))
      · refine br_f (nI_ne0 (by omega) (by omega)) ?_
        exact r_rc40 (xsl := xsl) (k := k) hr c2 rfl (fun z => absurd z i0) (fun _ => rfl) (fun a u' hu => hu _ (fun v' hv => ⟨rfl, hv⟩))
    · have hl : ¬ nI i < nI pk := nI_nlt (by omega) hi
      exact br_f c1 (br_f hl (br_f c1 (br_f hl ⟨rfl, r_mk hr⟩)))
end
