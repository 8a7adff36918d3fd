section
/-! pure rows to paste: stores, nI and lN arithmetic, masks, shifts, narrowing, branches by naturals (pk_le, pk_lt, pk_eq), loops (lp1 .. lp16: the measure of the state; rp1 ..: recursion), negatives. Take what you need -/
theorem pk_us {f : Nat → Int32} {k : Nat} {x : Int32} : upd f k x k = x := if_pos rfl
theorem pk_un {f : Nat → Int32} {k j : Nat} {x : Int32} (h : j ≠ k) : upd f k x j = f j := if_neg h
theorem pk_uLs {f : Nat → Int64} {k : Nat} {x : Int64} : vp_updL f k x k = x := if_pos rfl
theorem pk_uLn {f : Nat → Int64} {k j : Nat} {x : Int64} (h : j ≠ k) : vp_updL f k x j = f j := if_neg h
theorem pk_sub {a b : Nat} (h : b ≤ a) : nI a - nI b = nI (a - b) := by
  obtain ⟨c, rfl⟩ : ∃ c, a = c + b := ⟨a - b, by omega⟩
  rw [← nI_add, Int32.add_sub_cancel, Nat.add_sub_cancel]
theorem pk_m1 (n : Nat) : nI (n + 1) + (-1) = nI n := by
  rw [← nI_1, Int32.add_assoc, show (1 : Int32) + (-1) = 0 from rfl, Int32.add_zero]
theorem pk_mul (a b : Nat) : nI a * nI b = nI (a * b) := (Int32.ofNat_mul a b).symm
theorem pk_div {a d : Nat} (ha : a < 2 ^ 31) (h0 : 0 < d) (hd : d < 2 ^ 31) : nI a / nI d = nI (a / d) := by
  apply Int32.toInt_inj.mp
  rw [lg_idiv_nonneg (by rw [nI_toInt ha]; omega) (by rw [nI_toInt hd]; omega), nI_toInt ha, nI_toInt hd, nI_toInt (Nat.lt_of_le_of_lt (Nat.div_le_self a d) ha)]
  first | rfl | exact (Int.natCast_ediv _ _).symm
theorem pk_rem {a d : Nat} (ha : a < 2 ^ 31) (h0 : 0 < d) (hd : d < 2 ^ 31) : nI a - nI a / nI d * nI d = nI (a % d) := by
  rw [pk_div ha h0 hd, pk_mul, pk_sub (Nat.div_mul_le_self a d)]
  exact congrArg nI (by have := Nat.div_add_mod' a d; omega)
theorem pk_sub_toInt {a b : Nat} (ha : a < 2 ^ 30) (hb : b < 2 ^ 30) : (nI a - nI b).toInt = (a : Int) - b := by
  rw [Int32.toInt_sub, nI_toInt (by omega), nI_toInt (by omega)]
  exact Int.bmod_eq_of_le (by omega) (by omega)
theorem pk_sneg {a b : Nat} (hb : b < 2 ^ 30) (h : a < b) : nI a - nI b < 0 := by
  rw [Int32.lt_iff_toInt_lt, pk_sub_toInt (by omega) hb, show (0 : Int32).toInt = 0 from by decide]
  omega
theorem pk_ix (x : Int32) {n : Nat} (hn : n < 2 ^ 31) : x < 0 ∨ nI n ≤ x ∨ ∃ j : Nat, j < n ∧ x = nI j := by
  by_cases h : x < 0
  · exact Or.inl h
  · obtain ⟨j, hj, rfl⟩ := nI_of h
    by_cases h2 : j < n
    · exact Or.inr (Or.inr ⟨j, h2, rfl⟩)
    · exact Or.inr (Or.inl (nI_le (by omega) hj))
theorem pk_le {x y : Int32} {A B : Prop} (a b : Nat) (f : a ≤ b → A) (g : b < a → B) (hx : x = nI a := by rfl) (hy : y = nI b := by rfl) (ha : a < 2 ^ 31 := by omega) (hb : b < 2 ^ 31 := by omega) : (x ≤ y → A) ∧ (¬ x ≤ y → B) := by
  subst hx hy
  rw [nI_leI ha hb]
  exact ⟨f, fun z => g (by omega)⟩
theorem pk_lt {x y : Int32} {A B : Prop} (a b : Nat) (f : a < b → A) (g : b ≤ a → B) (hx : x = nI a := by rfl) (hy : y = nI b := by rfl) (ha : a < 2 ^ 31 := by omega) (hb : b < 2 ^ 31 := by omega) : (x < y → A) ∧ (¬ x < y → B) := by
  subst hx hy
  rw [nI_ltI ha hb]
  exact ⟨f, fun z => g (by omega)⟩
theorem pk_eq {x y : Int32} {A B : Prop} (a b : Nat) (f : a = b → A) (g : a ≠ b → B) (hx : x = nI a := by rfl) (hy : y = nI b := by rfl) (ha : a < 2 ^ 31 := by omega) (hb : b < 2 ^ 31 := by omega) : (x = y → A) ∧ (¬ x = y → B) := by
  subst hx hy
  rw [nI_eq ha hb]
  exact ⟨f, g⟩
theorem pk_in {x : Int32} (n N : Nat) (h : n < N) (hx : x = nI n := by rfl) (hN : N < 2 ^ 31 := by omega) : vp_in x N := by
  subst hx
  exact vp_in_nI h hN
theorem pk_cl {x : Int32} (n : Nat) (hx : x = nI n := by rfl) (h : n < 2 ^ 31 := by omega) : x.toNatClampNeg = n := by
  subst hx
  exact nI_clamp h
theorem pk_tn {n : Nat} (h : n < 2 ^ 32) : (nI n).toBitVec.toNat = n := Nat.mod_eq_of_lt h
theorem pk_and (x : Int32) {m : Int32} (k : Nat) (hm : m.toBitVec.toNat = 2 ^ k - 1) : x &&& m = nI (x.toBitVec.toNat % 2 ^ k) := by
  apply Int32.toBitVec_inj.mp
  apply BitVec.eq_of_toNat_eq
  rw [Int32.toBitVec_and, BitVec.toNat_and, hm, Nat.and_two_pow_sub_one_eq_mod]
  show _ = (BitVec.ofNat 32 _).toNat
  rw [BitVec.toNat_ofNat]
  exact (Nat.mod_eq_of_lt (Nat.lt_of_le_of_lt (Nat.mod_le _ _) x.toBitVec.isLt)).symm
theorem pk_andN {n : Nat} (h : n < 2 ^ 32) {m : Int32} (k : Nat) (hm : m.toBitVec.toNat = 2 ^ k - 1) : nI n &&& m = nI (n % 2 ^ k) := by
  rw [pk_and _ k hm, pk_tn h]
theorem pk_andE (x : Int32) {m : Int32} (k : Nat) (hm : m.toBitVec.toNat = 2 ^ k - 1) : ∃ j : Nat, j < 2 ^ k ∧ x &&& m = nI j := ⟨_, Nat.mod_lt _ (Nat.two_pow_pos k), pk_and x k hm⟩
theorem pk_andIn (x : Int32) {m : Int32} (k : Nat) (hm : m.toBitVec.toNat = 2 ^ k - 1) (hk : k ≤ 30) : vp_in (x &&& m) (2 ^ k) := by
  obtain ⟨j, hj, e⟩ := pk_andE x k hm
  rw [e]
  exact vp_in_nI hj (Nat.lt_of_le_of_lt (Nat.pow_le_pow_right (by decide) hk) (by decide))
theorem pk_shl (a s : Int32) (k : Nat) (hs : (s.toBitVec.smod 32).toNat = k) : (a <<< s).toBitVec.toNat = a.toBitVec.toNat * 2 ^ k % 2 ^ 32 := by
  show (a.toBitVec <<< (s.toBitVec.smod 32).toNat).toNat = _
  rw [hs, BitVec.toNat_shiftLeft, Nat.shiftLeft_eq]
theorem pk_shlN {n : Nat} (s : Int32) (k : Nat) (hs : (s.toBitVec.smod 32).toNat = k) (h : n * 2 ^ k < 2 ^ 32) : nI n <<< s = nI (n * 2 ^ k) := by
  apply Int32.toBitVec_inj.mp
  apply BitVec.eq_of_toNat_eq
  have hn : n < 2 ^ 32 := Nat.lt_of_le_of_lt (Nat.le_mul_of_pos_right n (Nat.two_pow_pos k)) h
  rw [pk_shl _ _ k hs, pk_tn hn, pk_tn h, Nat.mod_eq_of_lt h]
theorem pk_shr (a s : Int32) (k : Nat) (hs : (s.toBitVec.smod 32).toNat = k) : (a >>> s).toInt = a.toInt >>> k := by
  show (a.toBitVec.sshiftRight (s.toBitVec.smod 32).toNat).toInt = _
  rw [hs, BitVec.toInt_sshiftRight]
  rfl
theorem pk_shrN {n : Nat} (h : n < 2 ^ 31) (s : Int32) (k : Nat) (hs : (s.toBitVec.smod 32).toNat = k) : nI n >>> s = nI (n / 2 ^ k) := by
  apply Int32.toInt_inj.mp
  have h2 : n / 2 ^ k ≤ n := Nat.div_le_self _ _
  rw [pk_shr _ _ k hs, nI_toInt h, nI_toInt (by omega), Int.shiftRight_eq_div_pow]
  rfl
theorem pk_ushr (x s : Int32) (k : Nat) (hs : ((s.toUInt32 &&& Int32.toUInt32 31).toBitVec % 32).toNat = k) : (x.toUInt32 >>> (s.toUInt32 &&& Int32.toUInt32 31)).toInt32.toBitVec.toNat = x.toBitVec.toNat / 2 ^ k := by
  have e : (x.toUInt32 >>> (s.toUInt32 &&& Int32.toUInt32 31)).toInt32.toBitVec = x.toBitVec >>> k := by
    rw [← hs]
    exact UInt32.toBitVec_shiftRight _ _
  rw [e, BitVec.toNat_ushiftRight, Nat.shiftRight_eq_div_pow]
theorem pk_ushrN {n : Nat} (hn : n < 2 ^ 32) (s : Int32) (k : Nat) (hs : ((s.toUInt32 &&& Int32.toUInt32 31).toBitVec % 32).toNat = k) : ((nI n).toUInt32 >>> (s.toUInt32 &&& Int32.toUInt32 31)).toInt32 = nI (n / 2 ^ k) := by
  apply Int32.toBitVec_inj.mp
  apply BitVec.eq_of_toNat_eq
  rw [pk_ushr _ s k hs, pk_tn hn, pk_tn (Nat.lt_of_le_of_lt (Nat.div_le_self _ _) hn)]
theorem pk_nb (z : Int32) : narrow .byte (.int z.toInt8.toInt32) = .int z.toInt8.toInt32 := congrArg Value.int (by simp)
theorem pk_ns (z : Int32) : narrow .short (.int z.toInt16.toInt32) = .int z.toInt16.toInt32 := congrArg Value.int (by simp)
theorem pk_fb (r : Int32) : fits .byte (.int r.toInt8.toInt32) = true := by
  have ⟨a, b⟩ := lg_i2b_range r
  have h1 : (-128 : Int32).toInt = -128 := by decide
  have h2 : (127 : Int32).toInt = 127 := by decide
  simp only [fits, Bool.and_eq_true, decide_eq_true_eq, Int32.le_iff_toInt_le, h1, h2]
  omega
theorem pk_fs (r : Int32) : fits .short (.int r.toInt16.toInt32) = true := by
  have ⟨a, b⟩ := lg_i2s_range r
  have h1 : (-32768 : Int32).toInt = -32768 := by decide
  have h2 : (32767 : Int32).toInt = 32767 := by decide
  simp only [fits, Bool.and_eq_true, decide_eq_true_eq, Int32.le_iff_toInt_le, h1, h2]
  omega
theorem pk_charN {q : Nat} (hq : q < 65536) : narrow .char (.int (nI q)) = .int (nI q) ∧ fits .char (.int (nI q)) = true := by
  constructor
  · have e : (nI q).toUInt32.toUInt16.toUInt32.toInt32 = nI q := by
      apply Int32.toBitVec_inj.mp
      apply BitVec.eq_of_toNat_eq
      show (nI q).toUInt32.toUInt16.toUInt32.toNat = q % 2 ^ 32
      rw [UInt16.toNat_toUInt32, UInt32.toNat_toUInt16, show (nI q).toUInt32.toNat = q % 2 ^ 32 from rfl]
      omega
    exact congrArg Value.int e
  · have a : (0 : Int32) ≤ nI q := nI_pos' (by omega)
    have b : nI q ≤ 65535 := nI_le (b := 65535) (by omega) (by decide)
    show (decide ((0 : Int32) ≤ nI q) && decide (nI q ≤ 65535)) = true
    rw [decide_eq_true a, decide_eq_true b]
    rfl
theorem pk_char (x : Int32) : (x.toUInt32 % 65536).toInt32 = nI (x.toBitVec.toNat % 65536) := by
  apply Int32.toBitVec_inj.mp
  apply BitVec.eq_of_toNat_eq
  rw [pk_tn (by omega)]
  show (x.toUInt32 % 65536).toNat = _
  rw [UInt32.toNat_mod]
  rfl
theorem pk_nc (x : Int32) : narrow .char (.int (x.toUInt32 % 65536).toInt32) = .int (x.toUInt32 % 65536).toInt32 := by
  rw [pk_char]
  exact (pk_charN (Nat.mod_lt _ (by decide))).1
theorem pk_fc (x : Int32) : fits .char (.int (x.toUInt32 % 65536).toInt32) = true := by
  rw [pk_char]
  exact (pk_charN (Nat.mod_lt _ (by decide))).2
theorem pk_vb (z : Int32) : vp_nar .byte z.toInt8.toInt32 = z.toInt8.toInt32 := by rw [vp_nar_byte]; simp
theorem pk_vs (z : Int32) : vp_nar .short z.toInt16.toInt32 = z.toInt16.toInt32 := by rw [vp_nar_short]; simp
theorem pk_vc (z : Int32) : vp_nar .char (z.toUInt32 % 65536).toInt32 = (z.toUInt32 % 65536).toInt32 := Value.int.inj (pk_nc z)
theorem pk_lT {n : Nat} (h : n < 2 ^ 63) : (lN n).toInt = (n : Int) := lg_ofNat_toInt h
theorem pk_lLT {a b : Nat} (ha : a < 2 ^ 63) (hb : b < 2 ^ 63) : lN a < lN b ↔ a < b := by
  rw [Int64.lt_iff_toInt_lt, pk_lT ha, pk_lT hb]; omega
theorem pk_lLE {a b : Nat} (ha : a < 2 ^ 63) (hb : b < 2 ^ 63) : lN a ≤ lN b ↔ a ≤ b := by
  rw [Int64.le_iff_toInt_le, pk_lT ha, pk_lT hb]; omega
theorem pk_lEQ {a b : Nat} (ha : a < 2 ^ 63) (hb : b < 2 ^ 63) : lN a = lN b ↔ a = b := by
  rw [← Int64.toInt_inj, pk_lT ha, pk_lT hb]; omega
theorem pk_lOf {x : Int64} (h : ¬ x < 0) : ∃ k : Nat, k < 2 ^ 63 ∧ x = lN k := by
  rw [Int64.lt_iff_toInt_lt] at h
  have h0 : (0 : Int64).toInt = 0 := by decide
  have hx := Int64.toInt_lt x
  refine ⟨x.toInt.toNat, by omega, Int64.toInt_inj.mp ?_⟩
  rw [pk_lT (by omega)]
  omega
theorem pk_lDiv {a b : Nat} (ha : a < 2 ^ 63) (h0 : 0 < b) (hb : b < 2 ^ 63) : lN a / lN b = lN (a / b) := by
  apply Int64.toInt_inj.mp
  rw [lg_ldiv_nonneg (by rw [pk_lT ha]; omega) (by rw [pk_lT hb]; omega), pk_lT ha, pk_lT hb, pk_lT (Nat.lt_of_le_of_lt (Nat.div_le_self a b) ha)]
  rfl
theorem pk_lRem {a b : Nat} (ha : a < 2 ^ 63) (h0 : 0 < b) (hb : b < 2 ^ 63) : lN a - lN a / lN b * lN b = lN (a % b) := by
  rw [pk_lDiv ha h0 hb, lN_mul, lN_sub (Nat.div_mul_le_self a b)]
  exact congrArg lN (by have := Nat.div_add_mod' a b; omega)
theorem pk_loop {σ : Type} (W : Nat → Nat → σ → Prop) (I : Nat → σ → Prop) (e i0 : Nat) (s : σ) (hi : i0 ≤ e) (h0 : I i0 s) (hx : ∀ n s, I e s → W (n + 1) e s)
    (hs : ∀ n i s, i < e → I i s → (∀ s', I (i + 1) s' → W n (i + 1) s') → W (n + 1) i s) : ∃ n, W n i0 s :=
  ⟨e + 1, loop_i W I e hx hs (e + 1) i0 s hi (by omega) h0⟩
theorem pk_loopD {σ : Type} (W : Nat → Nat → σ → Prop) (I : Nat → σ → Prop) (hx : ∀ n s, I 0 s → W (n + 1) 0 s)
    (hs : ∀ n i s, I (i + 1) s → (∀ s', I i s' → W n i s') → W (n + 1) (i + 1) s) : ∀ (e : Nat) (s : σ), I e s → W (e + 1) e s := by
  intro e
  induction e with
  | zero => exact fun s h => hx 0 s h
  | succ e ih => exact fun s h => hs (e + 1) e s h (fun s' h' => ih s' h')
theorem lp1 {A1 : Type} (W : Nat → A1 → Prop) (I : A1 → Prop) (μ : A1 → Nat) (hs : ∀ (n : Nat) (a1 : A1), I a1 → (∀ (b1 : A1), I b1 → μ b1 < μ a1 → W n b1) → W (n + 1) a1) (a1 : A1) (h : I a1) : ∃ n, W n a1 :=
  loop_m (σ := A1) (fun n s => W n s) (fun s => I s) (fun s => μ s) (fun n s hI hk => hs n s hI (fun b1 h9 hm => hk b1 h9 hm)) a1 h
theorem lp2 {A1 A2 : Type} (W : Nat → A1 → A2 → Prop) (I : A1 → A2 → Prop) (μ : A1 → A2 → Nat) (hs : ∀ (n : Nat) (a1 : A1) (a2 : A2), I a1 a2 → (∀ (b1 : A1) (b2 : A2), I b1 b2 → μ b1 b2 < μ a1 a2 → W n b1 b2) → W (n + 1) a1 a2) (a1 : A1) (a2 : A2) (h : I a1 a2) : ∃ n, W n a1 a2 :=
  loop_m (σ := A1 × A2) (fun n s => W n s.1 s.2) (fun s => I s.1 s.2) (fun s => μ s.1 s.2) (fun n s hI hk => hs n s.1 s.2 hI (fun b1 b2 h9 hm => hk (b1, b2) h9 hm)) (a1, a2) h
theorem lp3 {A1 A2 A3 : Type} (W : Nat → A1 → A2 → A3 → Prop) (I : A1 → A2 → A3 → Prop) (μ : A1 → A2 → A3 → Nat) (hs : ∀ (n : Nat) (a1 : A1) (a2 : A2) (a3 : A3), I a1 a2 a3 → (∀ (b1 : A1) (b2 : A2) (b3 : A3), I b1 b2 b3 → μ b1 b2 b3 < μ a1 a2 a3 → W n b1 b2 b3) → W (n + 1) a1 a2 a3) (a1 : A1) (a2 : A2) (a3 : A3) (h : I a1 a2 a3) : ∃ n, W n a1 a2 a3 :=
  loop_m (σ := A1 × A2 × A3) (fun n s => W n s.1 s.2.1 s.2.2) (fun s => I s.1 s.2.1 s.2.2) (fun s => μ s.1 s.2.1 s.2.2) (fun n s hI hk => hs n s.1 s.2.1 s.2.2 hI (fun b1 b2 b3 h9 hm => hk (b1, b2, b3) h9 hm)) (a1, a2, a3) h
theorem lp4 {A1 A2 A3 A4 : Type} (W : Nat → A1 → A2 → A3 → A4 → Prop) (I : A1 → A2 → A3 → A4 → Prop) (μ : A1 → A2 → A3 → A4 → Nat) (hs : ∀ (n : Nat) (a1 : A1) (a2 : A2) (a3 : A3) (a4 : A4), I a1 a2 a3 a4 → (∀ (b1 : A1) (b2 : A2) (b3 : A3) (b4 : A4), I b1 b2 b3 b4 → μ b1 b2 b3 b4 < μ a1 a2 a3 a4 → W n b1 b2 b3 b4) → W (n + 1) a1 a2 a3 a4) (a1 : A1) (a2 : A2) (a3 : A3) (a4 : A4) (h : I a1 a2 a3 a4) : ∃ n, W n a1 a2 a3 a4 :=
  loop_m (σ := A1 × A2 × A3 × A4) (fun n s => W n s.1 s.2.1 s.2.2.1 s.2.2.2) (fun s => I s.1 s.2.1 s.2.2.1 s.2.2.2) (fun s => μ s.1 s.2.1 s.2.2.1 s.2.2.2) (fun n s hI hk => hs n s.1 s.2.1 s.2.2.1 s.2.2.2 hI (fun b1 b2 b3 b4 h9 hm => hk (b1, b2, b3, b4) h9 hm)) (a1, a2, a3, a4) h
theorem lp5 {A1 A2 A3 A4 A5 : Type} (W : Nat → A1 → A2 → A3 → A4 → A5 → Prop) (I : A1 → A2 → A3 → A4 → A5 → Prop) (μ : A1 → A2 → A3 → A4 → A5 → Nat) (hs : ∀ (n : Nat) (a1 : A1) (a2 : A2) (a3 : A3) (a4 : A4) (a5 : A5), I a1 a2 a3 a4 a5 → (∀ (b1 : A1) (b2 : A2) (b3 : A3) (b4 : A4) (b5 : A5), I b1 b2 b3 b4 b5 → μ b1 b2 b3 b4 b5 < μ a1 a2 a3 a4 a5 → W n b1 b2 b3 b4 b5) → W (n + 1) a1 a2 a3 a4 a5) (a1 : A1) (a2 : A2) (a3 : A3) (a4 : A4) (a5 : A5) (h : I a1 a2 a3 a4 a5) : ∃ n, W n a1 a2 a3 a4 a5 :=
  loop_m (σ := A1 × A2 × A3 × A4 × A5) (fun n s => W n s.1 s.2.1 s.2.2.1 s.2.2.2.1 s.2.2.2.2) (fun s => I s.1 s.2.1 s.2.2.1 s.2.2.2.1 s.2.2.2.2) (fun s => μ s.1 s.2.1 s.2.2.1 s.2.2.2.1 s.2.2.2.2) (fun n s hI hk => hs n s.1 s.2.1 s.2.2.1 s.2.2.2.1 s.2.2.2.2 hI (fun b1 b2 b3 b4 b5 h9 hm => hk (b1, b2, b3, b4, b5) h9 hm)) (a1, a2, a3, a4, a5) h
theorem lp6 {A1 A2 A3 A4 A5 A6 : Type} (W : Nat → A1 → A2 → A3 → A4 → A5 → A6 → Prop) (I : A1 → A2 → A3 → A4 → A5 → A6 → Prop) (μ : A1 → A2 → A3 → A4 → A5 → A6 → Nat) (hs : ∀ (n : Nat) (a1 : A1) (a2 : A2) (a3 : A3) (a4 : A4) (a5 : A5) (a6 : A6), I a1 a2 a3 a4 a5 a6 → (∀ (b1 : A1) (b2 : A2) (b3 : A3) (b4 : A4) (b5 : A5) (b6 : A6), I b1 b2 b3 b4 b5 b6 → μ b1 b2 b3 b4 b5 b6 < μ a1 a2 a3 a4 a5 a6 → W n b1 b2 b3 b4 b5 b6) → W (n + 1) a1 a2 a3 a4 a5 a6) (a1 : A1) (a2 : A2) (a3 : A3) (a4 : A4) (a5 : A5) (a6 : A6) (h : I a1 a2 a3 a4 a5 a6) : ∃ n, W n a1 a2 a3 a4 a5 a6 :=
  loop_m (σ := A1 × A2 × A3 × A4 × A5 × A6) (fun n s => W n s.1 s.2.1 s.2.2.1 s.2.2.2.1 s.2.2.2.2.1 s.2.2.2.2.2) (fun s => I s.1 s.2.1 s.2.2.1 s.2.2.2.1 s.2.2.2.2.1 s.2.2.2.2.2) (fun s => μ s.1 s.2.1 s.2.2.1 s.2.2.2.1 s.2.2.2.2.1 s.2.2.2.2.2) (fun n s hI hk => hs n s.1 s.2.1 s.2.2.1 s.2.2.2.1 s.2.2.2.2.1 s.2.2.2.2.2 hI (fun b1 b2 b3 b4 b5 b6 h9 hm => hk (b1, b2, b3, b4, b5, b6) h9 hm)) (a1, a2, a3, a4, a5, a6) h
theorem lp7 {A1 A2 A3 A4 A5 A6 A7 : Type} (W : Nat → A1 → A2 → A3 → A4 → A5 → A6 → A7 → Prop) (I : A1 → A2 → A3 → A4 → A5 → A6 → A7 → Prop) (μ : A1 → A2 → A3 → A4 → A5 → A6 → A7 → Nat) (hs : ∀ (n : Nat) (a1 : A1) (a2 : A2) (a3 : A3) (a4 : A4) (a5 : A5) (a6 : A6) (a7 : A7), I a1 a2 a3 a4 a5 a6 a7 → (∀ (b1 : A1) (b2 : A2) (b3 : A3) (b4 : A4) (b5 : A5) (b6 : A6) (b7 : A7), I b1 b2 b3 b4 b5 b6 b7 → μ b1 b2 b3 b4 b5 b6 b7 < μ a1 a2 a3 a4 a5 a6 a7 → W n b1 b2 b3 b4 b5 b6 b7) → W (n + 1) a1 a2 a3 a4 a5 a6 a7) (a1 : A1) (a2 : A2) (a3 : A3) (a4 : A4) (a5 : A5) (a6 : A6) (a7 : A7) (h : I a1 a2 a3 a4 a5 a6 a7) : ∃ n, W n a1 a2 a3 a4 a5 a6 a7 :=
  loop_m (σ := A1 × A2 × A3 × A4 × A5 × A6 × A7) (fun n s => W n s.1 s.2.1 s.2.2.1 s.2.2.2.1 s.2.2.2.2.1 s.2.2.2.2.2.1 s.2.2.2.2.2.2) (fun s => I s.1 s.2.1 s.2.2.1 s.2.2.2.1 s.2.2.2.2.1 s.2.2.2.2.2.1 s.2.2.2.2.2.2) (fun s => μ s.1 s.2.1 s.2.2.1 s.2.2.2.1 s.2.2.2.2.1 s.2.2.2.2.2.1 s.2.2.2.2.2.2) (fun n s hI hk => hs n s.1 s.2.1 s.2.2.1 s.2.2.2.1 s.2.2.2.2.1 s.2.2.2.2.2.1 s.2.2.2.2.2.2 hI (fun b1 b2 b3 b4 b5 b6 b7 h9 hm => hk (b1, b2, b3, b4, b5, b6, b7) h9 hm)) (a1, a2, a3, a4, a5, a6, a7) h
theorem lp8 {A1 A2 A3 A4 A5 A6 A7 A8 : Type} (W : Nat → A1 → A2 → A3 → A4 → A5 → A6 → A7 → A8 → Prop) (I : A1 → A2 → A3 → A4 → A5 → A6 → A7 → A8 → Prop) (μ : A1 → A2 → A3 → A4 → A5 → A6 → A7 → A8 → Nat) (hs : ∀ (n : Nat) (a1 : A1) (a2 : A2) (a3 : A3) (a4 : A4) (a5 : A5) (a6 : A6) (a7 : A7) (a8 : A8), I a1 a2 a3 a4 a5 a6 a7 a8 → (∀ (b1 : A1) (b2 : A2) (b3 : A3) (b4 : A4) (b5 : A5) (b6 : A6) (b7 : A7) (b8 : A8), I b1 b2 b3 b4 b5 b6 b7 b8 → μ b1 b2 b3 b4 b5 b6 b7 b8 < μ a1 a2 a3 a4 a5 a6 a7 a8 → W n b1 b2 b3 b4 b5 b6 b7 b8) → W (n + 1) a1 a2 a3 a4 a5 a6 a7 a8) (a1 : A1) (a2 : A2) (a3 : A3) (a4 : A4) (a5 : A5) (a6 : A6) (a7 : A7) (a8 : A8) (h : I a1 a2 a3 a4 a5 a6 a7 a8) : ∃ n, W n a1 a2 a3 a4 a5 a6 a7 a8 :=
  loop_m (σ := A1 × A2 × A3 × A4 × A5 × A6 × A7 × A8) (fun n s => W n s.1 s.2.1 s.2.2.1 s.2.2.2.1 s.2.2.2.2.1 s.2.2.2.2.2.1 s.2.2.2.2.2.2.1 s.2.2.2.2.2.2.2) (fun s => I s.1 s.2.1 s.2.2.1 s.2.2.2.1 s.2.2.2.2.1 s.2.2.2.2.2.1 s.2.2.2.2.2.2.1 s.2.2.2.2.2.2.2) (fun s => μ s.1 s.2.1 s.2.2.1 s.2.2.2.1 s.2.2.2.2.1 s.2.2.2.2.2.1 s.2.2.2.2.2.2.1 s.2.2.2.2.2.2.2) (fun n s hI hk => hs n s.1 s.2.1 s.2.2.1 s.2.2.2.1 s.2.2.2.2.1 s.2.2.2.2.2.1 s.2.2.2.2.2.2.1 s.2.2.2.2.2.2.2 hI (fun b1 b2 b3 b4 b5 b6 b7 b8 h9 hm => hk (b1, b2, b3, b4, b5, b6, b7, b8) h9 hm)) (a1, a2, a3, a4, a5, a6, a7, a8) h
theorem lp9 {A1 A2 A3 A4 A5 A6 A7 A8 A9 : Type} (W : Nat → A1 → A2 → A3 → A4 → A5 → A6 → A7 → A8 → A9 → Prop) (I : A1 → A2 → A3 → A4 → A5 → A6 → A7 → A8 → A9 → Prop) (μ : A1 → A2 → A3 → A4 → A5 → A6 → A7 → A8 → A9 → Nat) (hs : ∀ (n : Nat) (a1 : A1) (a2 : A2) (a3 : A3) (a4 : A4) (a5 : A5) (a6 : A6) (a7 : A7) (a8 : A8) (a9 : A9), I a1 a2 a3 a4 a5 a6 a7 a8 a9 → (∀ (b1 : A1) (b2 : A2) (b3 : A3) (b4 : A4) (b5 : A5) (b6 : A6) (b7 : A7) (b8 : A8) (b9 : A9), I b1 b2 b3 b4 b5 b6 b7 b8 b9 → μ b1 b2 b3 b4 b5 b6 b7 b8 b9 < μ a1 a2 a3 a4 a5 a6 a7 a8 a9 → W n b1 b2 b3 b4 b5 b6 b7 b8 b9) → W (n + 1) a1 a2 a3 a4 a5 a6 a7 a8 a9) (a1 : A1) (a2 : A2) (a3 : A3) (a4 : A4) (a5 : A5) (a6 : A6) (a7 : A7) (a8 : A8) (a9 : A9) (h : I a1 a2 a3 a4 a5 a6 a7 a8 a9) : ∃ n, W n a1 a2 a3 a4 a5 a6 a7 a8 a9 :=
  loop_m (σ := A1 × A2 × A3 × A4 × A5 × A6 × A7 × A8 × A9) (fun n s => W n s.1 s.2.1 s.2.2.1 s.2.2.2.1 s.2.2.2.2.1 s.2.2.2.2.2.1 s.2.2.2.2.2.2.1 s.2.2.2.2.2.2.2.1 s.2.2.2.2.2.2.2.2) (fun s => I s.1 s.2.1 s.2.2.1 s.2.2.2.1 s.2.2.2.2.1 s.2.2.2.2.2.1 s.2.2.2.2.2.2.1 s.2.2.2.2.2.2.2.1 s.2.2.2.2.2.2.2.2) (fun s => μ s.1 s.2.1 s.2.2.1 s.2.2.2.1 s.2.2.2.2.1 s.2.2.2.2.2.1 s.2.2.2.2.2.2.1 s.2.2.2.2.2.2.2.1 s.2.2.2.2.2.2.2.2) (fun n s hI hk => hs n s.1 s.2.1 s.2.2.1 s.2.2.2.1 s.2.2.2.2.1 s.2.2.2.2.2.1 s.2.2.2.2.2.2.1 s.2.2.2.2.2.2.2.1 s.2.2.2.2.2.2.2.2 hI (fun b1 b2 b3 b4 b5 b6 b7 b8 b9 h9 hm => hk (b1, b2, b3, b4, b5, b6, b7, b8, b9) h9 hm)) (a1, a2, a3, a4, a5, a6, a7, a8, a9) h
theorem lp10 {A1 A2 A3 A4 A5 A6 A7 A8 A9 A10 : Type} (W : Nat → A1 → A2 → A3 → A4 → A5 → A6 → A7 → A8 → A9 → A10 → Prop) (I : A1 → A2 → A3 → A4 → A5 → A6 → A7 → A8 → A9 → A10 → Prop) (μ : A1 → A2 → A3 → A4 → A5 → A6 → A7 → A8 → A9 → A10 → Nat) (hs : ∀ (n : Nat) (a1 : A1) (a2 : A2) (a3 : A3) (a4 : A4) (a5 : A5) (a6 : A6) (a7 : A7) (a8 : A8) (a9 : A9) (a10 : A10), I a1 a2 a3 a4 a5 a6 a7 a8 a9 a10 → (∀ (b1 : A1) (b2 : A2) (b3 : A3) (b4 : A4) (b5 : A5) (b6 : A6) (b7 : A7) (b8 : A8) (b9 : A9) (b10 : A10), I b1 b2 b3 b4 b5 b6 b7 b8 b9 b10 → μ b1 b2 b3 b4 b5 b6 b7 b8 b9 b10 < μ a1 a2 a3 a4 a5 a6 a7 a8 a9 a10 → W n b1 b2 b3 b4 b5 b6 b7 b8 b9 b10) → W (n + 1) a1 a2 a3 a4 a5 a6 a7 a8 a9 a10) (a1 : A1) (a2 : A2) (a3 : A3) (a4 : A4) (a5 : A5) (a6 : A6) (a7 : A7) (a8 : A8) (a9 : A9) (a10 : A10) (h : I a1 a2 a3 a4 a5 a6 a7 a8 a9 a10) : ∃ n, W n a1 a2 a3 a4 a5 a6 a7 a8 a9 a10 :=
  loop_m (σ := A1 × A2 × A3 × A4 × A5 × A6 × A7 × A8 × A9 × A10) (fun n s => W n s.1 s.2.1 s.2.2.1 s.2.2.2.1 s.2.2.2.2.1 s.2.2.2.2.2.1 s.2.2.2.2.2.2.1 s.2.2.2.2.2.2.2.1 s.2.2.2.2.2.2.2.2.1 s.2.2.2.2.2.2.2.2.2) (fun s => I s.1 s.2.1 s.2.2.1 s.2.2.2.1 s.2.2.2.2.1 s.2.2.2.2.2.1 s.2.2.2.2.2.2.1 s.2.2.2.2.2.2.2.1 s.2.2.2.2.2.2.2.2.1 s.2.2.2.2.2.2.2.2.2) (fun s => μ s.1 s.2.1 s.2.2.1 s.2.2.2.1 s.2.2.2.2.1 s.2.2.2.2.2.1 s.2.2.2.2.2.2.1 s.2.2.2.2.2.2.2.1 s.2.2.2.2.2.2.2.2.1 s.2.2.2.2.2.2.2.2.2) (fun n s hI hk => hs n s.1 s.2.1 s.2.2.1 s.2.2.2.1 s.2.2.2.2.1 s.2.2.2.2.2.1 s.2.2.2.2.2.2.1 s.2.2.2.2.2.2.2.1 s.2.2.2.2.2.2.2.2.1 s.2.2.2.2.2.2.2.2.2 hI (fun b1 b2 b3 b4 b5 b6 b7 b8 b9 b10 h9 hm => hk (b1, b2, b3, b4, b5, b6, b7, b8, b9, b10) h9 hm)) (a1, a2, a3, a4, a5, a6, a7, a8, a9, a10) h
theorem lp11 {A1 A2 A3 A4 A5 A6 A7 A8 A9 A10 A11 : Type} (W : Nat → A1 → A2 → A3 → A4 → A5 → A6 → A7 → A8 → A9 → A10 → A11 → Prop) (I : A1 → A2 → A3 → A4 → A5 → A6 → A7 → A8 → A9 → A10 → A11 → Prop) (μ : A1 → A2 → A3 → A4 → A5 → A6 → A7 → A8 → A9 → A10 → A11 → Nat) (hs : ∀ (n : Nat) (a1 : A1) (a2 : A2) (a3 : A3) (a4 : A4) (a5 : A5) (a6 : A6) (a7 : A7) (a8 : A8) (a9 : A9) (a10 : A10) (a11 : A11), I a1 a2 a3 a4 a5 a6 a7 a8 a9 a10 a11 → (∀ (b1 : A1) (b2 : A2) (b3 : A3) (b4 : A4) (b5 : A5) (b6 : A6) (b7 : A7) (b8 : A8) (b9 : A9) (b10 : A10) (b11 : A11), I b1 b2 b3 b4 b5 b6 b7 b8 b9 b10 b11 → μ b1 b2 b3 b4 b5 b6 b7 b8 b9 b10 b11 < μ a1 a2 a3 a4 a5 a6 a7 a8 a9 a10 a11 → W n b1 b2 b3 b4 b5 b6 b7 b8 b9 b10 b11) → W (n + 1) a1 a2 a3 a4 a5 a6 a7 a8 a9 a10 a11) (a1 : A1) (a2 : A2) (a3 : A3) (a4 : A4) (a5 : A5) (a6 : A6) (a7 : A7) (a8 : A8) (a9 : A9) (a10 : A10) (a11 : A11) (h : I a1 a2 a3 a4 a5 a6 a7 a8 a9 a10 a11) : ∃ n, W n a1 a2 a3 a4 a5 a6 a7 a8 a9 a10 a11 :=
  loop_m (σ := A1 × A2 × A3 × A4 × A5 × A6 × A7 × A8 × A9 × A10 × A11) (fun n s => W n s.1 s.2.1 s.2.2.1 s.2.2.2.1 s.2.2.2.2.1 s.2.2.2.2.2.1 s.2.2.2.2.2.2.1 s.2.2.2.2.2.2.2.1 s.2.2.2.2.2.2.2.2.1 s.2.2.2.2.2.2.2.2.2.1 s.2.2.2.2.2.2.2.2.2.2) (fun s => I s.1 s.2.1 s.2.2.1 s.2.2.2.1 s.2.2.2.2.1 s.2.2.2.2.2.1 s.2.2.2.2.2.2.1 s.2.2.2.2.2.2.2.1 s.2.2.2.2.2.2.2.2.1 s.2.2.2.2.2.2.2.2.2.1 s.2.2.2.2.2.2.2.2.2.2) (fun s => μ s.1 s.2.1 s.2.2.1 s.2.2.2.1 s.2.2.2.2.1 s.2.2.2.2.2.1 s.2.2.2.2.2.2.1 s.2.2.2.2.2.2.2.1 s.2.2.2.2.2.2.2.2.1 s.2.2.2.2.2.2.2.2.2.1 s.2.2.2.2.2.2.2.2.2.2) (fun n s hI hk => hs n s.1 s.2.1 s.2.2.1 s.2.2.2.1 s.2.2.2.2.1 s.2.2.2.2.2.1 s.2.2.2.2.2.2.1 s.2.2.2.2.2.2.2.1 s.2.2.2.2.2.2.2.2.1 s.2.2.2.2.2.2.2.2.2.1 s.2.2.2.2.2.2.2.2.2.2 hI (fun b1 b2 b3 b4 b5 b6 b7 b8 b9 b10 b11 h9 hm => hk (b1, b2, b3, b4, b5, b6, b7, b8, b9, b10, b11) h9 hm)) (a1, a2, a3, a4, a5, a6, a7, a8, a9, a10, a11) h
theorem lp12 {A1 A2 A3 A4 A5 A6 A7 A8 A9 A10 A11 A12 : Type} (W : Nat → A1 → A2 → A3 → A4 → A5 → A6 → A7 → A8 → A9 → A10 → A11 → A12 → Prop) (I : A1 → A2 → A3 → A4 → A5 → A6 → A7 → A8 → A9 → A10 → A11 → A12 → Prop) (μ : A1 → A2 → A3 → A4 → A5 → A6 → A7 → A8 → A9 → A10 → A11 → A12 → Nat) (hs : ∀ (n : Nat) (a1 : A1) (a2 : A2) (a3 : A3) (a4 : A4) (a5 : A5) (a6 : A6) (a7 : A7) (a8 : A8) (a9 : A9) (a10 : A10) (a11 : A11) (a12 : A12), I a1 a2 a3 a4 a5 a6 a7 a8 a9 a10 a11 a12 → (∀ (b1 : A1) (b2 : A2) (b3 : A3) (b4 : A4) (b5 : A5) (b6 : A6) (b7 : A7) (b8 : A8) (b9 : A9) (b10 : A10) (b11 : A11) (b12 : A12), I b1 b2 b3 b4 b5 b6 b7 b8 b9 b10 b11 b12 → μ b1 b2 b3 b4 b5 b6 b7 b8 b9 b10 b11 b12 < μ a1 a2 a3 a4 a5 a6 a7 a8 a9 a10 a11 a12 → W n b1 b2 b3 b4 b5 b6 b7 b8 b9 b10 b11 b12) → W (n + 1) a1 a2 a3 a4 a5 a6 a7 a8 a9 a10 a11 a12) (a1 : A1) (a2 : A2) (a3 : A3) (a4 : A4) (a5 : A5) (a6 : A6) (a7 : A7) (a8 : A8) (a9 : A9) (a10 : A10) (a11 : A11) (a12 : A12) (h : I a1 a2 a3 a4 a5 a6 a7 a8 a9 a10 a11 a12) : ∃ n, W n a1 a2 a3 a4 a5 a6 a7 a8 a9 a10 a11 a12 :=
  loop_m (σ := A1 × A2 × A3 × A4 × A5 × A6 × A7 × A8 × A9 × A10 × A11 × A12) (fun n s => W n s.1 s.2.1 s.2.2.1 s.2.2.2.1 s.2.2.2.2.1 s.2.2.2.2.2.1 s.2.2.2.2.2.2.1 s.2.2.2.2.2.2.2.1 s.2.2.2.2.2.2.2.2.1 s.2.2.2.2.2.2.2.2.2.1 s.2.2.2.2.2.2.2.2.2.2.1 s.2.2.2.2.2.2.2.2.2.2.2) (fun s => I s.1 s.2.1 s.2.2.1 s.2.2.2.1 s.2.2.2.2.1 s.2.2.2.2.2.1 s.2.2.2.2.2.2.1 s.2.2.2.2.2.2.2.1 s.2.2.2.2.2.2.2.2.1 s.2.2.2.2.2.2.2.2.2.1 s.2.2.2.2.2.2.2.2.2.2.1 s.2.2.2.2.2.2.2.2.2.2.2) (fun s => μ s.1 s.2.1 s.2.2.1 s.2.2.2.1 s.2.2.2.2.1 s.2.2.2.2.2.1 s.2.2.2.2.2.2.1 s.2.2.2.2.2.2.2.1 s.2.2.2.2.2.2.2.2.1 s.2.2.2.2.2.2.2.2.2.1 s.2.2.2.2.2.2.2.2.2.2.1 s.2.2.2.2.2.2.2.2.2.2.2) (fun n s hI hk => hs n s.1 s.2.1 s.2.2.1 s.2.2.2.1 s.2.2.2.2.1 s.2.2.2.2.2.1 s.2.2.2.2.2.2.1 s.2.2.2.2.2.2.2.1 s.2.2.2.2.2.2.2.2.1 s.2.2.2.2.2.2.2.2.2.1 s.2.2.2.2.2.2.2.2.2.2.1 s.2.2.2.2.2.2.2.2.2.2.2 hI (fun b1 b2 b3 b4 b5 b6 b7 b8 b9 b10 b11 b12 h9 hm => hk (b1, b2, b3, b4, b5, b6, b7, b8, b9, b10, b11, b12) h9 hm)) (a1, a2, a3, a4, a5, a6, a7, a8, a9, a10, a11, a12) h
theorem lp13 {A1 A2 A3 A4 A5 A6 A7 A8 A9 A10 A11 A12 A13 : Type} (W : Nat → A1 → A2 → A3 → A4 → A5 → A6 → A7 → A8 → A9 → A10 → A11 → A12 → A13 → Prop) (I : A1 → A2 → A3 → A4 → A5 → A6 → A7 → A8 → A9 → A10 → A11 → A12 → A13 → Prop) (μ : A1 → A2 → A3 → A4 → A5 → A6 → A7 → A8 → A9 → A10 → A11 → A12 → A13 → Nat) (hs : ∀ (n : Nat) (a1 : A1) (a2 : A2) (a3 : A3) (a4 : A4) (a5 : A5) (a6 : A6) (a7 : A7) (a8 : A8) (a9 : A9) (a10 : A10) (a11 : A11) (a12 : A12) (a13 : A13), I a1 a2 a3 a4 a5 a6 a7 a8 a9 a10 a11 a12 a13 → (∀ (b1 : A1) (b2 : A2) (b3 : A3) (b4 : A4) (b5 : A5) (b6 : A6) (b7 : A7) (b8 : A8) (b9 : A9) (b10 : A10) (b11 : A11) (b12 : A12) (b13 : A13), I b1 b2 b3 b4 b5 b6 b7 b8 b9 b10 b11 b12 b13 → μ b1 b2 b3 b4 b5 b6 b7 b8 b9 b10 b11 b12 b13 < μ a1 a2 a3 a4 a5 a6 a7 a8 a9 a10 a11 a12 a13 → W n b1 b2 b3 b4 b5 b6 b7 b8 b9 b10 b11 b12 b13) → W (n + 1) a1 a2 a3 a4 a5 a6 a7 a8 a9 a10 a11 a12 a13) (a1 : A1) (a2 : A2) (a3 : A3) (a4 : A4) (a5 : A5) (a6 : A6) (a7 : A7) (a8 : A8) (a9 : A9) (a10 : A10) (a11 : A11) (a12 : A12) (a13 : A13) (h : I a1 a2 a3 a4 a5 a6 a7 a8 a9 a10 a11 a12 a13) : ∃ n, W n a1 a2 a3 a4 a5 a6 a7 a8 a9 a10 a11 a12 a13 :=
  loop_m (σ := A1 × A2 × A3 × A4 × A5 × A6 × A7 × A8 × A9 × A10 × A11 × A12 × A13) (fun n s => W n s.1 s.2.1 s.2.2.1 s.2.2.2.1 s.2.2.2.2.1 s.2.2.2.2.2.1 s.2.2.2.2.2.2.1 s.2.2.2.2.2.2.2.1 s.2.2.2.2.2.2.2.2.1 s.2.2.2.2.2.2.2.2.2.1 s.2.2.2.2.2.2.2.2.2.2.1 s.2.2.2.2.2.2.2.2.2.2.2.1 s.2.2.2.2.2.2.2.2.2.2.2.2) (fun s => I s.1 s.2.1 s.2.2.1 s.2.2.2.1 s.2.2.2.2.1 s.2.2.2.2.2.1 s.2.2.2.2.2.2.1 s.2.2.2.2.2.2.2.1 s.2.2.2.2.2.2.2.2.1 s.2.2.2.2.2.2.2.2.2.1 s.2.2.2.2.2.2.2.2.2.2.1 s.2.2.2.2.2.2.2.2.2.2.2.1 s.2.2.2.2.2.2.2.2.2.2.2.2) (fun s => μ s.1 s.2.1 s.2.2.1 s.2.2.2.1 s.2.2.2.2.1 s.2.2.2.2.2.1 s.2.2.2.2.2.2.1 s.2.2.2.2.2.2.2.1 s.2.2.2.2.2.2.2.2.1 s.2.2.2.2.2.2.2.2.2.1 s.2.2.2.2.2.2.2.2.2.2.1 s.2.2.2.2.2.2.2.2.2.2.2.1 s.2.2.2.2.2.2.2.2.2.2.2.2) (fun n s hI hk => hs n s.1 s.2.1 s.2.2.1 s.2.2.2.1 s.2.2.2.2.1 s.2.2.2.2.2.1 s.2.2.2.2.2.2.1 s.2.2.2.2.2.2.2.1 s.2.2.2.2.2.2.2.2.1 s.2.2.2.2.2.2.2.2.2.1 s.2.2.2.2.2.2.2.2.2.2.1 s.2.2.2.2.2.2.2.2.2.2.2.1 s.2.2.2.2.2.2.2.2.2.2.2.2 hI (fun b1 b2 b3 b4 b5 b6 b7 b8 b9 b10 b11 b12 b13 h9 hm => hk (b1, b2, b3, b4, b5, b6, b7, b8, b9, b10, b11, b12, b13) h9 hm)) (a1, a2, a3, a4, a5, a6, a7, a8, a9, a10, a11, a12, a13) h
theorem lp14 {A1 A2 A3 A4 A5 A6 A7 A8 A9 A10 A11 A12 A13 A14 : Type} (W : Nat → A1 → A2 → A3 → A4 → A5 → A6 → A7 → A8 → A9 → A10 → A11 → A12 → A13 → A14 → Prop) (I : A1 → A2 → A3 → A4 → A5 → A6 → A7 → A8 → A9 → A10 → A11 → A12 → A13 → A14 → Prop) (μ : A1 → A2 → A3 → A4 → A5 → A6 → A7 → A8 → A9 → A10 → A11 → A12 → A13 → A14 → Nat) (hs : ∀ (n : Nat) (a1 : A1) (a2 : A2) (a3 : A3) (a4 : A4) (a5 : A5) (a6 : A6) (a7 : A7) (a8 : A8) (a9 : A9) (a10 : A10) (a11 : A11) (a12 : A12) (a13 : A13) (a14 : A14), I a1 a2 a3 a4 a5 a6 a7 a8 a9 a10 a11 a12 a13 a14 → (∀ (b1 : A1) (b2 : A2) (b3 : A3) (b4 : A4) (b5 : A5) (b6 : A6) (b7 : A7) (b8 : A8) (b9 : A9) (b10 : A10) (b11 : A11) (b12 : A12) (b13 : A13) (b14 : A14), I b1 b2 b3 b4 b5 b6 b7 b8 b9 b10 b11 b12 b13 b14 → μ b1 b2 b3 b4 b5 b6 b7 b8 b9 b10 b11 b12 b13 b14 < μ a1 a2 a3 a4 a5 a6 a7 a8 a9 a10 a11 a12 a13 a14 → W n b1 b2 b3 b4 b5 b6 b7 b8 b9 b10 b11 b12 b13 b14) → W (n + 1) a1 a2 a3 a4 a5 a6 a7 a8 a9 a10 a11 a12 a13 a14) (a1 : A1) (a2 : A2) (a3 : A3) (a4 : A4) (a5 : A5) (a6 : A6) (a7 : A7) (a8 : A8) (a9 : A9) (a10 : A10) (a11 : A11) (a12 : A12) (a13 : A13) (a14 : A14) (h : I a1 a2 a3 a4 a5 a6 a7 a8 a9 a10 a11 a12 a13 a14) : ∃ n, W n a1 a2 a3 a4 a5 a6 a7 a8 a9 a10 a11 a12 a13 a14 :=
  loop_m (σ := A1 × A2 × A3 × A4 × A5 × A6 × A7 × A8 × A9 × A10 × A11 × A12 × A13 × A14) (fun n s => W n s.1 s.2.1 s.2.2.1 s.2.2.2.1 s.2.2.2.2.1 s.2.2.2.2.2.1 s.2.2.2.2.2.2.1 s.2.2.2.2.2.2.2.1 s.2.2.2.2.2.2.2.2.1 s.2.2.2.2.2.2.2.2.2.1 s.2.2.2.2.2.2.2.2.2.2.1 s.2.2.2.2.2.2.2.2.2.2.2.1 s.2.2.2.2.2.2.2.2.2.2.2.2.1 s.2.2.2.2.2.2.2.2.2.2.2.2.2) (fun s => I s.1 s.2.1 s.2.2.1 s.2.2.2.1 s.2.2.2.2.1 s.2.2.2.2.2.1 s.2.2.2.2.2.2.1 s.2.2.2.2.2.2.2.1 s.2.2.2.2.2.2.2.2.1 s.2.2.2.2.2.2.2.2.2.1 s.2.2.2.2.2.2.2.2.2.2.1 s.2.2.2.2.2.2.2.2.2.2.2.1 s.2.2.2.2.2.2.2.2.2.2.2.2.1 s.2.2.2.2.2.2.2.2.2.2.2.2.2) (fun s => μ s.1 s.2.1 s.2.2.1 s.2.2.2.1 s.2.2.2.2.1 s.2.2.2.2.2.1 s.2.2.2.2.2.2.1 s.2.2.2.2.2.2.2.1 s.2.2.2.2.2.2.2.2.1 s.2.2.2.2.2.2.2.2.2.1 s.2.2.2.2.2.2.2.2.2.2.1 s.2.2.2.2.2.2.2.2.2.2.2.1 s.2.2.2.2.2.2.2.2.2.2.2.2.1 s.2.2.2.2.2.2.2.2.2.2.2.2.2) (fun n s hI hk => hs n s.1 s.2.1 s.2.2.1 s.2.2.2.1 s.2.2.2.2.1 s.2.2.2.2.2.1 s.2.2.2.2.2.2.1 s.2.2.2.2.2.2.2.1 s.2.2.2.2.2.2.2.2.1 s.2.2.2.2.2.2.2.2.2.1 s.2.2.2.2.2.2.2.2.2.2.1 s.2.2.2.2.2.2.2.2.2.2.2.1 s.2.2.2.2.2.2.2.2.2.2.2.2.1 s.2.2.2.2.2.2.2.2.2.2.2.2.2 hI (fun b1 b2 b3 b4 b5 b6 b7 b8 b9 b10 b11 b12 b13 b14 h9 hm => hk (b1, b2, b3, b4, b5, b6, b7, b8, b9, b10, b11, b12, b13, b14) h9 hm)) (a1, a2, a3, a4, a5, a6, a7, a8, a9, a10, a11, a12, a13, a14) h
theorem lp15 {A1 A2 A3 A4 A5 A6 A7 A8 A9 A10 A11 A12 A13 A14 A15 : Type} (W : Nat → A1 → A2 → A3 → A4 → A5 → A6 → A7 → A8 → A9 → A10 → A11 → A12 → A13 → A14 → A15 → Prop) (I : A1 → A2 → A3 → A4 → A5 → A6 → A7 → A8 → A9 → A10 → A11 → A12 → A13 → A14 → A15 → Prop) (μ : A1 → A2 → A3 → A4 → A5 → A6 → A7 → A8 → A9 → A10 → A11 → A12 → A13 → A14 → A15 → Nat) (hs : ∀ (n : Nat) (a1 : A1) (a2 : A2) (a3 : A3) (a4 : A4) (a5 : A5) (a6 : A6) (a7 : A7) (a8 : A8) (a9 : A9) (a10 : A10) (a11 : A11) (a12 : A12) (a13 : A13) (a14 : A14) (a15 : A15), I a1 a2 a3 a4 a5 a6 a7 a8 a9 a10 a11 a12 a13 a14 a15 → (∀ (b1 : A1) (b2 : A2) (b3 : A3) (b4 : A4) (b5 : A5) (b6 : A6) (b7 : A7) (b8 : A8) (b9 : A9) (b10 : A10) (b11 : A11) (b12 : A12) (b13 : A13) (b14 : A14) (b15 : A15), I b1 b2 b3 b4 b5 b6 b7 b8 b9 b10 b11 b12 b13 b14 b15 → μ b1 b2 b3 b4 b5 b6 b7 b8 b9 b10 b11 b12 b13 b14 b15 < μ a1 a2 a3 a4 a5 a6 a7 a8 a9 a10 a11 a12 a13 a14 a15 → W n b1 b2 b3 b4 b5 b6 b7 b8 b9 b10 b11 b12 b13 b14 b15) → W (n + 1) a1 a2 a3 a4 a5 a6 a7 a8 a9 a10 a11 a12 a13 a14 a15) (a1 : A1) (a2 : A2) (a3 : A3) (a4 : A4) (a5 : A5) (a6 : A6) (a7 : A7) (a8 : A8) (a9 : A9) (a10 : A10) (a11 : A11) (a12 : A12) (a13 : A13) (a14 : A14) (a15 : A15) (h : I a1 a2 a3 a4 a5 a6 a7 a8 a9 a10 a11 a12 a13 a14 a15) : ∃ n, W n a1 a2 a3 a4 a5 a6 a7 a8 a9 a10 a11 a12 a13 a14 a15 :=
  loop_m (σ := A1 × A2 × A3 × A4 × A5 × A6 × A7 × A8 × A9 × A10 × A11 × A12 × A13 × A14 × A15) (fun n s => W n s.1 s.2.1 s.2.2.1 s.2.2.2.1 s.2.2.2.2.1 s.2.2.2.2.2.1 s.2.2.2.2.2.2.1 s.2.2.2.2.2.2.2.1 s.2.2.2.2.2.2.2.2.1 s.2.2.2.2.2.2.2.2.2.1 s.2.2.2.2.2.2.2.2.2.2.1 s.2.2.2.2.2.2.2.2.2.2.2.1 s.2.2.2.2.2.2.2.2.2.2.2.2.1 s.2.2.2.2.2.2.2.2.2.2.2.2.2.1 s.2.2.2.2.2.2.2.2.2.2.2.2.2.2) (fun s => I s.1 s.2.1 s.2.2.1 s.2.2.2.1 s.2.2.2.2.1 s.2.2.2.2.2.1 s.2.2.2.2.2.2.1 s.2.2.2.2.2.2.2.1 s.2.2.2.2.2.2.2.2.1 s.2.2.2.2.2.2.2.2.2.1 s.2.2.2.2.2.2.2.2.2.2.1 s.2.2.2.2.2.2.2.2.2.2.2.1 s.2.2.2.2.2.2.2.2.2.2.2.2.1 s.2.2.2.2.2.2.2.2.2.2.2.2.2.1 s.2.2.2.2.2.2.2.2.2.2.2.2.2.2) (fun s => μ s.1 s.2.1 s.2.2.1 s.2.2.2.1 s.2.2.2.2.1 s.2.2.2.2.2.1 s.2.2.2.2.2.2.1 s.2.2.2.2.2.2.2.1 s.2.2.2.2.2.2.2.2.1 s.2.2.2.2.2.2.2.2.2.1 s.2.2.2.2.2.2.2.2.2.2.1 s.2.2.2.2.2.2.2.2.2.2.2.1 s.2.2.2.2.2.2.2.2.2.2.2.2.1 s.2.2.2.2.2.2.2.2.2.2.2.2.2.1 s.2.2.2.2.2.2.2.2.2.2.2.2.2.2) (fun n s hI hk => hs n s.1 s.2.1 s.2.2.1 s.2.2.2.1 s.2.2.2.2.1 s.2.2.2.2.2.1 s.2.2.2.2.2.2.1 s.2.2.2.2.2.2.2.1 s.2.2.2.2.2.2.2.2.1 s.2.2.2.2.2.2.2.2.2.1 s.2.2.2.2.2.2.2.2.2.2.1 s.2.2.2.2.2.2.2.2.2.2.2.1 s.2.2.2.2.2.2.2.2.2.2.2.2.1 s.2.2.2.2.2.2.2.2.2.2.2.2.2.1 s.2.2.2.2.2.2.2.2.2.2.2.2.2.2 hI (fun b1 b2 b3 b4 b5 b6 b7 b8 b9 b10 b11 b12 b13 b14 b15 h9 hm => hk (b1, b2, b3, b4, b5, b6, b7, b8, b9, b10, b11, b12, b13, b14, b15) h9 hm)) (a1, a2, a3, a4, a5, a6, a7, a8, a9, a10, a11, a12, a13, a14, a15) h
theorem lp16 {A1 A2 A3 A4 A5 A6 A7 A8 A9 A10 A11 A12 A13 A14 A15 A16 : Type} (W : Nat → A1 → A2 → A3 → A4 → A5 → A6 → A7 → A8 → A9 → A10 → A11 → A12 → A13 → A14 → A15 → A16 → Prop) (I : A1 → A2 → A3 → A4 → A5 → A6 → A7 → A8 → A9 → A10 → A11 → A12 → A13 → A14 → A15 → A16 → Prop) (μ : A1 → A2 → A3 → A4 → A5 → A6 → A7 → A8 → A9 → A10 → A11 → A12 → A13 → A14 → A15 → A16 → Nat) (hs : ∀ (n : Nat) (a1 : A1) (a2 : A2) (a3 : A3) (a4 : A4) (a5 : A5) (a6 : A6) (a7 : A7) (a8 : A8) (a9 : A9) (a10 : A10) (a11 : A11) (a12 : A12) (a13 : A13) (a14 : A14) (a15 : A15) (a16 : A16), I a1 a2 a3 a4 a5 a6 a7 a8 a9 a10 a11 a12 a13 a14 a15 a16 → (∀ (b1 : A1) (b2 : A2) (b3 : A3) (b4 : A4) (b5 : A5) (b6 : A6) (b7 : A7) (b8 : A8) (b9 : A9) (b10 : A10) (b11 : A11) (b12 : A12) (b13 : A13) (b14 : A14) (b15 : A15) (b16 : A16), I b1 b2 b3 b4 b5 b6 b7 b8 b9 b10 b11 b12 b13 b14 b15 b16 → μ b1 b2 b3 b4 b5 b6 b7 b8 b9 b10 b11 b12 b13 b14 b15 b16 < μ a1 a2 a3 a4 a5 a6 a7 a8 a9 a10 a11 a12 a13 a14 a15 a16 → W n b1 b2 b3 b4 b5 b6 b7 b8 b9 b10 b11 b12 b13 b14 b15 b16) → W (n + 1) a1 a2 a3 a4 a5 a6 a7 a8 a9 a10 a11 a12 a13 a14 a15 a16) (a1 : A1) (a2 : A2) (a3 : A3) (a4 : A4) (a5 : A5) (a6 : A6) (a7 : A7) (a8 : A8) (a9 : A9) (a10 : A10) (a11 : A11) (a12 : A12) (a13 : A13) (a14 : A14) (a15 : A15) (a16 : A16) (h : I a1 a2 a3 a4 a5 a6 a7 a8 a9 a10 a11 a12 a13 a14 a15 a16) : ∃ n, W n a1 a2 a3 a4 a5 a6 a7 a8 a9 a10 a11 a12 a13 a14 a15 a16 :=
  loop_m (σ := A1 × A2 × A3 × A4 × A5 × A6 × A7 × A8 × A9 × A10 × A11 × A12 × A13 × A14 × A15 × A16) (fun n s => W n s.1 s.2.1 s.2.2.1 s.2.2.2.1 s.2.2.2.2.1 s.2.2.2.2.2.1 s.2.2.2.2.2.2.1 s.2.2.2.2.2.2.2.1 s.2.2.2.2.2.2.2.2.1 s.2.2.2.2.2.2.2.2.2.1 s.2.2.2.2.2.2.2.2.2.2.1 s.2.2.2.2.2.2.2.2.2.2.2.1 s.2.2.2.2.2.2.2.2.2.2.2.2.1 s.2.2.2.2.2.2.2.2.2.2.2.2.2.1 s.2.2.2.2.2.2.2.2.2.2.2.2.2.2.1 s.2.2.2.2.2.2.2.2.2.2.2.2.2.2.2) (fun s => I s.1 s.2.1 s.2.2.1 s.2.2.2.1 s.2.2.2.2.1 s.2.2.2.2.2.1 s.2.2.2.2.2.2.1 s.2.2.2.2.2.2.2.1 s.2.2.2.2.2.2.2.2.1 s.2.2.2.2.2.2.2.2.2.1 s.2.2.2.2.2.2.2.2.2.2.1 s.2.2.2.2.2.2.2.2.2.2.2.1 s.2.2.2.2.2.2.2.2.2.2.2.2.1 s.2.2.2.2.2.2.2.2.2.2.2.2.2.1 s.2.2.2.2.2.2.2.2.2.2.2.2.2.2.1 s.2.2.2.2.2.2.2.2.2.2.2.2.2.2.2) (fun s => μ s.1 s.2.1 s.2.2.1 s.2.2.2.1 s.2.2.2.2.1 s.2.2.2.2.2.1 s.2.2.2.2.2.2.1 s.2.2.2.2.2.2.2.1 s.2.2.2.2.2.2.2.2.1 s.2.2.2.2.2.2.2.2.2.1 s.2.2.2.2.2.2.2.2.2.2.1 s.2.2.2.2.2.2.2.2.2.2.2.1 s.2.2.2.2.2.2.2.2.2.2.2.2.1 s.2.2.2.2.2.2.2.2.2.2.2.2.2.1 s.2.2.2.2.2.2.2.2.2.2.2.2.2.2.1 s.2.2.2.2.2.2.2.2.2.2.2.2.2.2.2) (fun n s hI hk => hs n s.1 s.2.1 s.2.2.1 s.2.2.2.1 s.2.2.2.2.1 s.2.2.2.2.2.1 s.2.2.2.2.2.2.1 s.2.2.2.2.2.2.2.1 s.2.2.2.2.2.2.2.2.1 s.2.2.2.2.2.2.2.2.2.1 s.2.2.2.2.2.2.2.2.2.2.1 s.2.2.2.2.2.2.2.2.2.2.2.1 s.2.2.2.2.2.2.2.2.2.2.2.2.1 s.2.2.2.2.2.2.2.2.2.2.2.2.2.1 s.2.2.2.2.2.2.2.2.2.2.2.2.2.2.1 s.2.2.2.2.2.2.2.2.2.2.2.2.2.2.2 hI (fun b1 b2 b3 b4 b5 b6 b7 b8 b9 b10 b11 b12 b13 b14 b15 b16 h9 hm => hk (b1, b2, b3, b4, b5, b6, b7, b8, b9, b10, b11, b12, b13, b14, b15, b16) h9 hm)) (a1, a2, a3, a4, a5, a6, a7, a8, a9, a10, a11, a12, a13, a14, a15, a16) h
theorem pk_least (P : Nat → Prop) (h : ∃ k, P k) : ∃ k, P k ∧ ∀ j, j < k → ¬ P j := by
  obtain ⟨k, hk⟩ := h
  induction k using Nat.strongRecOn with
  | ind k ih =>
    by_cases e : ∃ j, j < k ∧ P j
    · obtain ⟨j, hj, pj⟩ := e
      exact ih j hj pj
    · exact ⟨k, hk, fun j hj pj => e ⟨j, hj, pj⟩⟩
theorem rp1 {ρ A1 : Type} (W : Nat → (ρ → Prop) → A1 → Prop) (ok : A1 → Prop) (μ : A1 → Nat) (val : A1 → ρ)
    (hs : ∀ (d : Nat) (post : ρ → Prop) (a1 : A1), ok a1 → post (val a1) → (∀ (post' : ρ → Prop) (b1 : A1), ok b1 → μ b1 < μ a1 → post' (val b1) → W d post' b1) → W (d + 1) post a1) :
    ∀ (d : Nat) (post : ρ → Prop) (a1 : A1), ok a1 → μ a1 < d → post (val a1) → W d post a1 := by
  intro d
  induction d with
  | zero => intro post a1 _ h; omega
  | succ d ih =>
    intro post a1 ho hm hp
    exact hs d post a1 ho hp (fun post' b1 ho' hm' hp' => ih post' b1 ho' (by omega) hp')
theorem rp2 {ρ A1 A2 : Type} (W : Nat → (ρ → Prop) → A1 → A2 → Prop) (ok : A1 → A2 → Prop) (μ : A1 → A2 → Nat) (val : A1 → A2 → ρ)
    (hs : ∀ (d : Nat) (post : ρ → Prop) (a1 : A1) (a2 : A2), ok a1 a2 → post (val a1 a2) → (∀ (post' : ρ → Prop) (b1 : A1) (b2 : A2), ok b1 b2 → μ b1 b2 < μ a1 a2 → post' (val b1 b2) → W d post' b1 b2) → W (d + 1) post a1 a2) :
    ∀ (d : Nat) (post : ρ → Prop) (a1 : A1) (a2 : A2), ok a1 a2 → μ a1 a2 < d → post (val a1 a2) → W d post a1 a2 := by
  intro d
  induction d with
  | zero => intro post a1 a2 _ h; omega
  | succ d ih =>
    intro post a1 a2 ho hm hp
    exact hs d post a1 a2 ho hp (fun post' b1 b2 ho' hm' hp' => ih post' b1 b2 ho' (by omega) hp')
theorem rp3 {ρ A1 A2 A3 : Type} (W : Nat → (ρ → Prop) → A1 → A2 → A3 → Prop) (ok : A1 → A2 → A3 → Prop) (μ : A1 → A2 → A3 → Nat) (val : A1 → A2 → A3 → ρ)
    (hs : ∀ (d : Nat) (post : ρ → Prop) (a1 : A1) (a2 : A2) (a3 : A3), ok a1 a2 a3 → post (val a1 a2 a3) → (∀ (post' : ρ → Prop) (b1 : A1) (b2 : A2) (b3 : A3), ok b1 b2 b3 → μ b1 b2 b3 < μ a1 a2 a3 → post' (val b1 b2 b3) → W d post' b1 b2 b3) → W (d + 1) post a1 a2 a3) :
    ∀ (d : Nat) (post : ρ → Prop) (a1 : A1) (a2 : A2) (a3 : A3), ok a1 a2 a3 → μ a1 a2 a3 < d → post (val a1 a2 a3) → W d post a1 a2 a3 := by
  intro d
  induction d with
  | zero => intro post a1 a2 a3 _ h; omega
  | succ d ih =>
    intro post a1 a2 a3 ho hm hp
    exact hs d post a1 a2 a3 ho hp (fun post' b1 b2 b3 ho' hm' hp' => ih post' b1 b2 b3 ho' (by omega) hp')
theorem rp4 {ρ A1 A2 A3 A4 : Type} (W : Nat → (ρ → Prop) → A1 → A2 → A3 → A4 → Prop) (ok : A1 → A2 → A3 → A4 → Prop) (μ : A1 → A2 → A3 → A4 → Nat) (val : A1 → A2 → A3 → A4 → ρ)
    (hs : ∀ (d : Nat) (post : ρ → Prop) (a1 : A1) (a2 : A2) (a3 : A3) (a4 : A4), ok a1 a2 a3 a4 → post (val a1 a2 a3 a4) → (∀ (post' : ρ → Prop) (b1 : A1) (b2 : A2) (b3 : A3) (b4 : A4), ok b1 b2 b3 b4 → μ b1 b2 b3 b4 < μ a1 a2 a3 a4 → post' (val b1 b2 b3 b4) → W d post' b1 b2 b3 b4) → W (d + 1) post a1 a2 a3 a4) :
    ∀ (d : Nat) (post : ρ → Prop) (a1 : A1) (a2 : A2) (a3 : A3) (a4 : A4), ok a1 a2 a3 a4 → μ a1 a2 a3 a4 < d → post (val a1 a2 a3 a4) → W d post a1 a2 a3 a4 := by
  intro d
  induction d with
  | zero => intro post a1 a2 a3 a4 _ h; omega
  | succ d ih =>
    intro post a1 a2 a3 a4 ho hm hp
    exact hs d post a1 a2 a3 a4 ho hp (fun post' b1 b2 b3 b4 ho' hm' hp' => ih post' b1 b2 b3 b4 ho' (by omega) hp')
theorem rp5 {ρ A1 A2 A3 A4 A5 : Type} (W : Nat → (ρ → Prop) → A1 → A2 → A3 → A4 → A5 → Prop) (ok : A1 → A2 → A3 → A4 → A5 → Prop) (μ : A1 → A2 → A3 → A4 → A5 → Nat) (val : A1 → A2 → A3 → A4 → A5 → ρ)
    (hs : ∀ (d : Nat) (post : ρ → Prop) (a1 : A1) (a2 : A2) (a3 : A3) (a4 : A4) (a5 : A5), ok a1 a2 a3 a4 a5 → post (val a1 a2 a3 a4 a5) → (∀ (post' : ρ → Prop) (b1 : A1) (b2 : A2) (b3 : A3) (b4 : A4) (b5 : A5), ok b1 b2 b3 b4 b5 → μ b1 b2 b3 b4 b5 < μ a1 a2 a3 a4 a5 → post' (val b1 b2 b3 b4 b5) → W d post' b1 b2 b3 b4 b5) → W (d + 1) post a1 a2 a3 a4 a5) :
    ∀ (d : Nat) (post : ρ → Prop) (a1 : A1) (a2 : A2) (a3 : A3) (a4 : A4) (a5 : A5), ok a1 a2 a3 a4 a5 → μ a1 a2 a3 a4 a5 < d → post (val a1 a2 a3 a4 a5) → W d post a1 a2 a3 a4 a5 := by
  intro d
  induction d with
  | zero => intro post a1 a2 a3 a4 a5 _ h; omega
  | succ d ih =>
    intro post a1 a2 a3 a4 a5 ho hm hp
    exact hs d post a1 a2 a3 a4 a5 ho hp (fun post' b1 b2 b3 b4 b5 ho' hm' hp' => ih post' b1 b2 b3 b4 b5 ho' (by omega) hp')
theorem rp6 {ρ A1 A2 A3 A4 A5 A6 : Type} (W : Nat → (ρ → Prop) → A1 → A2 → A3 → A4 → A5 → A6 → Prop) (ok : A1 → A2 → A3 → A4 → A5 → A6 → Prop) (μ : A1 → A2 → A3 → A4 → A5 → A6 → Nat) (val : A1 → A2 → A3 → A4 → A5 → A6 → ρ)
    (hs : ∀ (d : Nat) (post : ρ → Prop) (a1 : A1) (a2 : A2) (a3 : A3) (a4 : A4) (a5 : A5) (a6 : A6), ok a1 a2 a3 a4 a5 a6 → post (val a1 a2 a3 a4 a5 a6) → (∀ (post' : ρ → Prop) (b1 : A1) (b2 : A2) (b3 : A3) (b4 : A4) (b5 : A5) (b6 : A6), ok b1 b2 b3 b4 b5 b6 → μ b1 b2 b3 b4 b5 b6 < μ a1 a2 a3 a4 a5 a6 → post' (val b1 b2 b3 b4 b5 b6) → W d post' b1 b2 b3 b4 b5 b6) → W (d + 1) post a1 a2 a3 a4 a5 a6) :
    ∀ (d : Nat) (post : ρ → Prop) (a1 : A1) (a2 : A2) (a3 : A3) (a4 : A4) (a5 : A5) (a6 : A6), ok a1 a2 a3 a4 a5 a6 → μ a1 a2 a3 a4 a5 a6 < d → post (val a1 a2 a3 a4 a5 a6) → W d post a1 a2 a3 a4 a5 a6 := by
  intro d
  induction d with
  | zero => intro post a1 a2 a3 a4 a5 a6 _ h; omega
  | succ d ih =>
    intro post a1 a2 a3 a4 a5 a6 ho hm hp
    exact hs d post a1 a2 a3 a4 a5 a6 ho hp (fun post' b1 b2 b3 b4 b5 b6 ho' hm' hp' => ih post' b1 b2 b3 b4 b5 b6 ho' (by omega) hp')
theorem rec_p {σ ρ : Type} (W : Nat → (ρ → Prop) → σ → Prop) (ok : σ → Prop) (μ : σ → Nat) (val : σ → ρ)
    (hs : ∀ d s post, ok s → post (val s) → (∀ s' post', ok s' → μ s' < μ s → post' (val s') → W d post' s') → W (d + 1) post s) :
    ∀ d s post, ok s → μ s < d → post (val s) → W d post s := by
  intro d
  induction d with
  | zero => intro s post _ h; omega
  | succ d ih =>
    intro s post ho hm hp
    exact hs d s post ho hp (fun s' post' ho' hm' hp' => ih s' post' ho' (by omega) hp')
theorem rec_q {σ ρ : Type} (W : Nat → (ρ → Prop) → σ → Prop) (ok : σ → Prop) (μ : σ → Nat) (Q : σ → ρ → Prop)
    (hs : ∀ d s post, ok s → (∀ r, Q s r → post r) → (∀ s' post', ok s' → μ s' < μ s → (∀ r, Q s' r → post' r) → W d post' s') → W (d + 1) post s) :
    ∀ d s post, ok s → μ s < d → (∀ r, Q s r → post r) → W d post s := by
  intro d
  induction d with
  | zero => intro s post _ h; omega
  | succ d ih =>
    intro s post ho hm hp
    exact hs d s post ho hp (fun s' post' ho' hm' hp' => ih s' post' ho' (by omega) hp')
def bx_sum (f : Nat → Int32) : Nat → Int32
  | 0 => 0
  | n + 1 => bx_sum f n + f n
theorem ek_u {A : Prop} {B : Nat → Prop} {k N : Nat} (hk : k < N) (h : B k) : (some k = none → A) ∧ (∀ y : Nat, some k = some y → (y < N ∧ B y)) :=
  ⟨fun z => absurd z (Option.some_ne_none k), fun _ e => (by cases e; exact ⟨hk, h⟩)⟩
theorem ek_nu {A : Prop} {B : Nat → Prop} (h : A) : ((none : Option Nat) = none → A) ∧ (∀ y : Nat, (none : Option Nat) = some y → B y) :=
  ⟨fun _ => h, fun _ e => (by cases e)⟩
theorem ek_if {c d A B : Prop} (e : c ↔ d) (f : d → A) (g : ¬ d → B) : (c → A) ∧ (¬ c → B) :=
  ⟨fun z => f (e.mp z), fun z => g (fun y => z (e.mpr y))⟩
theorem ek_v {α : Sort _} {P : α → Prop} {a b : α} (e : a = b) (h : P b) : P a := e ▸ h
theorem co_some {x : Option Nat} {A : Prop} {B : Nat → Prop} (i : Nat) (h : B i) (hx : x = some i := by rfl) : (x = none → A) ∧ (∀ y : Nat, x = some y → B y) := by
  subst hx
  exact ⟨fun e => (nomatch e), fun y e => Option.some.inj e ▸ h⟩
theorem co_none {x : Option Nat} {A : Prop} {B : Nat → Prop} (h : A) (hx : x = none := by rfl) : (x = none → A) ∧ (∀ y : Nat, x = some y → B y) := by
  subst hx
  exact ⟨fun _ => h, fun y e => (nomatch e)⟩
theorem co_any {x : Option Nat} {A : Prop} {B : Nat → Prop} (hn : x = none → A) (hs : ∀ i : Nat, x = some i → B i) : (x = none → A) ∧ (∀ y : Nat, x = some y → B y) := ⟨hn, hs⟩
theorem co_2 {P : Nat → Prop} (h0 : P 0) (h1 : P 1) {i : Nat} (hi : i < 2) : P i :=
  match i, hi with
  | 0, _ => h0
  | 1, _ => h1
theorem co_3 {P : Nat → Prop} (h0 : P 0) (h1 : P 1) (h2 : P 2) {i : Nat} (hi : i < 3) : P i :=
  match i, hi with
  | 0, _ => h0
  | 1, _ => h1
  | 2, _ => h2
theorem co_4 {P : Nat → Prop} (h0 : P 0) (h1 : P 1) (h2 : P 2) (h3 : P 3) {i : Nat} (hi : i < 4) : P i :=
  match i, hi with
  | 0, _ => h0
  | 1, _ => h1
  | 2, _ => h2
  | 3, _ => h3
theorem co_dec {N : Nat} {P : Nat → Prop} [DecidablePred P] (h : (List.range N).all (fun i => decide (P i)) = true) {i : Nat} (hi : i < N) : P i := by
  have := List.all_eq_true.mp h i (List.mem_range.mpr hi)
  exact of_decide_eq_true this
theorem co_tab {α : Type} {l : List α} {d : α} {P : α → Prop} (h : ∀ a, a ∈ l → P a) {i : Nat} (hi : i < l.length) : P (l.getD i d) := by
  rw [List.getD_eq_getElem?_getD, List.getElem?_eq_getElem hi]
  exact h _ (List.getElem_mem hi)
theorem pk_mu {x : Int32} {L : Nat} (h0 : ¬ x < 0) (h : ¬ nI L ≤ x) (hL : L < 2 ^ 31) : ∃ j : Nat, j < L ∧ x = nI j ∧ x + 1 = nI (j + 1) ∧ x.toNatClampNeg = j ∧ L - (x + 1).toNatClampNeg < L - x.toNatClampNeg := by
  obtain ⟨j, hj, rfl⟩ := nI_of h0
  have hl : j < L := Nat.not_le.mp fun q => h (nI_le q hj)
  refine ⟨j, hl, rfl, nI_1 j, nI_clamp hj, ?_⟩
  rw [nI_1, nI_clamp (by omega), nI_clamp hj]
  omega
theorem op_s {α : Type} {r : Option α} {A : Prop} {B : α → Prop} {y : α} (h : r = some y) (b : B y) : (r = none → A) ∧ ∀ z, r = some z → B z :=
  ⟨fun e => (by rw [h] at e; cases e), fun z e => (by rw [h] at e; cases e; exact b)⟩
def l_holds {α : Type} (a : Nat → Option Nat) (LP : List Nat) (p : Nat → α) (c : Nat) (b : Nat → α) : Prop :=
  ∀ j, j < c → ∃ y, a j = some y ∧ y ∈ LP ∧ p y = b j
theorem l_holds_0 {α : Type} {a : Nat → Option Nat} {LP : List Nat} {p b : Nat → α} : l_holds a LP p 0 b := fun j h => absurd h (Nat.not_lt_zero j)
theorem l_in_new (LP : List Nat) (q : Nat) : q ∈ LP ++ [q] := List.mem_append.mpr (Or.inr (List.mem_singleton.mpr rfl))
def l_sum (b : Nat → Int32) : Nat → Int32
  | 0 => 0
  | k + 1 => l_sum b k + b k
theorem sb_shr0 (x : Int32) : x >>> ((0 : Int32) &&& 31) = x := by
  rw [show ((0 : Int32) &&& 31) = 0 by decide]
  simp
theorem sb_shl0 (x : Int32) : x <<< ((0 : Int32) &&& 31) = x := by
  rw [show ((0 : Int32) &&& 31) = 0 by decide]
  simp
theorem sb_cl0 : (0 : Int32).toNatClampNeg = 0 := by decide
theorem sb_m1 {p : Nat} (h : 0 < p) : nI p + (-1) = nI (p - 1) := by
  obtain ⟨q, rfl⟩ : ∃ q, p = q + 1 := ⟨p - 1, by omega⟩
  exact pk_m1 q
def sb_b (c : Nat) : Int32 := (nI c).toInt8.toInt32
theorem sb_byte : ∀ c, c < 256 → sb_b c &&& 255 = nI c ∧ ((nI c).toUInt32 % 65536).toInt32 = nI c ∧ nI c ≤ 255 := by decide +kernel
def sb_Fit (a : Nat → Int32) : Prop := ∀ j, fits .byte (.int (a j)) = true
def sb_Lat (t : Nat → Nat) (n : Nat) (a : Nat → Int32) : Prop := ∀ j, j < n → t j < 256 ∧ a j = sb_b (t j)
theorem sb_fitB (c : Nat) : fits .byte (.int (sb_b c)) = true := pk_fb _
theorem sb_fit0 : sb_Fit (fun _ => 0) := fun _ => by
  show fits .byte (.int 0) = true
  decide
theorem sb_fitU {a : Nat → Int32} {k : Nat} {x : Int32} (h : sb_Fit a) (hx : fits .byte (.int x) = true) : sb_Fit (upd a k x) := by
  intro j
  by_cases e : j = k
  · subst e
    rw [pk_us]
    exact hx
  · rw [pk_un e]
    exact h j
def sb_cat (t : Nat → Nat) (n : Nat) (s : Nat → Nat) : Nat → Nat := fun j => if j < n then t j else s (j - n)
theorem sb_cat_lo {t s : Nat → Nat} {n j : Nat} (h : j < n) : sb_cat t n s j = t j := if_pos h
theorem sb_cat_hi {t s : Nat → Nat} {n j : Nat} : sb_cat t n s (n + j) = s j := by
  show (if n + j < n then t (n + j) else s (n + j - n)) = s j
  rw [if_neg (by omega), Nat.add_sub_cancel_left]
theorem sb_latPut {t s : Nat → Nat} {n w : Nat} {a a' : Nat → Int32} (h : sb_Lat t n a) (hk : ∀ j, j < n → a' j = a j) (hs : ∀ i, i < w → s i < 256 ∧ a' (n + i) = sb_b (s i)) : sb_Lat (sb_cat t n s) (n + w) a' := by
  intro j hj
  by_cases e : j < n
  · rw [sb_cat_lo e, hk j e]
    exact h j e
  · obtain ⟨i, rfl⟩ : ∃ i, j = n + i := ⟨j - n, by omega⟩
    rw [sb_cat_hi]
    exact hs i (by omega)
theorem sb_latKeep {t : Nat → Nat} {n : Nat} {a a' : Nat → Int32} (h : sb_Lat t n a) (hk : ∀ j, j < n → a' j = a j) : sb_Lat t n a' := fun j hj => by
  rw [hk j hj]
  exact h j hj
def sb_cap (q m : Nat) : Nat := if q ≤ m then m else if 2 * m + 2 < q then q else 2 * m + 2
def sb_Room (q m mc ms : Nat) : Prop := q ≤ m ∨ (1 ≤ mc ∧ sb_cap q m ≤ ms ∧ sb_cap q m ≤ 65536)
theorem sb_cap_ge (q m : Nat) : q ≤ sb_cap q m := by
  unfold sb_cap
  split
  · omega
  · split <;> omega
theorem sb_cap_gem (q m : Nat) : m ≤ sb_cap q m := by
  unfold sb_cap
  split
  · omega
  · split <;> omega
theorem sb_cap_le {q m mc ms : Nat} (hm : m ≤ 65536) (hr : sb_Room q m mc ms) : sb_cap q m ≤ 65536 := by
  rcases hr with h | h
  · rw [sb_cap, if_pos h]
    exact hm
  · exact h.2.2
theorem sb_at {P : Int32 → Prop} {x y : Int32} (e : x = y) (h : P y) : P x := e ▸ h
def sb_dg (w : Nat) : Nat := if w < 10 then 1 else if w < 100 then 2 else if w < 1000 then 3 else if w < 10000 then 4 else if w < 100000 then 5 else if w < 1000000 then 6 else if w < 10000000 then 7 else if w < 100000000 then 8 else if w < 1000000000 then 9 else 10
def sb_dec (v : Nat) : Nat → Nat := fun i => 48 + v / 10 ^ (sb_dg v - 1 - i) % 10
theorem sb_dg_in (w : Nat) : 1 ≤ sb_dg w ∧ sb_dg w ≤ 10 := by
  unfold sb_dg
  constructor <;> (repeat' split) <;> omega
theorem sb_dg100 {w : Nat} (h : 100 ≤ w) (hw : w < 2 ^ 31) : sb_dg w = sb_dg (w / 100) + 2 := by
  rw [sb_dg, sb_dg, if_neg (show ¬ w < 10 by omega), if_neg (show ¬ w < 100 by omega)]
  by_cases h3 : w < 1000
  · rw [if_pos h3, if_pos (show w / 100 < 10 by omega)]
  rw [if_neg h3, if_neg (show ¬ w / 100 < 10 by omega)]
  by_cases h4 : w < 10000
  · rw [if_pos h4, if_pos (show w / 100 < 100 by omega)]
  rw [if_neg h4, if_neg (show ¬ w / 100 < 100 by omega)]
  by_cases h5 : w < 100000
  · rw [if_pos h5, if_pos (show w / 100 < 1000 by omega)]
  rw [if_neg h5, if_neg (show ¬ w / 100 < 1000 by omega)]
  by_cases h6 : w < 1000000
  · rw [if_pos h6, if_pos (show w / 100 < 10000 by omega)]
  rw [if_neg h6, if_neg (show ¬ w / 100 < 10000 by omega)]
  by_cases h7 : w < 10000000
  · rw [if_pos h7, if_pos (show w / 100 < 100000 by omega)]
  rw [if_neg h7, if_neg (show ¬ w / 100 < 100000 by omega)]
  by_cases h8 : w < 100000000
  · rw [if_pos h8, if_pos (show w / 100 < 1000000 by omega)]
  rw [if_neg h8, if_neg (show ¬ w / 100 < 1000000 by omega)]
  by_cases h9 : w < 1000000000
  · rw [if_pos h9, if_pos (show w / 100 < 10000000 by omega)]
  rw [if_neg h9, if_neg (show ¬ w / 100 < 10000000 by omega)]
  rw [if_pos (show w / 100 < 100000000 by omega)]
theorem sb_negT {w : Nat} (h : w < 2 ^ 31) : (-nI w).toInt = -(w : Int) := by
  rw [Int32.toInt_neg, nI_toInt h]
  exact Int.bmod_eq_of_le (by omega) (by omega)
theorem sb_nle {a b : Nat} (ha : a < 2 ^ 31) (hb : b < 2 ^ 31) : -nI a ≤ -nI b ↔ b ≤ a := by
  rw [Int32.le_iff_toInt_le, sb_negT ha, sb_negT hb]
  omega
theorem sb_nlt {a b : Nat} (ha : a < 2 ^ 31) (hb : b < 2 ^ 31) : -nI a < -nI b ↔ b < a := by
  rw [Int32.lt_iff_toInt_lt, sb_negT ha, sb_negT hb]
  omega
theorem sb_cmp {A B : Prop} {x : Int32} (v c : Nat) (f : c ≤ v → A) (g : v < c → B) (hv : v < 2 ^ 31) (hx : x = -nI c := by rfl) (hc : c < 2 ^ 31 := by omega) : (-nI v ≤ x → A) ∧ (¬ -nI v ≤ x → B) := by
  subst hx
  rw [sb_nle hv hc]
  exact ⟨f, fun z => g (by omega)⟩
theorem sb_ndiv {w : Nat} (hw : w < 2 ^ 31) : (-nI w) / 100 = -nI (w / 100) := by
  apply Int32.toInt_inj.mp
  have h100 : (100 : Int32).toInt = 100 := by decide
  rw [Int32.toInt_div, sb_negT hw, h100, sb_negT (by omega), Int.neg_tdiv, Int.tdiv_eq_ediv_of_nonneg (by omega), Int.bmod_eq_of_le (by omega) (by omega)]
  omega
theorem sb_nrem {w : Nat} (hw : w < 2 ^ 31) : (-nI (w / 100)) * 100 - (-nI w) = nI (w % 100) := by
  have h := pk_rem (a := w) (d := 100) hw (by decide) (by decide)
  rw [pk_div hw (by decide) (by decide)] at h
  rw [← h]
  show (-nI (w / 100)) * nI 100 - (-nI w) = nI w - nI (w / 100) * nI 100
  rw [Int32.neg_mul, Int32.sub_neg, Int32.add_comm, ← Int32.sub_eq_add_neg]
end
section
/-! counts of a property below a bound (rows b01, cn of a worked proof), and numbers -/
noncomputable def b01 (P : Prop) : Nat := @ite Nat P (Classical.propDecidable P) 1 0
theorem b01_t {P : Prop} (h : P) : b01 P = 1 := by unfold b01; rw [if_pos h]
theorem b01_f {P : Prop} (h : ¬ P) : b01 P = 0 := by unfold b01; rw [if_neg h]
theorem b01_le (P : Prop) : b01 P ≤ 1 := by
  rcases Classical.em P with h | h
  · rw [b01_t h]; omega
  · rw [b01_f h]; omega
theorem b01_mono {P Q : Prop} (h : P → Q) : b01 P ≤ b01 Q := by
  rcases Classical.em P with hp | hp
  · rw [b01_t hp, b01_t (h hp)]; omega
  · rw [b01_f hp]; omega
noncomputable def cn (P : Nat → Prop) : Nat → Nat
  | 0 => 0
  | k + 1 => cn P k + b01 (P k)
theorem cn_mono {P Q : Nat → Prop} : ∀ {N : Nat}, (∀ k, k < N → P k → Q k) → cn P N ≤ cn Q N
  | 0, _ => Nat.le_refl _
  | N + 1, h => by
    have a := cn_mono (P := P) (Q := Q) (N := N) (fun k hk => h k (by omega))
    have b := b01_mono (h N (by omega))
    simp only [cn]; omega
theorem cn_le (P : Nat → Prop) : ∀ N, cn P N ≤ N
  | 0 => Nat.le_refl _
  | N + 1 => by have := cn_le P N; have := b01_le (P N); simp only [cn]; omega
theorem cn_eq {P Q : Nat → Prop} {N : Nat} (h : ∀ k, k < N → (P k ↔ Q k)) : cn P N = cn Q N :=
  Nat.le_antisymm (cn_mono fun k hk => (h k hk).mp) (cn_mono fun k hk => (h k hk).mpr)
theorem cn_add {P : Nat → Prop} {a : Nat} (hp : ¬ P a) : ∀ {N : Nat}, a < N → cn (fun k => P k ∨ k = a) N = cn P N + 1
  | 0, h => by omega
  | N + 1, h => by
    simp only [cn]
    rcases Nat.lt_or_ge a N with z | z
    · rw [cn_add hp z]
      have : b01 (P N ∨ N = a) = b01 (P N) := Nat.le_antisymm (b01_mono fun q => q.elim id (fun e => by omega)) (b01_mono Or.inl)
      omega
    · have e : a = N := by omega
      subst e
      rw [cn_eq (P := fun k => P k ∨ k = a) (Q := P) (fun k hk => ⟨fun q => q.elim id (fun e => by omega), Or.inl⟩), b01_t (Or.inr rfl), b01_f hp]
theorem cn_none {P : Nat → Prop} : ∀ {N : Nat}, (∀ k, k < N → ¬ P k) → cn P N = 0
  | 0, _ => rfl
  | N + 1, h => by
    have := cn_none (P := P) (N := N) (fun k hk => h k (by omega))
    simp only [cn, this, b01_f (h N (by omega))]
theorem cn_all {P : Nat → Prop} : ∀ {N : Nat}, (∀ k, k < N → P k) → cn P N = N
  | 0, _ => rfl
  | N + 1, h => by
    have := cn_all (P := P) (N := N) (fun k hk => h k (by omega))
    simp only [cn, this, b01_t (h N (by omega))]
theorem cn_full {P : Nat → Prop} : ∀ {N : Nat}, cn P N = N → ∀ k, k < N → P k
  | 0, _, k, hk => by omega
  | N + 1, h, k, hk => by
    have a := cn_le P N
    have b := b01_le (P N)
    simp only [cn] at h
    rcases Classical.em (P N) with z | z
    · rw [b01_t z] at h
      rcases Nat.lt_or_ge k N with y | y
      · exact cn_full (P := P) (N := N) (by omega) k y
      · have e : k = N := by omega
        rw [e]; exact z
    · rw [b01_f z] at h; omega
theorem cn_zero {P : Nat → Prop} {N : Nat} (h : cn P N = 0) : ∀ k, k < N → ¬ P k := by
  intro k hk hp
  have : 1 ≤ cn P N := by
    induction N with
    | zero => omega
    | succ N ih =>
      simp only [cn] at h ⊢
      rcases Nat.lt_or_ge k N with y | y
      · have := ih (by omega) y; omega
      · have e : k = N := by omega
        subst e
        rw [b01_t hp]; omega
  omega
/-- the members of a list without repeats, counted -/
theorem cn_len : ∀ {l : List Nat} {N : Nat}, l.Nodup → (∀ u, u ∈ l → u < N) → cn (fun u => u ∈ l) N = l.length
  | [], N, _, _ => cn_none (fun k _ h => absurd h List.not_mem_nil)
  | a :: l, N, hd, hl => by
    have h1 : a ∉ l := (List.nodup_cons.mp hd).1
    have h2 : l.Nodup := (List.nodup_cons.mp hd).2
    have e : cn (fun u => u ∈ a :: l) N = cn (fun u => u ∈ l ∨ u = a) N := cn_eq (fun k _ => by
      rw [List.mem_cons]; exact ⟨fun q => q.symm, fun q => q.symm⟩)
    rw [e, cn_add h1 (hl a List.mem_cons_self), cn_len h2 (fun u hu => hl u (List.mem_cons_of_mem _ hu)), List.length_cons]
theorem cn_bij {P : Nat → Prop} (f : Nat → Nat) {M : Nat} : ∀ {N : Nat} {Q : Nat → Prop}, (∀ i, i < N → P i → f i < M ∧ Q (f i)) →
    (∀ i j, i < N → j < N → P i → P j → f i = f j → i = j) → (∀ j, j < M → Q j → ∃ i, i < N ∧ P i ∧ f i = j) → cn P N = cn Q M
  | 0, Q, _, _, h3 => by
    rw [cn_none (P := Q) (fun k hk hq => by obtain ⟨i, hi, _⟩ := h3 k hk hq; omega)]
    rfl
  | N + 1, Q, h1, h2, h3 => by
    rcases Classical.em (P N) with z | z
    · have ih := cn_bij (P := P) f (M := M) (N := N) (Q := fun j => Q j ∧ j ≠ f N)
        (fun i hi hp => ⟨(h1 i (by omega) hp).1, (h1 i (by omega) hp).2, fun e => by
          have := h2 i N (by omega) (by omega) hp z e; omega⟩)
        (fun i j hi hj => h2 i j (by omega) (by omega))
        (fun j hj hq => by
          obtain ⟨i, hi, hp, e⟩ := h3 j hj hq.1
          rcases Nat.lt_or_ge i N with y | y
          · exact ⟨i, y, hp, e⟩
          · have : i = N := by omega
            subst this
            exact absurd e.symm hq.2)
      have e : cn Q M = cn (fun j => (Q j ∧ j ≠ f N) ∨ j = f N) M := cn_eq (fun k _ => by
        constructor
        · intro q
          rcases Nat.decEq k (f N) with y | y
          · exact Or.inl ⟨q, y⟩
          · exact Or.inr y
        · intro q
          rcases q with q | q
          · exact q.1
          · rw [q]; exact (h1 N (by omega) z).2)
      rw [e, cn_add (P := fun j => Q j ∧ j ≠ f N) (fun q => q.2 rfl) (h1 N (by omega) z).1, ← ih]
      simp only [cn, b01_t z]
    · have ih := cn_bij (P := P) f (M := M) (N := N) (Q := Q) (fun i hi => h1 i (by omega)) (fun i j hi hj => h2 i j (by omega) (by omega))
        (fun j hj hq => by
          obtain ⟨i, hi, hp, e⟩ := h3 j hj hq
          rcases Nat.lt_or_ge i N with y | y
          · exact ⟨i, y, hp, e⟩
          · have : i = N := by omega
            subst this
            exact absurd hp z)
      simp only [cn, b01_f z, ih]; rfl
/-- the int of a truth -/
noncomputable def il_i (P : Prop) : Int32 := @ite Int32 P (Classical.propDecidable P) 1 0
theorem il_it {P : Prop} (h : P) : il_i P = 1 := by unfold il_i; rw [if_pos h]
theorem il_if {P : Prop} (h : ¬ P) : il_i P = 0 := by unfold il_i; rw [if_neg h]
theorem il_i0 {P : Prop} : il_i P = 0 ↔ ¬ P := by
  rcases Classical.em P with h | h
  · rw [il_it h]; exact ⟨fun e => absurd e (by decide), fun e => absurd h e⟩
  · rw [il_if h]; exact ⟨fun _ => h, fun _ => rfl⟩
theorem il_ie {P Q : Prop} (h : P ↔ Q) : il_i P = il_i Q := by
  rcases Classical.em P with z | z
  · rw [il_it z, il_it (h.mp z)]
  · rw [il_if z, il_if (fun q => z (h.mpr q))]
/-- a number less one: none is -1 -/
def il_p (n : Nat) : Int32 := nI n - 1
theorem il_p0 : il_p 0 = -1 := by decide
theorem il_ps (n : Nat) : il_p (n + 1) = nI n := nI_pred n
theorem il_p1 (n : Nat) : il_p n + 1 = nI n := by
  unfold il_p; rw [Int32.sub_add_cancel]
theorem il_nn {q : Nat} (h : q < 2 ^ 31) : ¬ nI q = -1 ∧ ¬ nI q = -2 ∧ ¬ nI q < 0 := by
  have z := nI_pos h
  exact ⟨fun e => z (by rw [e]; decide), fun e => z (by rw [e]; decide), z⟩
theorem il_p_m1 {n : Nat} (h : n < 2 ^ 31) : il_p n = -1 ↔ n = 0 := by
  cases n with
  | zero => exact ⟨fun _ => rfl, fun _ => il_p0⟩
  | succ n => rw [il_ps]; exact ⟨fun e => absurd e (il_nn (by omega)).1, fun e => by omega⟩
theorem il_p_m2 {n : Nat} (h : n < 2 ^ 31) : ¬ il_p n = -2 := by
  cases n with
  | zero => rw [il_p0]; decide
  | succ n => rw [il_ps]; exact (il_nn (by omega)).2.1
theorem il_p_lt {n : Nat} (h : n < 2 ^ 31) : il_p n < 0 ↔ n = 0 := by
  cases n with
  | zero => exact ⟨fun _ => rfl, fun _ => by rw [il_p0]; decide⟩
  | succ n => rw [il_ps]; exact ⟨fun e => absurd e (il_nn (by omega)).2.2, fun e => by omega⟩
theorem il_p_eq {n t : Nat} (h : n < 2 ^ 31) (ht : t < 2 ^ 31) : il_p n = nI t ↔ n = t + 1 := by
  cases n with
  | zero => rw [il_p0]; exact ⟨fun e => absurd e.symm (il_nn ht).1, fun e => by omega⟩
  | succ n => rw [il_ps, nI_eq (by omega) ht]; omega
theorem il_inj {a b : Nat} (h : nI a = nI b) (ha : a < 2 ^ 31 := by omega) (hb : b < 2 ^ 31 := by omega) : a = b := (nI_eq ha hb).mp h
/-- the object words -/
def il_h (g d w e : Nat) : Nat := g + 4 * d + 32 * w + 512 * e
theorem il_h_lt {g d w e : Nat} (hg : g < 4) (hd : d < 8) (hw : w < 16) (he : e < 4) : il_h g d w e < 2048 := by unfold il_h; omega
theorem il_tag {n : Nat} (h : n < 2 ^ 31) : nI n &&& 3 = nI (n % 4) := pk_andN (by omega) 2 (by decide)
theorem il_pay {n : Nat} (h : n < 2 ^ 31) : nI n >>> ((2 : Int32) &&& 31) = nI (n / 4) := pk_shrN h _ 2 (by decide)
theorem il_dpt {n : Nat} (h : n < 2 ^ 31) : (nI n >>> ((2 : Int32) &&& 31)) &&& 7 = nI (n / 4 % 8) := by
  rw [il_pay h]; exact pk_andN (by omega) 3 (by decide)
theorem il_thr {n : Nat} (h : n < 2 ^ 31) : ((nI n >>> ((5 : Int32) &&& 31)) &&& 15) - 1 = il_p (n / 32 % 16) := by
  rw [show nI n >>> ((5 : Int32) &&& 31) = nI (n / 32) from pk_shrN h _ 5 (by decide), show nI (n / 32) &&& 15 = nI (n / 32 % 16) from pk_andN (by omega) 4 (by decide)]
  rfl
theorem il_epo {n : Nat} (h : n < 2 ^ 31) : nI n >>> ((9 : Int32) &&& 31) = nI (n / 512) := pk_shrN h _ 9 (by decide)
theorem il_or_all : ∀ e, e < 4 → ∀ w, w < 16 → ∀ d, d < 8 → ∀ g, g < 4 → ((((nI e <<< ((9 : Int32) &&& 31)) ||| (nI w <<< ((5 : Int32) &&& 31))) ||| (nI d <<< ((2 : Int32) &&& 31))) ||| nI g) = nI (g + 4 * d + 32 * w + 512 * e) := by decide +kernel
theorem il_pack {g d w e : Nat} (hg : g < 4) (hd : d < 8) (hw : w < 16) (he : e < 4) : ((((nI e <<< ((9 : Int32) &&& 31)) ||| (nI w <<< ((5 : Int32) &&& 31))) ||| (nI d <<< ((2 : Int32) &&& 31))) ||| nI g) = nI (il_h g d w e) := il_or_all e he w hw d hd g hg
theorem il_508_all : ∀ e, e < 4 → ∀ w, w < 16 → ∀ d, d < 8 → (nI (1 + 4 * d + 32 * w + 512 * e) &&& 508) ||| 2 = nI (2 + 4 * d + 32 * w + 512 * 0) := by decide +kernel
theorem il_508 {d w e : Nat} (hd : d < 8) (hw : w < 16) (he : e < 4) : (nI (il_h 1 d w e) &&& 508) ||| 2 = nI (il_h 2 d w 0) := il_508_all e he w hw d hd
theorem il_511_all : ∀ e, e < 4 → ∀ w, w < 16 → ∀ d, d < 8 → ∀ f, f < 4 → (nI (1 + 4 * d + 32 * w + 512 * e) &&& 511) ||| (nI f <<< ((9 : Int32) &&& 31)) = nI (1 + 4 * d + 32 * w + 512 * f) := by decide +kernel
theorem il_511 {d w e f : Nat} (hd : d < 8) (hw : w < 16) (he : e < 4) (hf : f < 4) : (nI (il_h 1 d w e) &&& 511) ||| (nI f <<< ((9 : Int32) &&& 31)) = nI (il_h 1 d w f) := il_511_all e he w hw d hd f hf
theorem il_or0 (x : Int32) : x ||| 0 = x := Int32.or_zero
theorem il_pkh {n : Nat} (h : n ≤ 1024) : (nI n <<< ((2 : Int32) &&& 31)) ||| 0 = nI (4 * n) := by
  rw [il_or0, pk_shlN _ 2 (by decide) (by omega)]
  exact congrArg nI (by omega)
theorem il_pkm_all : ∀ m, m < 8 → (nI m <<< ((2 : Int32) &&& 31)) ||| 3 = nI (4 * m + 3) := by decide +kernel
theorem il_hash {n : Nat} (h : n < 2 ^ 20) : ∃ q, q ≤ 1023 ∧ ((5 * nI n) + 3) &&& 1023 = nI q := by
  have e : (5 * nI n) + 3 = nI (5 * n + 3) := by
    rw [show (5 : Int32) = nI 5 from rfl, pk_mul, show (3 : Int32) = nI 3 from rfl, nI_add]
  exact ⟨(5 * n + 3) % 2 ^ 10, by have := Nat.mod_lt (5 * n + 3) (show 0 < 2 ^ 10 by decide); omega, by rw [e]; exact pk_andN (by omega) 10 (by decide)⟩
/-- stores -/
theorem il_us (f : Nat → Int32) (k : Nat) : upd f k (f k) = f := by
  funext j; unfold upd; split
  · next h => rw [h]
  · rfl
theorem il_ue {f : Nat → Int32} {k : Nat} {x : Int32} (h : f k = x) : upd f k x = f := by rw [← h]; exact il_us f k
theorem il_uu (f : Nat → Int32) (k : Nat) (x y : Int32) : upd (upd f k x) k y = upd f k y := by
  funext j; unfold upd; split <;> rfl
def il_mx (i : Nat) (F f : Nat → Int32) : Nat → Int32 := fun j => if j < i then F j else f j
theorem il_mx0 (F f : Nat → Int32) : il_mx 0 F f = f := by
  funext j; exact if_neg (by omega)
theorem il_mxl {i j : Nat} {F f : Nat → Int32} (h : j < i) : il_mx i F f j = F j := if_pos h
theorem il_mxg {i j : Nat} {F f : Nat → Int32} (h : i ≤ j) : il_mx i F f j = f j := if_neg (by omega)
theorem il_mxs {i : Nat} {F f : Nat → Int32} {x : Int32} (hx : x = F i) : upd (il_mx i F f) i x = il_mx (i + 1) F f := by
  funext j
  rcases Nat.lt_trichotomy j i with h | h | h
  · rw [pk_un (by omega), il_mxl h, il_mxl (by omega)]
  · subst h; rw [pk_us, il_mxl (by omega), hx]
  · rw [pk_un (by omega), il_mxg (by omega), il_mxg (by omega)]
theorem il_mxk {i : Nat} {F f : Nat → Int32} (h : F i = f i) : il_mx (i + 1) F f = il_mx i F f := by
  funext j
  rcases Nat.lt_trichotomy j i with z | z | z
  · rw [il_mxl z, il_mxl (by omega)]
  · subst z; rw [il_mxl (by omega), il_mxg (by omega), h]
  · rw [il_mxg (by omega), il_mxg (by omega)]
end
section
/-! circular lists held in two arrays -/
def il_seg (nx pv : Nat → Int32) (b : Nat) : Nat → List Nat → Prop
  | a, [] => nx a = nI b ∧ pv b = nI a
  | a, x :: xs => nx a = nI x ∧ pv x = nI a ∧ il_seg nx pv b x xs
theorem il_seg_fr {nx pv nx' pv' : Nat → Int32} {b : Nat} : ∀ {l : List Nat} {a : Nat}, (∀ x, x = a ∨ x ∈ l → nx' x = nx x) → (∀ x, x ∈ l ∨ x = b → pv' x = pv x) → il_seg nx pv b a l → il_seg nx' pv' b a l
  | [], a, h1, h2, h => ⟨(h1 a (Or.inl rfl)).trans h.1, (h2 b (Or.inr rfl)).trans h.2⟩
  | x :: xs, a, h1, h2, h => by
    refine ⟨(h1 a (Or.inl rfl)).trans h.1, (h2 x (Or.inl List.mem_cons_self)).trans h.2.1, ?_⟩
    refine il_seg_fr (fun y hy => h1 y (Or.inr ?_)) (fun y hy => h2 y ?_) h.2.2
    · rcases hy with e | e
      · rw [e]; exact List.mem_cons_self
      · exact List.mem_cons_of_mem _ e
    · rcases hy with e | e
      · exact Or.inl (List.mem_cons_of_mem _ e)
      · exact Or.inr e
/-- what stands last -/
theorem il_seg_last {nx pv : Nat → Int32} {b : Nat} : ∀ {l : List Nat} {a : Nat}, il_seg nx pv b a l → ∃ p, pv b = nI p ∧ ((l = [] ∧ p = a) ∨ p ∈ l)
  | [], a, h => ⟨a, h.2, Or.inl ⟨rfl, rfl⟩⟩
  | x :: xs, a, h => by
    obtain ⟨p, hp, q⟩ := il_seg_last h.2.2
    refine ⟨p, hp, Or.inr ?_⟩
    rcases q with ⟨_, e⟩ | e
    · rw [e]; exact List.mem_cons_self
    · exact List.mem_cons_of_mem _ e
/-- empty or not, seen from its head -/
theorem il_seg_emp {nx pv : Nat → Int32} {h : Nat} {l : List Nat} (s : il_seg nx pv h h l) (hl : ∀ x, x ∈ l → x < 8) (hh : 8 ≤ h) (hh2 : h < 24) : nx h = nI h ↔ l = [] := by
  cases l with
  | nil => exact ⟨fun _ => rfl, fun _ => s.1⟩
  | cons x xs =>
    have hx := hl x List.mem_cons_self
    exact ⟨fun e => by have := il_inj (s.1.symm.trans e); omega, fun e => nomatch e⟩
theorem il_seg_snoc {nx pv nx' pv' : Nat → Int32} {b t p : Nat} (hp8 : p < 2 ^ 31) (hpb : pv b = nI p)
    (n1 : ∀ j, j ≠ p → j ≠ t → nx' j = nx j) (n2 : nx' p = nI t) (n3 : nx' t = nI b)
    (p1 : ∀ j, j ≠ b → j ≠ t → pv' j = pv j) (p2 : pv' t = nI p) (p3 : pv' b = nI t) :
    ∀ {l : List Nat} {a : Nat}, a < 2 ^ 31 → (∀ x, x ∈ l → x < 2 ^ 31) → a ∉ l → l.Nodup → b ∉ l → t ∉ l → a ≠ t → il_seg nx pv b a l → il_seg nx' pv' b a (l ++ [t])
  | [], a, ha, _, _, _, _, _, hat, h => by
    have e : p = a := il_inj (hpb.symm.trans h.2) hp8 ha
    subst e
    exact ⟨n2, p2, n3, p3⟩
  | x :: xs, a, ha, hx, hal, hnd, hb, ht, hat, h => by
    have hxx : x ∉ xs := (List.nodup_cons.mp hnd).1
    have ih := il_seg_snoc hp8 hpb n1 n2 n3 p1 p2 p3 (l := xs) (a := x) (hx x List.mem_cons_self) (fun y hy => hx y (List.mem_cons_of_mem _ hy)) hxx (List.nodup_cons.mp hnd).2
      (fun z => hb (List.mem_cons_of_mem _ z)) (fun z => ht (List.mem_cons_of_mem _ z)) (fun e => ht (by rw [e]; exact List.mem_cons_self)) h.2.2
    refine ⟨?_, ?_, ih⟩
    · obtain ⟨q, hq, w⟩ := il_seg_last h.2.2
      have hqx : q ∈ x :: xs := by
        rcases w with ⟨_, e⟩ | e
        · rw [e]; exact List.mem_cons_self
        · exact List.mem_cons_of_mem _ e
      have e : p = q := il_inj (hpb.symm.trans hq) hp8 (hx q hqx)
      rw [n1 a (fun e2 => hal (by rw [e2, e]; exact hqx)) hat]
      exact h.1
    · rw [p1 x (fun e => hb (by rw [← e]; exact List.mem_cons_self)) (fun e => ht (by rw [← e]; exact List.mem_cons_self))]
      exact h.2.1
theorem il_seg_cut {nx pv nx' pv' : Nat → Int32} {b t p q : Nat} {l2 : List Nat} (hp8 : p < 2 ^ 31) (hq8 : q < 2 ^ 31) (hb8 : b < 2 ^ 31) (hpt : pv t = nI p) (hnt : nx t = nI q)
    (n1 : ∀ j, j ≠ p → nx' j = nx j) (n2 : nx' p = nI q) (p1 : ∀ j, j ≠ q → pv' j = pv j) (p2 : pv' q = nI p) :
    ∀ {l1 : List Nat} {a : Nat}, a < 2 ^ 31 → (∀ x, x ∈ l1 ++ t :: l2 → x < 2 ^ 31) → a ∉ l1 ++ t :: l2 → (l1 ++ t :: l2).Nodup → b ∉ l1 ++ t :: l2 → il_seg nx pv b a (l1 ++ t :: l2) → il_seg nx' pv' b a (l1 ++ l2)
  | [], a, ha, hx, hal, hnd, hb, h => by
    rw [List.nil_append] at hx hal hnd hb h ⊢
    have e : p = a := il_inj (hpt.symm.trans h.2.1) hp8 ha
    subst e
    cases l2 with
    | nil =>
      have e2 : q = b := il_inj (hnt.symm.trans h.2.2.1) hq8 hb8
      subst e2
      exact ⟨n2, p2⟩
    | cons y ys =>
      have hy8 : y < 2 ^ 31 := hx y (List.mem_cons_of_mem _ List.mem_cons_self)
      have e2 : q = y := il_inj (hnt.symm.trans h.2.2.1) hq8 hy8
      subst e2
      have nd2 := (List.nodup_cons.mp hnd).2
      refine ⟨n2, p2, il_seg_fr (fun z hz => n1 z (fun e => hal ?_)) (fun z hz => p1 z (fun e => ?_)) h.2.2.2.2⟩
      · rw [← e]
        rcases hz with w | w
        · rw [w]; exact List.mem_cons_of_mem _ List.mem_cons_self
        · exact List.mem_cons_of_mem _ (List.mem_cons_of_mem _ w)
      · rcases hz with w | w
        · exact (List.nodup_cons.mp nd2).1 (by rw [← e]; exact w)
        · exact hb (by rw [← w, e]; exact List.mem_cons_of_mem _ List.mem_cons_self)
  | x :: xs, a, ha, hx, hal, hnd, hb, h => by
    rw [List.cons_append] at hx hal hnd hb h ⊢
    have hxx : x ∉ xs ++ t :: l2 := (List.nodup_cons.mp hnd).1
    have nd2 := (List.nodup_cons.mp hnd).2
    have ih := il_seg_cut hp8 hq8 hb8 hpt hnt n1 n2 p1 p2 (l1 := xs) (a := x) (hx x List.mem_cons_self) (fun y hy => hx y (List.mem_cons_of_mem _ hy)) hxx nd2 (fun z => hb (List.mem_cons_of_mem _ z)) h.2.2
    refine ⟨?_, ?_, ih⟩
    · rw [n1 a (fun e => ?_)]
      · exact h.1
      · have w : p ∈ x :: (xs ++ t :: l2) := by
          have : ∀ (l : List Nat) (c : Nat), c < 2 ^ 31 → (∀ y, y ∈ l → y < 2 ^ 31) → il_seg nx pv b c (l ++ t :: l2) → p = c ∨ p ∈ l := by
            intro l
            induction l with
            | nil => intro c hc _ s; exact Or.inl (il_inj (hpt.symm.trans s.2.1) hp8 hc)
            | cons y ys ihl =>
              intro c _ hy s
              rcases ihl y (hy y List.mem_cons_self) (fun z hz => hy z (List.mem_cons_of_mem _ hz)) s.2.2 with e3 | e3
              · rw [e3]; exact Or.inr List.mem_cons_self
              · exact Or.inr (List.mem_cons_of_mem _ e3)
          rcases this xs x (hx x List.mem_cons_self) (fun y hy => hx y (List.mem_cons_of_mem _ (List.mem_append_left _ hy))) h.2.2 with e3 | e3
          · rw [e3]; exact List.mem_cons_self
          · exact List.mem_cons_of_mem _ (List.mem_append_left _ e3)
        exact hal (by rw [e]; exact w)
    · rw [p1 x (fun e => ?_)]
      · exact h.2.1
      · have w : q = b ∨ q ∈ l2 := by
          have : ∀ (l : List Nat) (c : Nat), il_seg nx pv b c (l ++ t :: l2) → il_seg nx pv b t l2 := by
            intro l
            induction l with
            | nil => intro c s; exact s.2.2
            | cons y ys ihl => intro c s; exact ihl y s.2.2
          have s2 := this xs x h.2.2
          cases l2 with
          | nil => exact Or.inl (il_inj (hnt.symm.trans s2.1) hq8 hb8)
          | cons y ys =>
            have hy8 : y < 2 ^ 31 := hx y (List.mem_cons_of_mem _ (List.mem_append_right _ (List.mem_cons_of_mem _ List.mem_cons_self)))
            exact Or.inr (by rw [il_inj (hnt.symm.trans s2.1) hq8 hy8]; exact List.mem_cons_self)
        rcases w with w | w
        · exact hb (by rw [← w, ← e]; exact List.mem_cons_self)
        · exact hxx (List.mem_append_right _ (List.mem_cons_of_mem _ (by rw [e]; exact w)))
/-- a member's own links -/
theorem il_seg_mid {nx pv : Nat → Int32} {b : Nat} : ∀ {l1 : List Nat} {a t : Nat} {l2 : List Nat}, il_seg nx pv b a (l1 ++ t :: l2) → ∃ p q, pv t = nI p ∧ nx t = nI q ∧ (p = a ∨ p ∈ l1) ∧ (q = b ∨ q ∈ l2)
  | [], a, t, l2, h => by
    rw [List.nil_append] at h
    cases l2 with
    | nil => exact ⟨a, b, h.2.1, h.2.2.1, Or.inl rfl, Or.inl rfl⟩
    | cons y ys => exact ⟨a, y, h.2.1, h.2.2.1, Or.inl rfl, Or.inr List.mem_cons_self⟩
  | x :: xs, a, t, l2, h => by
    obtain ⟨p, q, h1, h2, h3, h4⟩ := il_seg_mid (l1 := xs) h.2.2
    refine ⟨p, q, h1, h2, Or.inr ?_, h4⟩
    rcases h3 with e | e
    · rw [e]; exact List.mem_cons_self
    · exact List.mem_cons_of_mem _ e
/-- backwards from a member: the last of what stands ahead, then its own -/
theorem il_seg_back {nx pv : Nat → Int32} {b a t : Nat} {l1 l2 : List Nat} {y : Nat} (h : il_seg nx pv b a ((l1 ++ [y]) ++ t :: l2)) : pv t = nI y := by
  induction l1 generalizing a with
  | nil => exact h.2.2.2.1
  | cons x xs ih => exact ih h.2.2
theorem il_seg_head {nx pv : Nat → Int32} {b a t : Nat} {l2 : List Nat} (h : il_seg nx pv b a (t :: l2)) : pv t = nI a := h.2.1
/-- sorted by a key, without repeats -/
def il_srt (ar : Nat → Int64) (l : List Nat) : Prop := l.Pairwise (fun x y => ar x < ar y)
theorem il_srt_nd {ar : Nat → Int64} {l : List Nat} (h : il_srt ar l) : l.Nodup := by
  unfold il_srt at h
  refine List.Pairwise.imp (fun {x y} hxy e => ?_) h
  rw [e] at hxy
  exact Int64.lt_irrefl hxy
theorem il_srt_mid {ar : Nat → Int64} {l1 l2 : List Nat} {t : Nat} (h : il_srt ar (l1 ++ t :: l2)) (u : Nat) (hu : u ∈ l1 ++ t :: l2) : ar u < ar t ↔ u ∈ l1 := by
  have h' := List.pairwise_append.mp h
  constructor
  · intro z
    rcases List.mem_append.mp hu with w | w
    · exact w
    · rcases List.mem_cons.mp w with e | e
      · rw [e] at z; exact absurd z Int64.lt_irrefl
      · have := (List.pairwise_cons.mp h'.2.1).1 u e
        exact absurd (Int64.lt_trans z this) Int64.lt_irrefl
  · intro w
    exact h'.2.2 u w t List.mem_cons_self
end
section
/-! the relation's parts -/
/-- one object: its word h against owner, depth, home, hash -/
def il_S (tc mc : Nat) (mo mw md mh : Nat → Int32) (E h : Int32) (o : Nat) (qo qd qh qs : Int32) : Prop :=
  ∃ w d n : Nat, (w ≤ tc ∧ d ≤ 9 ∧ n ≤ 1024 ∧ (w = 0 ↔ d = 0) ∧ qo = il_p w ∧ qd = nI d ∧ qs = il_p n) ∧
   ((d = 0 ∧ qh = -2 ∧ h = nI (4 * n)) ∨
    (n = 0 ∧ d ≤ 4 ∧ ∃ v e e0 : Nat, v ≤ tc ∧ e0 ≤ e ∧ e ≤ 3 ∧ E = nI e ∧ h = nI (il_h 1 d v e0) ∧ (d ≠ 0 → v = w ∧ e0 = e) ∧ (e0 = e → qh = il_p v) ∧ (e0 ≠ e → qh = -1)) ∨
    (n = 0 ∧ 1 ≤ d ∧ d ≤ 4 ∧ qh = -2 ∧ h = nI (il_h 2 d w 0)) ∨
    (∃ m, m < mc ∧ qh = -2 ∧ h = nI (4 * m + 3) ∧ mo m = nI o ∧ mw m = qo ∧ md m = qd ∧ mh m = qs))
def il_fat (mc : Nat) (h : Int32) : Prop := ∃ m, m < mc ∧ h = nI (4 * m + 3)
/-- objects, kinds, monitors -/
def il_B (tc oc mc lim : Nat) (hd kx sx ep mo mw md mh ow dp ho hs ky sy ba : Nat → Int32) : Prop :=
  (∀ o, o < oc → il_S tc mc mo mw md mh (ep (kx o).toNatClampNeg) (hd o) o (ow o) (dp o) (ho o) (hs o)) ∧
  (∀ o, o < oc → ∃ c, c < 3 ∧ kx o = nI c ∧ ky o = nI c) ∧
  (∀ c, c < 3 → ∃ s e, s ≤ 2 * lim ∧ e ≤ 3 ∧ sy c = nI s ∧ ep c = nI e ∧ ((ba c = 0 ∧ sx c = nI s) ∨ (ba c = 1 ∧ sx c = -2 ∧ ∀ o, o < oc → kx o = nI c → ho o = -2))) ∧
  (∀ m, m < mc → mo m = -1 ∨ ∃ o, o < oc ∧ mo m = nI o ∧ hd o = nI (4 * m + 3))
def il_q (s : Int32) : Prop := s = 2 ∨ s = 3 ∨ s = 4 ∨ s = 5
def il_cl (z : Nat) (s : Int32) : Prop := (z = 8 ∧ (s = 2 ∨ s = 4 ∨ s = 5)) ∨ (z = 16 ∧ s = 3)
def il_T (oc : Nat) (s p a : Int32) : Prop := (s = 0 ∧ p = -1) ∨ ((∃ o, o < oc ∧ p = nI o) ∧ (s = 1 ∨ (il_q s ∧ ∃ d, 1 ≤ d ∧ d ≤ 9 ∧ a = nI d)))
/-- the lines, list by list -/
def il_LL (tc mc : Nat) (mo nx pv st pl : Nat → Int32) (ar : Nat → Int64) (L : Nat → List Nat) : Prop :=
  ∀ z m, (z = 8 ∨ z = 16) → m < mc → il_seg nx pv (z + m) (z + m) (L (z + m)) ∧ il_srt ar (L (z + m)) ∧ ∀ t, t ∈ L (z + m) ↔ t < tc ∧ pl t = mo m ∧ il_cl z (st t)
def il_L (tc mc ck : Nat) (mo nx pv st pl : Nat → Int32) (ar : Nat → Int64) : Prop :=
  (∀ t, t < tc → ∃ a, a ≤ ck ∧ ar t = lN a) ∧ (∀ t, t < tc → il_q (st t) → ∃ m, m < mc ∧ mo m = pl t) ∧ ∃ L, il_LL tc mc mo nx pv st pl ar L
/-- threads and lines -/
def il_H (tc oc mc ck : Nat) (mo nx pv st pl am : Nat → Int32) (ar : Nat → Int64) : Prop :=
  (∀ t, t < tc → il_T oc (st t) (pl t) (am t)) ∧ il_L tc mc ck mo nx pv st pl ar
def il_D (tc oc mc lim nh : Nat) : Prop := 2 ≤ tc ∧ tc ≤ 8 ∧ 2 ≤ oc ∧ oc ≤ 16 ∧ 1 ≤ mc ∧ mc ≤ 8 ∧ 1 ≤ lim ∧ lim ≤ 4 ∧ nh ≤ 1023
def il_R (tc oc mc lim nh ck : Nat) (hd kx sx ep mo mw md mh nx pv st pl am : Nat → Int32) (ar : Nat → Int64) (ow dp ho hs ky sy ba : Nat → Int32) : Prop :=
  il_D tc oc mc lim nh ∧ (il_B tc oc mc lim hd kx sx ep mo mw md mh ow dp ho hs ky sy ba) ∧ (il_H tc oc mc ck mo nx pv st pl am ar)
/-- the state of the kinds' strain behind a closing -/
def il_cs (lim : Nat) (ho kx sx : Nat → Int32) (o : Nat) : Nat → Int32 :=
  if ho o < 0 then sx else if 2 * nI lim ≤ sx (kx o).toNatClampNeg then sx else upd sx (kx o).toNatClampNeg (sx (kx o).toNatClampNeg + 1)
/-! words -/
theorem il_hw {g d w e : Nat} (hg : g < 4) (h1 : d < 8) (hw : w < 16) (he : e < 4) :
    nI (il_h g d w e) &&& 3 = nI g ∧ (nI (il_h g d w e) >>> ((2 : Int32) &&& 31)) &&& 7 = nI d ∧ ((nI (il_h g d w e) >>> ((5 : Int32) &&& 31)) &&& 15) - 1 = il_p w ∧ nI (il_h g d w e) >>> ((9 : Int32) &&& 31) = nI e := by
  have hl := il_h_lt hg h1 hw he
  refine ⟨?_, ?_, ?_, ?_⟩
  · rw [il_tag (by omega)]; exact congrArg nI (by unfold il_h; omega)
  · rw [il_dpt (by omega)]; exact congrArg nI (by unfold il_h; omega)
  · rw [il_thr (by omega)]; exact congrArg il_p (by unfold il_h; omega)
  · rw [il_epo (by omega)]; exact congrArg nI (by unfold il_h; omega)
theorem il_fw {m : Nat} (hm : m < 8) : nI (4 * m + 3) &&& 3 = 3 ∧ nI (4 * m + 3) >>> ((2 : Int32) &&& 31) = nI m := by
  constructor
  · rw [il_tag (by omega)]; exact congrArg nI (show (4 * m + 3) % 4 = 3 by omega)
  · rw [il_pay (by omega)]; exact congrArg nI (by omega)
theorem il_nw {n : Nat} (hn : n ≤ 1024) : nI (4 * n) &&& 3 = 0 ∧ nI (4 * n) >>> ((2 : Int32) &&& 31) = nI n := by
  constructor
  · rw [il_tag (by omega)]; exact congrArg nI (show (4 * n) % 4 = 0 by omega)
  · rw [il_pay (by omega)]; exact congrArg nI (by omega)
/-! one object -/
section
variable {tc mc o : Nat} {mo mw md mh mo' mw' md' mh' : Nat → Int32} {E h qo qd qh qs : Int32}
theorem il_S_tr (hm : ∀ m, m < mc → mo m = nI o → h = nI (4 * m + 3) → mo' m = nI o ∧ mw' m = mw m ∧ md' m = md m ∧ mh' m = mh m) (S : il_S tc mc mo mw md mh E h o qo qd qh qs) : il_S tc mc mo' mw' md' mh' E h o qo qd qh qs := by
  obtain ⟨w, d, n, F, C⟩ := S
  refine ⟨w, d, n, F, ?_⟩
  rcases C with C | C | C | ⟨m, h1, h2, h3, h4, h5, h6, h7⟩
  · exact Or.inl C
  · exact Or.inr (Or.inl C)
  · exact Or.inr (Or.inr (Or.inl C))
  · obtain ⟨a, b, c, e⟩ := hm m h1 h4 h3
    exact Or.inr (Or.inr (Or.inr ⟨m, h1, h2, h3, a, b.trans h5, c.trans h6, e.trans h7⟩))
theorem il_S_nf (nf : ¬ il_fat mc h) (S : il_S tc mc mo mw md mh E h o qo qd qh qs) : il_S tc mc mo' mw' md' mh' E h o qo qd qh qs :=
  il_S_tr (fun m h1 _ h3 => absurd ⟨m, h1, h3⟩ nf) S
theorem il_S_tag (htc : tc ≤ 8) (hmc : mc ≤ 8) (S : il_S tc mc mo mw md mh E h o qo qd qh qs) : (il_fat mc h ∧ h &&& 3 = 3) ∨ (¬ il_fat mc h ∧ ¬ h &&& 3 = 3) := by
  have key : ¬ h &&& 3 = 3 → (il_fat mc h ∧ h &&& 3 = 3) ∨ (¬ il_fat mc h ∧ ¬ h &&& 3 = 3) := fun z => Or.inr ⟨fun ⟨m, h1, h2⟩ => z (by rw [h2]; exact (il_fw (by omega)).1), z⟩
  obtain ⟨w, d, n, ⟨h1, h2, h3, h4, h5, h6, h7⟩, C⟩ := S
  rcases C with ⟨a, b, c⟩ | ⟨a, b, v, e, e0, c1, c2, c3, c4, c5, c6⟩ | ⟨a, b, b2, c, c5⟩ | ⟨m, h1, h2, h3, _⟩
  · exact key (by rw [c, (il_nw h3).1]; decide)
  · exact key (by rw [c5, (il_hw (by omega) (by omega) (by omega) (by omega)).1]; decide)
  · exact key (by rw [c5, (il_hw (by omega) (by omega) (by omega) (by omega)).1]; decide)
  · exact Or.inl ⟨⟨m, h1, h3⟩, by rw [h3]; exact (il_fw (by omega)).1⟩
theorem il_S_fat (htc : tc ≤ 8) (hmc : mc ≤ 8) (S : il_S tc mc mo mw md mh E h o qo qd qh qs) {m : Nat} (hm : m < mc) (e : h = nI (4 * m + 3)) : mo m = nI o ∧ mw m = qo ∧ md m = qd ∧ mh m = qs ∧ qh = -2 := by
  have t3 : h &&& 3 = 3 := by rw [e]; exact (il_fw (by omega)).1
  obtain ⟨w, d, n, ⟨h1, h2, h3, h4, h5, h6, h7⟩, C⟩ := S
  rcases C with ⟨a, b, c⟩ | ⟨a, b, v, e, e0, c1, c2, c3, c4, c5, c6⟩ | ⟨a, b, b2, c, c5⟩ | ⟨m', h1, h2, h3, h4, h5, h6, h7⟩
  · rw [c, (il_nw h3).1] at t3; exact absurd t3 (by decide)
  · rw [c5, (il_hw (by omega) (by omega) (by omega) (by omega)).1] at t3; exact absurd t3 (by decide)
  · rw [c5, (il_hw (by omega) (by omega) (by omega) (by omega)).1] at t3; exact absurd t3 (by decide)
  · have : m' = m := by have := il_inj (h3.symm.trans e); omega
    subst this
    exact ⟨h4, h5, h6, h7, h2⟩
/-- without a monitor: depth at most 4, and not both owner and hash -/
theorem il_S_light (nf : ¬ il_fat mc h) (S : il_S tc mc mo mw md mh E h o qo qd qh qs) : qd ≤ 4 ∧ (qo = -1 ∨ qs = -1) := by
  obtain ⟨w, d, n, ⟨h1, h2, h3, h4, h5, h6, h7⟩, C⟩ := S
  rcases C with ⟨a, b, c⟩ | ⟨a, b, v, e, e0, c1, c2, c3, c4, c5, c6⟩ | ⟨a, b, b2, c, c5⟩ | ⟨m, h1, h2, h3, _⟩
  · rw [h6, a, h5, h4.mpr a]; exact ⟨by decide, Or.inl il_p0⟩
  · rw [h6, h7, a]; exact ⟨nI_le (b := 4) b (by decide), Or.inr il_p0⟩
  · rw [h6, h7, a]; exact ⟨nI_le (b := 4) b2 (by decide), Or.inr il_p0⟩
  · exact absurd ⟨m, h1, h3⟩ nf
theorem il_S_own (S : il_S tc mc mo mw md mh E h o qo qd qh qs) (htc : tc ≤ 8) : (qo = -1 ∧ qd = 0) ∨ (¬ qo = -1 ∧ ∃ d, 1 ≤ d ∧ d ≤ 9 ∧ qd = nI d) := by
  obtain ⟨w, d, n, ⟨h1, h2, h3, h4, h5, h6, h7⟩, C⟩ := S
  cases w with
  | zero => exact Or.inl ⟨by rw [h5, il_p0], by rw [h6, h4.mp rfl]; rfl⟩
  | succ w =>
    refine Or.inr ⟨?_, d, ?_, h2, h6⟩
    · rw [h5, il_p_m1 (by omega)]; omega
    · cases d with
      | zero => have := h4.mpr rfl; omega
      | succ d => omega
/-- a closed or hashed object has no bias -/
theorem il_S_hash (S : il_S tc mc mo mw md mh E h o qo qd qh qs) (ne : ¬ qs = -1) : qh = -2 := by
  obtain ⟨w, d, n, ⟨h1, h2, h3, h4, h5, h6, h7⟩, C⟩ := S
  rcases C with ⟨a, b, c⟩ | ⟨a, b, v, e, e0, c1, c2, c3, c4, c5, c6⟩ | ⟨a, b, b2, c, c5⟩ | ⟨m, h1, h2, h3, _⟩
  · exact b
  · rw [h7, a] at ne; exact absurd il_p0 ne
  · exact c
  · exact h2
/-- a home is closed, free or a thread -/
theorem il_S_home (htc : tc ≤ 8) (S : il_S tc mc mo mw md mh E h o qo qd qh qs) : qh = -2 ∨ qh = -1 ∨ ∃ t, t < tc ∧ qh = nI t := by
  obtain ⟨w, d, n, ⟨h1, h2, h3, h4, h5, h6, h7⟩, C⟩ := S
  rcases C with ⟨a, b, c⟩ | ⟨a, b, v, e, e0, c1, c2, c3, c4, c5, c6, c7, c8⟩ | ⟨a, b, b2, c, c5⟩ | ⟨m, h1, h2, h3, _⟩
  · exact Or.inl b
  · rcases Nat.decEq e0 e with z | z
    · exact Or.inr (Or.inl (c8 z))
    · have := c7 z
      cases v with
      | zero => exact Or.inr (Or.inl (by rw [this, il_p0]))
      | succ v => exact Or.inr (Or.inr ⟨v, by omega, by rw [this, il_ps]⟩)
  · exact Or.inl c
  · exact Or.inl h2
/-- an owned object's home is closed or its owner -/
theorem il_S_oh (htc : tc ≤ 8) (S : il_S tc mc mo mw md mh E h o qo qd qh qs) (ne : ¬ qo = -1) : qh = -2 ∨ qh = qo := by
  obtain ⟨w, d, n, ⟨h1, h2, h3, h4, h5, h6, h7⟩, C⟩ := S
  rcases C with ⟨a, b, c⟩ | ⟨a, b, v, e, e0, c1, c2, c3, c4, c5, c6, c7, c8⟩ | ⟨a, b, b2, c, c5⟩ | ⟨m, h1, h2, h3, _⟩
  · exact Or.inl b
  · have hz : d ≠ 0 := fun z => by rw [h5, h4.mpr z] at ne; exact ne il_p0
    obtain ⟨y1, y2⟩ := c6 hz
    exact Or.inr (by rw [c7 y2, h5, y1])
  · exact Or.inl c
  · exact Or.inl h2
theorem il_S_ow (S : il_S tc mc mo mw md mh E h o qo qd qh qs) : qo = -1 ∨ ∃ t, t < tc ∧ qo = nI t := by
  obtain ⟨w, d, n, ⟨h1, h2, h3, h4, h5, h6, h7⟩, C⟩ := S
  cases w with
  | zero => exact Or.inl (by rw [h5, il_p0])
  | succ w => exact Or.inr ⟨w, by omega, by rw [h5, il_ps]⟩
end
end
section
/-! X: the readers -/
section
variable {g0 g1 g2 g3 : Int32} {tc oc mc lim nh : Nat} {hd kx sx ep mo mw md mh nx pv st pl am : Nat → Int32}
variable {o : Nat} {MO : Nat → Int32} {E qo qd qh qs : Int32} {post : Int32 → Prop}
theorem il_xTag (o16 : o < 16) (K : post (hd o &&& 3)) : wpX_tagOf post (g0, g1, g2, g3, nI tc, nI oc, nI mc, nI lim, nI nh, hd, kx, sx, ep, mo, mw, md, mh, nx, pv, st, pl, am) (nI o) := by
  unfold wpX_tagOf
  exact And.intro (vp_in_nI o16 (by decide)) (by rw [nI_clamp (by omega)]; exact K)
theorem il_xPay (o16 : o < 16) (K : post (hd o >>> ((2 : Int32) &&& 31))) : wpX_payload post (g0, g1, g2, g3, nI tc, nI oc, nI mc, nI lim, nI nh, hd, kx, sx, ep, mo, mw, md, mh, nx, pv, st, pl, am) (nI o) := by
  unfold wpX_payload
  exact And.intro (vp_in_nI o16 (by decide)) (by rw [nI_clamp (by omega)]; exact K)
theorem il_xThr (o16 : o < 16) (K : post (((hd o >>> ((5 : Int32) &&& 31)) &&& 15) - 1)) : wpX_threadIn post (g0, g1, g2, g3, nI tc, nI oc, nI mc, nI lim, nI nh, hd, kx, sx, ep, mo, mw, md, mh, nx, pv, st, pl, am) (nI o) := by
  unfold wpX_threadIn
  exact And.intro (vp_in_nI o16 (by decide)) (by rw [nI_clamp (by omega)]; exact K)
theorem il_xDepth (o16 : o < 16) (htc : tc ≤ 8) (hmc : mc ≤ 8) (S : il_S tc mc MO mw md mh E (hd o) o qo qd qh qs) (K : post qd) : wpX_depthOf post (g0, g1, g2, g3, nI tc, nI oc, nI mc, nI lim, nI nh, hd, kx, sx, ep, mo, mw, md, mh, nx, pv, st, pl, am) (nI o) := by
  obtain ⟨w, d, n, ⟨h1, h2, h3, h4, h5, h6, h7⟩, C⟩ := S
  unfold wpX_depthOf
  refine il_xTag o16 ?_
  rcases C with ⟨a, b, c⟩ | ⟨a, b, v, e, e0, c1, c2, c3, c4, c5, c6, c7, c8⟩ | ⟨a, b, b2, c, c5⟩ | ⟨m, y1, y2, y3, y4, y5, y6, y7⟩
  · have t0 : hd o &&& 3 = 0 := by rw [c, (il_nw h3).1]
    refine br_f (by rw [t0]; decide) (il_xTag o16 (br_t t0 ?_))
    rw [h6, a] at K; exact K
  · obtain ⟨w1, w2, w3, w4⟩ := il_hw (g := 1) (d := d) (w := v) (e := e0) (by omega) (by omega) (by omega) (by omega)
    rw [← c5] at w1 w2 w3 w4
    refine br_f (by rw [w1]; decide) (il_xTag o16 (br_f (by rw [w1]; decide) ?_))
    exact And.intro (vp_in_nI o16 (by decide)) (by rw [nI_clamp (by omega), w2, ← h6]; exact K)
  · obtain ⟨w1, w2, w3, w4⟩ := il_hw (g := 2) (d := d) (w := w) (e := 0) (by omega) (by omega) (by omega) (by omega)
    rw [← c5] at w1 w2 w3 w4
    refine br_f (by rw [w1]; decide) (il_xTag o16 (br_f (by rw [w1]; decide) ?_))
    exact And.intro (vp_in_nI o16 (by decide)) (by rw [nI_clamp (by omega), w2, ← h6]; exact K)
  · obtain ⟨w1, w2⟩ := il_fw (m := m) (by omega)
    rw [← y3] at w1 w2
    refine br_t w1 (il_xPay o16 ?_)
    rw [w2]
    exact And.intro (vp_in_nI (by omega) (by decide)) (by rw [nI_clamp (by omega), y6]; exact K)
theorem il_xOwner (o16 : o < 16) (htc : tc ≤ 8) (hmc : mc ≤ 8) (S : il_S tc mc MO mw md mh E (hd o) o qo qd qh qs) (K : post qo) : wpX_ownerOf post (g0, g1, g2, g3, nI tc, nI oc, nI mc, nI lim, nI nh, hd, kx, sx, ep, mo, mw, md, mh, nx, pv, st, pl, am) (nI o) := by
  have S0 := S
  obtain ⟨w, d, n, ⟨h1, h2, h3, h4, h5, h6, h7⟩, C⟩ := S
  unfold wpX_ownerOf
  refine il_xTag o16 ?_
  rcases C with ⟨a, b, c⟩ | ⟨a, b, v, e, e0, c1, c2, c3, c4, c5, c6, c7, c8⟩ | ⟨a, b, b2, c, c5⟩ | ⟨m, y1, y2, y3, y4, y5, y6, y7⟩
  · have t0 : hd o &&& 3 = 0 := by rw [c, (il_nw h3).1]
    refine br_f (by rw [t0]; decide) (il_xDepth o16 htc hmc S0 (br_t (by rw [h6, a]; rfl) ?_))
    rw [h5, h4.mpr a, il_p0] at K; exact K
  · obtain ⟨w1, w2, w3, w4⟩ := il_hw (g := 1) (d := d) (w := v) (e := e0) (by omega) (by omega) (by omega) (by omega)
    rw [← c5] at w1 w2 w3 w4
    refine br_f (by rw [w1]; decide) (il_xDepth o16 htc hmc S0 ?_)
    rcases Nat.decEq d 0 with z | z
    · refine br_f (by rw [h6]; exact nI_ne0 (by omega) (by omega)) (il_xThr o16 ?_)
      rw [w3, (c6 z).1, ← h5]; exact K
    · refine br_t (by rw [h6, z]; rfl) ?_
      rw [h5, h4.mpr z, il_p0] at K; exact K
  · obtain ⟨w1, w2, w3, w4⟩ := il_hw (g := 2) (d := d) (w := w) (e := 0) (by omega) (by omega) (by omega) (by omega)
    rw [← c5] at w1 w2 w3 w4
    refine br_f (by rw [w1]; decide) (il_xDepth o16 htc hmc S0 ?_)
    refine br_f (by rw [h6]; exact nI_ne0 (by omega) (by omega)) (il_xThr o16 ?_)
    rw [w3, ← h5]; exact K
  · obtain ⟨w1, w2⟩ := il_fw (m := m) (by omega)
    rw [← y3] at w1 w2
    refine br_t w1 (il_xPay o16 ?_)
    rw [w2]
    exact And.intro (vp_in_nI (by omega) (by decide)) (by rw [nI_clamp (by omega), y5]; exact K)
theorem il_xHash (o16 : o < 16) (htc : tc ≤ 8) (hmc : mc ≤ 8) (S : il_S tc mc MO mw md mh E (hd o) o qo qd qh qs) (K : post qs) : wpX_hashOf post (g0, g1, g2, g3, nI tc, nI oc, nI mc, nI lim, nI nh, hd, kx, sx, ep, mo, mw, md, mh, nx, pv, st, pl, am) (nI o) := by
  obtain ⟨w, d, n, ⟨h1, h2, h3, h4, h5, h6, h7⟩, C⟩ := S
  unfold wpX_hashOf
  refine il_xTag o16 ?_
  rcases C with ⟨a, b, c⟩ | ⟨a, b, v, e, e0, c1, c2, c3, c4, c5, c6, c7, c8⟩ | ⟨a, b, b2, c, c5⟩ | ⟨m, y1, y2, y3, y4, y5, y6, y7⟩
  · obtain ⟨w1, w2⟩ := il_nw h3
    rw [← c] at w1 w2
    refine br_f (by rw [w1]; decide) (il_xTag o16 (br_t w1 (il_xPay o16 ?_)))
    rw [w2]; rw [h7] at K; exact K
  · obtain ⟨w1, w2, w3, w4⟩ := il_hw (g := 1) (d := d) (w := v) (e := e0) (by omega) (by omega) (by omega) (by omega)
    rw [← c5] at w1 w2 w3 w4
    refine br_f (by rw [w1]; decide) (il_xTag o16 (br_f (by rw [w1]; decide) ?_))
    rw [h7, a, il_p0] at K; exact K
  · obtain ⟨w1, w2, w3, w4⟩ := il_hw (g := 2) (d := d) (w := w) (e := 0) (by omega) (by omega) (by omega) (by omega)
    rw [← c5] at w1 w2 w3 w4
    refine br_f (by rw [w1]; decide) (il_xTag o16 (br_f (by rw [w1]; decide) ?_))
    rw [h7, a, il_p0] at K; exact K
  · obtain ⟨w1, w2⟩ := il_fw (m := m) (by omega)
    rw [← y3] at w1 w2
    refine br_t w1 (il_xPay o16 ?_)
    rw [w2]
    exact And.intro (vp_in_nI (by omega) (by decide)) (by rw [nI_clamp (by omega), y7]; exact K)
theorem il_xHome (o16 : o < 16) (htc : tc ≤ 8) (hmc : mc ≤ 8) {c : Nat} (hc : c < 3) (ek : kx o = nI c) (S : il_S tc mc MO mw md mh (ep (kx o).toNatClampNeg) (hd o) o qo qd qh qs) (K : post qh) : wpX_homeOf post (g0, g1, g2, g3, nI tc, nI oc, nI mc, nI lim, nI nh, hd, kx, sx, ep, mo, mw, md, mh, nx, pv, st, pl, am) (nI o) := by
  obtain ⟨w, d, n, ⟨h1, h2, h3, h4, h5, h6, h7⟩, C⟩ := S
  unfold wpX_homeOf
  refine il_xTag o16 ?_
  rcases C with ⟨a, b, c⟩ | ⟨a, b, v, e, e0, c1, c2, c3, c4, c5, c6, c7, c8⟩ | ⟨a, b, b2, c, c5⟩ | ⟨m, y1, y2, y3, y4, y5, y6, y7⟩
  · obtain ⟨w1, w2⟩ := il_nw h3
    rw [← c] at w1 w2
    refine br_f (by rw [w1]; decide) ?_
    rw [b] at K; exact K
  · obtain ⟨w1, w2, w3, w4⟩ := il_hw (g := 1) (d := d) (w := v) (e := e0) (by omega) (by omega) (by omega) (by omega)
    rw [← c5] at w1 w2 w3 w4
    refine br_t w1 ?_
    have i16 : vp_in (nI o) 16 := vp_in_nI o16 (by decide)
    rw [nI_clamp (by omega)]
    refine And.intro i16 (And.intro i16 (And.intro (by rw [ek]; exact vp_in_nI hc (by decide)) ?_))
    rw [w4, c4]
    rcases Nat.decEq e0 e with z | z
    · refine br_f (fun q => z (il_inj q)) ?_
      rw [c8 z] at K; exact K
    · refine br_t (by rw [z]) (il_xThr o16 ?_)
      rw [w3, ← c7 z]; exact K
  · obtain ⟨w1, w2, w3, w4⟩ := il_hw (g := 2) (d := d) (w := w) (e := 0) (by omega) (by omega) (by omega) (by omega)
    rw [← c5] at w1 w2 w3 w4
    refine br_f (by rw [w1]; decide) ?_
    rw [c] at K; exact K
  · obtain ⟨w1, w2⟩ := il_fw (m := m) (by omega)
    rw [← y3] at w1 w2
    refine br_f (by rw [w1]; decide) ?_
    rw [y2] at K; exact K
end
end
section
/-! objects, kinds, monitors: what changes keep the relation -/
section
variable {tc oc mc lim : Nat} {hd kx sx ep mo mw md mh ow dp ho hs ky sy ba : Nat → Int32}
variable {hd' mo' mw' md' mh' ow' dp' ho' hs' : Nat → Int32} {o : Nat}
theorem il_B_obj (B : (il_B tc oc mc lim hd kx sx ep mo mw md mh ow dp ho hs ky sy ba)) (fh : ∀ j, j ≠ o → hd' j = hd j) (fo : ∀ j, j ≠ o → ow' j = ow j) (fd : ∀ j, j ≠ o → dp' j = dp j) (fp : ∀ j, j ≠ o → ho' j = ho j) (fs : ∀ j, j ≠ o → hs' j = hs j)
    (fm : ∀ j, j < oc → j ≠ o → ∀ m, m < mc → mo m = nI j → hd j = nI (4 * m + 3) → mo' m = nI j ∧ mw' m = mw m ∧ md' m = md m ∧ mh' m = mh m)
    (new : il_S tc mc mo' mw' md' mh' (ep (kx o).toNatClampNeg) (hd' o) o (ow' o) (dp' o) (ho' o) (hs' o))
    (hM : ∀ m, m < mc → mo' m = -1 ∨ ∃ j, j < oc ∧ mo' m = nI j ∧ hd' j = nI (4 * m + 3))
    (hb : ho o = -2 → ho' o = -2) : (il_B tc oc mc lim hd' kx sx ep mo' mw' md' mh' ow' dp' ho' hs' ky sy ba) := by
  refine ⟨fun j hj => ?_, B.2.1, fun c hc => ?_, hM⟩
  · rcases Nat.decEq j o with z | z
    · rw [fh j z, fo j z, fd j z, fp j z, fs j z]
      exact il_S_tr (fun m h1 h2 h3 => fm j hj z m h1 h2 h3) (B.1 j hj)
    · rw [z]; exact new
  · obtain ⟨s, e, h1, h2, h3, h4, h5⟩ := B.2.2.1 c hc
    refine ⟨s, e, h1, h2, h3, h4, ?_⟩
    rcases h5 with h5 | ⟨h5, h6, h7⟩
    · exact Or.inl h5
    · refine Or.inr ⟨h5, h6, fun j hj ej => ?_⟩
      rcases Nat.decEq j o with z | z
      · rw [fp j z]; exact h7 j hj ej
      · rw [z]; exact hb (by rw [← z]; exact h7 j hj ej)
theorem il_B_keep (B : (il_B tc oc mc lim hd kx sx ep mo mw md mh ow dp ho hs ky sy ba)) (fh : ∀ j, j ≠ o → hd' j = hd j) (fo : ∀ j, j ≠ o → ow' j = ow j) (fd : ∀ j, j ≠ o → dp' j = dp j) (fp : ∀ j, j ≠ o → ho' j = ho j) (fs : ∀ j, j ≠ o → hs' j = hs j)
    (fm : ∀ m, m < mc → ¬ mo m = nI o → mw' m = mw m ∧ md' m = md m ∧ mh' m = mh m) (oi : o < 2 ^ 31) (ob : oc < 2 ^ 31)
    (new : il_S tc mc mo mw' md' mh' (ep (kx o).toNatClampNeg) (hd' o) o (ow' o) (dp' o) (ho' o) (hs' o))
    (hf : ∀ m, m < mc → hd o = nI (4 * m + 3) → hd' o = nI (4 * m + 3))
    (hb : ho o = -2 → ho' o = -2) : (il_B tc oc mc lim hd' kx sx ep mo mw' md' mh' ow' dp' ho' hs' ky sy ba) := by
  refine il_B_obj B fh fo fd fp fs (fun j hj z m h1 h2 h3 => ⟨h2, fm m h1 (fun q => z ?_)⟩) new (fun m h1 => ?_) hb
  · exact il_inj (h2.symm.trans q)
  · rcases B.2.2.2 m h1 with h | ⟨j, hj, e1, e2⟩
    · exact Or.inl h
    · refine Or.inr ⟨j, hj, e1, ?_⟩
      rcases Nat.decEq j o with z | z
      · rw [fh j z]; exact e2
      · rw [z]; exact hf m h1 (by rw [← z]; exact e2)
theorem il_m2 : (-2 : Int32) < 0 := by decide
theorem il_B_cs (hl : lim ≤ 4) (B : (il_B tc oc mc lim hd kx sx ep mo mw md mh ow dp ho hs ky sy ba)) (h : o < oc) : (il_B tc oc mc lim hd kx (il_cs lim ho kx sx o) ep mo mw md mh ow dp ho hs ky (il_cs lim ho ky sy o) ba) := by
  refine ⟨B.1, B.2.1, fun c hc => ?_, B.2.2.2⟩
  obtain ⟨k, hk, e1, e2⟩ := B.2.1 o h
  unfold il_cs
  rw [e1, e2, nI_clamp (by omega)]
  by_cases z : ho o < 0
  · rw [if_pos z, if_pos z]; exact B.2.2.1 c hc
  · rw [if_neg z, if_neg z]
    obtain ⟨s, e, h1, h2, h3, h4, h5⟩ := B.2.2.1 k hk
    rcases h5 with ⟨h5, h6⟩ | ⟨h5, h6, h7⟩
    · rw [h3, h6]
      by_cases y : 2 * nI lim ≤ nI s
      · rw [if_pos y, if_pos y]; exact B.2.2.1 c hc
      · rw [if_neg y, if_neg y]
        have y2 : s < 2 * lim := by
          rw [show (2 : Int32) = nI 2 from rfl, pk_mul, nI_leI (by omega) (by omega)] at y; omega
        rcases Nat.decEq c k with q | q
        · rw [pk_un q, pk_un q]; exact B.2.2.1 c hc
        · subst q
          rw [pk_us, pk_us]
          exact ⟨s + 1, e, by omega, h2, nI_1 s, h4, Or.inl ⟨h5, nI_1 s⟩⟩
    · exact absurd (by rw [h7 o h e1]; exact il_m2) z
/-- what a revoked word is -/
def il_rv (h : Int32) : Int32 := if h &&& 3 = 1 then (if (h >>> ((2 : Int32) &&& 31)) &&& 7 = 0 then 0 else (h &&& 508) ||| 2) else h
theorem il_S_rv {E h qo qd qh qs : Int32} (htc : tc ≤ 8) (hmc : mc ≤ 8) (S : il_S tc mc mo mw md mh E h o qo qd qh qs) : il_S tc mc mo mw md mh E (il_rv h) o qo qd (-2) qs ∧ (∀ m, m < mc → h = nI (4 * m + 3) → il_rv h = h) := by
  obtain ⟨w, d, n, ⟨h1, h2, h3, h4, h5, h6, h7⟩, C⟩ := S
  have F : w ≤ tc ∧ d ≤ 9 ∧ n ≤ 1024 ∧ (w = 0 ↔ d = 0) ∧ qo = il_p w ∧ qd = nI d ∧ qs = il_p n := ⟨h1, h2, h3, h4, h5, h6, h7⟩
  unfold il_rv
  constructor
  · refine ⟨w, d, n, F, ?_⟩
    rcases C with ⟨a, b, c⟩ | ⟨a, b, v, e, e0, c1, c2, c3, c4, c5, c6, c7, c8⟩ | ⟨a, b, b2, c, c5⟩ | ⟨m, y1, y2, y3, y4⟩
    · have t0 : h &&& 3 = 0 := by rw [c, (il_nw h3).1]
      rw [if_neg (by rw [t0]; decide)]
      exact Or.inl ⟨a, rfl, c⟩
    · obtain ⟨w1, w2, w3, w4⟩ := il_hw (g := 1) (d := d) (w := v) (e := e0) (by omega) (by omega) (by omega) (by omega)
      rw [← c5] at w1 w2 w3 w4
      rw [if_pos (show h &&& 3 = 1 from w1), w2]
      rcases Nat.decEq d 0 with z | z
      · rw [if_neg (nI_ne0 (by omega) (by omega)), c5, il_508 (by omega) (by omega) (by omega), (c6 z).1]
        exact Or.inr (Or.inr (Or.inl ⟨a, by omega, b, rfl, rfl⟩))
      · rw [z, if_pos (show nI 0 = 0 from rfl), a]
        exact Or.inl ⟨rfl, rfl, rfl⟩
    · obtain ⟨w1, w2, w3, w4⟩ := il_hw (g := 2) (d := d) (w := w) (e := 0) (by omega) (by omega) (by omega) (by omega)
      rw [← c5] at w1 w2 w3 w4
      rw [if_neg (by rw [w1]; decide)]
      exact Or.inr (Or.inr (Or.inl ⟨a, b, b2, rfl, c5⟩))
    · have w1 := (il_fw (m := m) (by omega)).1
      rw [← y3] at w1
      rw [if_neg (by rw [w1]; decide)]
      exact Or.inr (Or.inr (Or.inr ⟨m, y1, rfl, y3, y4⟩))
  · intro m hm e
    have w1 := (il_fw (m := m) (by omega)).1
    rw [← e] at w1
    rw [if_neg (by rw [w1]; decide)]
/-- closing o -/
theorem il_B_close (htc : tc ≤ 8) (hmc : mc ≤ 8) (hoc : oc ≤ 16) (hl : lim ≤ 4) (B : (il_B tc oc mc lim hd kx sx ep mo mw md mh ow dp ho hs ky sy ba)) (h : o < oc) : (il_B tc oc mc lim (upd hd o (il_rv (hd o))) kx (il_cs lim ho kx sx o) ep mo mw md mh ow dp (upd ho o (-2)) hs ky (il_cs lim ho ky sy o) ba) := by
  obtain ⟨r1, r2⟩ := il_S_rv htc hmc (B.1 o h)
  refine il_B_keep (o := o) (il_B_cs hl B h) (fun j z => pk_un z) (fun _ _ => rfl) (fun _ _ => rfl) (fun j z => pk_un z) (fun _ _ => rfl) (fun _ _ _ => ⟨rfl, rfl, rfl⟩) (by omega) (by omega) ?_ (fun m h1 h2 => ?_) (fun _ => pk_us)
  · rw [pk_us, pk_us]; exact r1
  · rw [pk_us, r2 m h1 h2]; exact h2
/-- what an idle monitor writes back -/
def il_df (W D G : Int32) : Int32 := if W = -1 then ((G + 1) <<< ((2 : Int32) &&& 31)) ||| 0 else ((((0 : Int32) <<< ((9 : Int32) &&& 31)) ||| ((W + 1) <<< ((5 : Int32) &&& 31))) ||| (D <<< ((2 : Int32) &&& 31))) ||| 2
theorem il_S_df {E h qo qd qh qs : Int32} (htc : tc ≤ 8) (hmc : mc ≤ 8) (S : il_S tc mc mo mw md mh E h o qo qd qh qs) (h4 : qd ≤ 4) (hl : qo = -1 ∨ qs = -1) : il_S tc mc mo' mw' md' mh' E (il_df qo qd qs) o qo qd (-2) qs ∧ ¬ il_fat mc (il_df qo qd qs) := by
  obtain ⟨w, d, n, ⟨h1, h2, h3, hz, h5, h6, h7⟩, C⟩ := S
  have F : w ≤ tc ∧ d ≤ 9 ∧ n ≤ 1024 ∧ (w = 0 ↔ d = 0) ∧ qo = il_p w ∧ qd = nI d ∧ qs = il_p n := ⟨h1, h2, h3, hz, h5, h6, h7⟩
  clear C
  have d4 : d ≤ 4 := by
    rw [h6, show (4 : Int32) = nI 4 from rfl, nI_leI (by omega) (by omega)] at h4; exact h4
  unfold il_df
  cases w with
  | zero =>
    have e : qo = -1 := by rw [h5, il_p0]
    rw [if_pos e, h7, il_p1, il_pkh h3]
    refine ⟨⟨0, d, n, ?_, Or.inl ⟨hz.mp rfl, rfl, rfl⟩⟩, ?_⟩
    · exact ⟨h1, h2, h3, hz, h5, h6, rfl⟩
    · rintro ⟨m, y1, y2⟩
      have := il_inj y2; omega
  | succ w =>
    have e : ¬ qo = -1 := by rw [h5, il_p_m1 (by omega)]; omega
    have n0 : n = 0 := by
      rcases hl with q | q
      · exact absurd q e
      · rw [h7, il_p_m1 (by omega)] at q; exact q
    have d0 : d ≠ 0 := fun q => by have := hz.mpr q; omega
    rw [if_neg e, h5, h6, il_p1]
    have pk := il_pack (g := 2) (d := d) (w := w + 1) (e := 0) (by omega) (by omega) (by omega) (by omega)
    refine ⟨⟨w + 1, d, n, ⟨h1, h2, h3, hz, rfl, rfl, h7⟩, Or.inr (Or.inr (Or.inl ⟨n0, by omega, d4, rfl, pk⟩))⟩, ?_⟩
    rintro ⟨m, y1, y2⟩
    have := il_inj (pk.symm.trans y2) (by have := il_h_lt (g := 2) (d := d) (w := w + 1) (e := 0) (by omega) (by omega) (by omega) (by omega); omega) (by omega)
    unfold il_h at this; omega
/-- an idle monitor leaves its object -/
theorem il_B_defl (htc : tc ≤ 8) (hmc : mc ≤ 8) (hoc : oc ≤ 16) (B : (il_B tc oc mc lim hd kx sx ep mo mw md mh ow dp ho hs ky sy ba)) {m : Nat} (hm : m < mc) (h : o < oc) (e : mo m = nI o) (h4 : dp o ≤ 4) (hl : ow o = -1 ∨ hs o = -1) : (il_B tc oc mc lim (upd hd o (il_df (mw m) (md m) (mh m))) kx sx ep (upd mo m (-1)) mw md mh ow dp ho hs ky sy ba) := by
  have eh : hd o = nI (4 * m + 3) := by
    rcases B.2.2.2 m hm with q | ⟨j, hj, e1, e2⟩
    · exact absurd (e.symm.trans q) (il_nn (by omega)).1
    · have : j = o := il_inj (e1.symm.trans e)
      rw [← this]; exact e2
  obtain ⟨f1, f2, f3, f4, f5⟩ := il_S_fat htc hmc (B.1 o h) hm eh
  rw [f2, f3, f4]
  obtain ⟨s1, s2⟩ := il_S_df (mo' := upd mo m (-1)) (mw' := mw) (md' := md) (mh' := mh) htc hmc (B.1 o h) h4 hl
  refine il_B_obj (o := o) B (fun j z => pk_un z) (fun _ _ => rfl) (fun _ _ => rfl) (fun _ _ => rfl) (fun _ _ => rfl) (fun j hj z k h1 h2 h3 => ⟨?_, rfl, rfl, rfl⟩) ?_ (fun k hk => ?_) (fun q => q)
  · rw [pk_un (fun q => z (il_inj (h2.symm.trans (by rw [q]; exact e))))]; exact h2
  · rw [pk_us, f5]; exact s1
  · rcases Nat.decEq k m with z | z
    · rw [pk_un z]
      rcases B.2.2.2 k hk with q | ⟨j, hj, e1, e2⟩
      · exact Or.inl q
      · refine Or.inr ⟨j, hj, e1, ?_⟩
        rw [pk_un (fun q => z ?_)]
        · exact e2
        · rw [q, eh] at e2; have := il_inj e2; omega
    · rw [z, pk_us]; exact Or.inl rfl
/-- a free monitor is given to a closed object without one -/
theorem il_B_att (htc : tc ≤ 8) (hmc : mc ≤ 8) (hoc : oc ≤ 16) (B : (il_B tc oc mc lim hd kx sx ep mo mw md mh ow dp ho hs ky sy ba)) {m : Nat} (hm : m < mc) (h : o < oc) (e : mo m = -1) (nf : ¬ il_fat mc (hd o)) (hc : ho o = -2) :
    (il_B tc oc mc lim (upd hd o (nI (4 * m + 3))) kx sx ep (upd mo m (nI o)) (upd mw m (ow o)) (upd md m (dp o)) (upd mh m (hs o)) ow dp ho hs ky sy ba) := by
  refine il_B_obj (o := o) B (fun j z => pk_un z) (fun _ _ => rfl) (fun _ _ => rfl) (fun _ _ => rfl) (fun _ _ => rfl) (fun j hj z k h1 h2 h3 => ?_) ?_ (fun k hk => ?_) (fun q => q)
  · have km : k ≠ m := fun q => (il_nn (q := j) (by omega)).1 (h2.symm.trans (by rw [q]; exact e))
    rw [pk_un km, pk_un km, pk_un km, pk_un km]
    exact ⟨h2, rfl, rfl, rfl⟩
  · obtain ⟨w, d, n, F, C⟩ := B.1 o h
    refine ⟨w, d, n, F, Or.inr (Or.inr (Or.inr ⟨m, hm, hc, ?_, ?_, ?_, ?_, ?_⟩))⟩ <;> rw [pk_us]
  · rcases Nat.decEq k m with z | z
    · rw [pk_un z]
      rcases B.2.2.2 k hk with q | ⟨j, hj, e1, e2⟩
      · exact Or.inl q
      · refine Or.inr ⟨j, hj, e1, ?_⟩
        rw [pk_un (fun q => nf ⟨k, hk, by rw [← q]; exact e2⟩)]
        exact e2
    · refine Or.inr ⟨o, h, by rw [z, pk_us], by rw [pk_us, z]⟩
/-- the word of a lock that is set, for an object without a monitor -/
def il_sl (h E : Int32) (t d : Nat) : Int32 := if h &&& 3 = 1 then nI (il_h 1 d (t + 1) E.toNatClampNeg) else if d = 0 then 0 else nI (il_h 2 d (t + 1) 0)
theorem il_S_sl {E h qo qd qh qs qh' : Int32} {t d : Nat} (htc : tc ≤ 8) (hmc : mc ≤ 8) (ht : t < tc) (hd4 : d ≤ 4) (nf : ¬ il_fat mc h) (hE : ∃ e, e ≤ 3 ∧ E = nI e) (S : il_S tc mc mo mw md mh E h o qo qd qh qs) (hn : qs = -1)
    (hq : (qh = -1 ∧ qh' = nI t) ∨ ((qh = -2 ∨ qh = nI t) ∧ qh' = qh)) : il_S tc mc mo' mw' md' mh' E (il_sl h E t d) o (if d = 0 then -1 else nI t) (nI d) qh' qs := by
  obtain ⟨w, d1, n, ⟨h1, h2, h3, h4, h5, h6, h7⟩, C⟩ := S
  obtain ⟨e1, he1, eE⟩ := hE
  have n0 : n = 0 := by rw [h7, il_p_m1 (by omega)] at hn; exact hn
  have ow2 : (if d = 0 then (-1 : Int32) else nI t) = il_p (if d = 0 then 0 else t + 1) := by
    split
    · exact il_p0.symm
    · exact (il_ps t).symm
  have F : (if d = 0 then 0 else t + 1) ≤ tc ∧ d ≤ 9 ∧ n ≤ 1024 ∧ ((if d = 0 then 0 else t + 1) = 0 ↔ d = 0) ∧ (if d = 0 then (-1 : Int32) else nI t) = il_p (if d = 0 then 0 else t + 1) ∧ nI d = nI d ∧ qs = il_p n := by
    refine ⟨?_, by omega, h3, ?_, ow2, rfl, h7⟩
    · split <;> omega
    · split <;> omega
  have key : ¬ h &&& 3 = 1 → qh = -2 → il_S tc mc mo' mw' md' mh' E (il_sl h E t d) o (if d = 0 then -1 else nI t) (nI d) qh' qs := by
    intro t1 q2
    have q3 : qh' = -2 := by
      rcases hq with ⟨a, b⟩ | ⟨a, b⟩
      · rw [q2] at a; exact absurd a (by decide)
      · rw [b]; exact q2
    refine ⟨_, d, n, F, ?_⟩
    unfold il_sl
    rw [if_neg t1]
    by_cases z : d = 0
    · rw [if_pos z, n0]; exact Or.inl ⟨z, q3, rfl⟩
    · rw [if_neg z, if_neg z]; exact Or.inr (Or.inr (Or.inl ⟨n0, by omega, hd4, q3, rfl⟩))
  rcases C with ⟨a, b, c⟩ | ⟨a, b, v, e, e0, c1, c2, c3, c4, c5, c6, c7, c8⟩ | ⟨a, b, b2, c, c5⟩ | ⟨m, y1, y2, y3, y4⟩
  · exact key (by rw [c, (il_nw h3).1]; decide) b
  · have w1 := (il_hw (g := 1) (d := d1) (w := v) (e := e0) (by omega) (by omega) (by omega) (by omega)).1
    rw [← c5] at w1
    have q3 : qh' = il_p (t + 1) := by
      rw [il_ps]
      rcases hq with ⟨q, r⟩ | ⟨q | q, r⟩
      · exact r
      · exfalso
        rcases Nat.decEq e0 e with z | z
        · rw [c8 z] at q; exact absurd q (by decide)
        · rw [c7 z] at q; exact il_p_m2 (by omega) q
      · rw [r]; exact q
    refine ⟨_, d, n, F, Or.inr (Or.inl ⟨n0, hd4, t + 1, e1, e1, by omega, Nat.le_refl _, he1, eE, ?_, fun z => ⟨by rw [if_neg z], rfl⟩, fun _ => q3, fun z => absurd rfl z⟩)⟩
    unfold il_sl
    rw [if_pos (show h &&& 3 = 1 from w1), eE, nI_clamp (by omega)]
  · exact key (by rw [c5, (il_hw (by omega) (by omega) (by omega) (by omega)).1]; decide) c
  · exact absurd ⟨m, y1, y3⟩ nf
end
end
section
/-! threads and lines: what changes keep the relation -/
theorem il_cl_z {z z' : Nat} {s : Int32} (a : il_cl z s) (b : il_cl z' s) : z = z' := by
  rcases a with ⟨h1, h2⟩ | ⟨h1, h2⟩ <;> rcases b with ⟨h3, h4⟩ | ⟨h3, h4⟩
  · omega
  · rw [h4] at h2; exact absurd h2 (by decide)
  · rw [h2] at h4; exact absurd h4 (by decide)
  · omega
theorem il_cl_q {z : Nat} {s : Int32} (a : il_cl z s) : il_q s ∧ (z = 8 ∨ z = 16) := by
  rcases a with ⟨h1, h2 | h2 | h2⟩ | ⟨h1, h2⟩
  · exact ⟨Or.inl h2, Or.inl h1⟩
  · exact ⟨Or.inr (Or.inr (Or.inl h2)), Or.inl h1⟩
  · exact ⟨Or.inr (Or.inr (Or.inr h2)), Or.inl h1⟩
  · exact ⟨Or.inr (Or.inl h2), Or.inr h1⟩
theorem il_q_cl {s : Int32} (a : il_q s) : ∃ z, il_cl z s ∧ (z = 8 ∨ z = 16) := by
  rcases a with h | h | h | h
  · exact ⟨8, Or.inl ⟨rfl, Or.inl h⟩, Or.inl rfl⟩
  · exact ⟨16, Or.inr ⟨rfl, h⟩, Or.inr rfl⟩
  · exact ⟨8, Or.inl ⟨rfl, Or.inr (Or.inl h)⟩, Or.inl rfl⟩
  · exact ⟨8, Or.inl ⟨rfl, Or.inr (Or.inr h)⟩, Or.inl rfl⟩
theorem il_q01 {s : Int32} (a : il_q s) : ¬ s = 0 ∧ ¬ s = 1 := by
  rcases a with h | h | h | h <;> rw [h] <;> decide
theorem il_T_q {oc : Nat} {s p a : Int32} (h : il_T oc s p a) (h0 : ¬ s = 0) (h1 : ¬ s = 1) : il_q s := by
  rcases h with h | ⟨_, h | h⟩
  · exact absurd h.1 h0
  · exact absurd h h1
  · exact h.1
theorem il_T_pl {oc : Nat} {s p a : Int32} (h : il_T oc s p a) (h0 : ¬ s = 0) : ∃ o, o < oc ∧ p = nI o := by
  rcases h with h | h
  · exact absurd h.1 h0
  · exact h.1
theorem il_T_am {oc : Nat} {s p a : Int32} (h : il_T oc s p a) (q : il_q s) : ∃ d, 1 ≤ d ∧ d ≤ 9 ∧ a = nI d := by
  rcases h with h | ⟨_, h | h⟩
  · exact absurd h.1 (il_q01 q).1
  · exact absurd h (il_q01 q).2
  · exact h.2
/-- a monitor belongs to one object -/
def il_J (mc oc : Nat) (mo : Nat → Int32) : Prop := ∀ a b o, a < mc → b < mc → o < oc → mo a = nI o → mo b = nI o → a = b
section
variable {tc oc mc lim ck : Nat} {hd kx sx ep mo mw md mh ow dp ho hs ky sy ba nx pv st pl am : Nat → Int32} {ar : Nat → Int64} {L : Nat → List Nat}
theorem il_B_J (hmc : mc ≤ 8) (hoc : oc ≤ 16) (B : (il_B tc oc mc lim hd kx sx ep mo mw md mh ow dp ho hs ky sy ba)) : il_J mc oc mo := by
  intro a b o ha hb h e1 e2
  have f : ∀ m, m < mc → mo m = nI o → hd o = nI (4 * m + 3) := fun m hm e => by
    rcases B.2.2.2 m hm with q | ⟨j, hj, e3, e4⟩
    · exact absurd (e.symm.trans q) (il_nn (by omega)).1
    · have : j = o := il_inj (e3.symm.trans e)
      rw [← this]; exact e4
  have := il_inj ((f a ha e1).symm.trans (f b hb e2)); omega
theorem il_dis (J : il_J mc oc mo) (T : ∀ t, t < tc → il_T oc (st t) (pl t) (am t)) (hL : il_LL tc mc mo nx pv st pl ar L) {z m z' m' u : Nat} (hz : z = 8 ∨ z = 16) (hm : m < mc) (hz' : z' = 8 ∨ z' = 16) (hm' : m' < mc) (h : u ∈ L (z + m)) (h' : u ∈ L (z' + m')) : z = z' ∧ m = m' := by
  obtain ⟨a1, a2, a3⟩ := ((hL z m hz hm).2.2 u).mp h
  obtain ⟨b1, b2, b3⟩ := ((hL z' m' hz' hm').2.2 u).mp h'
  obtain ⟨o, h1, h2⟩ := il_T_pl (T u a1) (il_q01 (il_cl_q a3).1).1
  exact ⟨il_cl_z a3 b3, J m m' o hm hm' h1 (a2.symm.trans h2) (b2.symm.trans h2)⟩
theorem il_ar_lt {t u : Nat} (hA : ∀ t, t < tc → ∃ a, a ≤ ck ∧ ar t = lN a) (hu : u < tc) (hc : ck + 1 < 2 ^ 31) : ar u < lN (ck + 1) := by
  obtain ⟨a, h1, h2⟩ := hA u hu
  rw [h2]; exact (lN_lt (by omega) hc).mpr (by omega)
/-- a thread joins a line, as the last -/
theorem il_H_add (htc : tc ≤ 8) (hmc : mc ≤ 8) (hoc : oc ≤ 16) (hck : ck + 1 < 2 ^ 31) (J : il_J mc oc mo) (Hh : (il_H tc oc mc ck mo nx pv st pl am ar)) {t z m o d : Nat} {s : Int32} (ht : t < tc) (nq : ¬ il_q (st t)) (hz : z = 8 ∨ z = 16) (hm : m < mc) (cs : il_cl z s) (h : o < oc) (em : mo m = nI o) (d1 : 1 ≤ d) (d9 : d ≤ 9) :
    ∃ q, q < 24 ∧ pv (z + m) = nI q ∧ (il_H tc oc mc (ck + 1) mo (upd (upd nx t (nI (z + m))) q (nI t)) (upd (upd pv t (nI q)) (z + m) (nI t)) (upd st t s) (upd pl t (nI o)) (upd am t (nI d)) (vp_updL ar t (lN (ck + 1)))) := by
  obtain ⟨T, hA, hN, L, hL⟩ := Hh
  obtain ⟨s1, s2, s3⟩ := hL z m hz hm
  have l8 : ∀ x, x ∈ L (z + m) → x < 8 := fun x hx => by have := ((s3 x).mp hx).1; omega
  have tnl : ∀ z' m', (z' = 8 ∨ z' = 16) → m' < mc → t ∉ L (z' + m') := fun z' m' h1 h2 h3 => nq (il_cl_q (((hL z' m' h1 h2).2.2 t).mp h3).2.2).1
  obtain ⟨q, hq, q2⟩ := il_seg_last s1
  have q24 : q < 24 := by
    rcases q2 with ⟨_, e⟩ | e
    · omega
    · have := l8 q e; omega
  have qt : q ≠ t := by
    rcases q2 with ⟨_, e⟩ | e
    · omega
    · intro e2; rw [e2] at e; exact tnl z m hz hm e
  refine ⟨q, q24, hq, fun u hu => ?_, fun u hu => ?_, fun u hu hqu => ?_, fun x => if x = z + m then L (z + m) ++ [t] else L x, fun z' m' hz' hm' => ?_⟩
  · rcases Nat.decEq u t with e | e
    · rw [pk_un e, pk_un e, pk_un e]; exact T u hu
    · subst e; rw [pk_us, pk_us, pk_us]
      exact Or.inr ⟨⟨o, h, rfl⟩, Or.inr ⟨(il_cl_q cs).1, d, d1, d9, rfl⟩⟩
  · rcases Nat.decEq u t with e | e
    · rw [pk_uLn e]
      obtain ⟨a, h1, h2⟩ := hA u hu
      exact ⟨a, by omega, h2⟩
    · rw [e, pk_uLs]; exact ⟨ck + 1, Nat.le_refl _, rfl⟩
  · rcases Nat.decEq u t with e | e
    · rw [pk_un e] at hqu ⊢; exact hN u hu hqu
    · rw [e, pk_us]; exact ⟨m, hm, em⟩
  · rcases Nat.decEq (z' + m') (z + m) with e | e
    · show il_seg _ _ (z' + m') (z' + m') (if z' + m' = z + m then L (z + m) ++ [t] else L (z' + m')) ∧ il_srt _ (if z' + m' = z + m then L (z + m) ++ [t] else L (z' + m')) ∧ ∀ u, u ∈ (if z' + m' = z + m then L (z + m) ++ [t] else L (z' + m')) ↔ _
      rw [if_neg e]
      obtain ⟨r1, r2, r3⟩ := hL z' m' hz' hm'
      have l8' : ∀ x, x ∈ L (z' + m') → x < 8 := fun x hx => by have := ((r3 x).mp hx).1; omega
      have nq' : ∀ x, x = z' + m' ∨ x ∈ L (z' + m') → x ≠ q ∧ x ≠ t ∧ x ≠ z + m := fun x hx => by
        rcases hx with hx | hx
        · refine ⟨?_, by omega, by omega⟩
          rcases q2 with ⟨_, e2⟩ | e2
          · omega
          · have := l8 q e2; omega
        · have x8 := l8' x hx
          refine ⟨fun e2 => ?_, fun e2 => ?_, by omega⟩
          · rcases q2 with ⟨_, e3⟩ | e3
            · omega
            · rw [e2] at hx
              have := il_dis J T hL hz' hm' hz hm hx e3
              omega
          · rw [e2] at hx; exact tnl z' m' hz' hm' hx
      refine ⟨il_seg_fr (fun x hx => ?_) (fun x hx => ?_) r1, ?_, fun u => ?_⟩
      · obtain ⟨n1, n2, n3⟩ := nq' x hx
        rw [pk_un n1, pk_un n2]
      · obtain ⟨n1, n2, n3⟩ := nq' x (hx.elim Or.inr Or.inl)
        rw [pk_un n3, pk_un n2]
      · unfold il_srt at r2 ⊢
        refine List.Pairwise.imp_of_mem (fun {x y} hx hy hxy => ?_) r2
        rw [pk_uLn (nq' x (Or.inr hx)).2.1, pk_uLn (nq' y (Or.inr hy)).2.1]; exact hxy
      · rcases Nat.decEq u t with e2 | e2
        · rw [pk_un e2, pk_un e2]; exact r3 u
        · subst e2
          rw [pk_us, pk_us]
          refine ⟨fun hx => absurd hx (tnl z' m' hz' hm'), fun ⟨_, h2, h3⟩ => ?_⟩
          have e3 := il_cl_z cs h3
          have e4 := J m m' o hm hm' h em h2.symm
          omega
    · have ez : z' = z ∧ m' = m := by omega
      obtain ⟨rfl, rfl⟩ := ez
      show il_seg _ _ (z' + m') (z' + m') (if z' + m' = z' + m' then L (z' + m') ++ [t] else L (z' + m')) ∧ il_srt _ (if z' + m' = z' + m' then L (z' + m') ++ [t] else L (z' + m')) ∧ ∀ u, u ∈ (if z' + m' = z' + m' then L (z' + m') ++ [t] else L (z' + m')) ↔ _
      rw [if_pos rfl]
      have tn := tnl z' m' hz hm
      refine ⟨il_seg_snoc (p := q) (by omega) hq (fun j h1 h2 => ?_) pk_us ?_ (fun j h1 h2 => ?_) ?_ pk_us (by omega) (fun x hx => by have := l8 x hx; omega) (fun hx => by have := l8 _ hx; omega) (il_srt_nd s2) (fun hx => by have := l8 _ hx; omega) tn (by omega) s1, ?_, fun u => ?_⟩
      · rw [pk_un h1, pk_un h2]
      · rw [pk_un (Ne.symm qt), pk_us]
      · rw [pk_un h1, pk_un h2]
      · rw [pk_un (by omega), pk_us]
      · unfold il_srt at s2 ⊢
        refine List.pairwise_append.mpr ⟨?_, List.pairwise_singleton _ _, fun x hx y hy => ?_⟩
        · refine List.Pairwise.imp_of_mem (fun {x y} hx hy hxy => ?_) s2
          rw [pk_uLn (fun e2 => tn (by rw [← e2]; exact hx)), pk_uLn (fun e2 => tn (by rw [← e2]; exact hy))]; exact hxy
        · rw [List.mem_singleton.mp hy, pk_uLs, pk_uLn (fun e2 => tn (by rw [← e2]; exact hx))]
          exact il_ar_lt (t := t) hA ((s3 x).mp hx).1 hck
      · rw [List.mem_append, List.mem_singleton]
        rcases Nat.decEq u t with e2 | e2
        · rw [pk_un e2, pk_un e2]
          exact ⟨fun hx => hx.elim (s3 u).mp (fun e3 => absurd e3 e2), fun hx => Or.inl ((s3 u).mpr hx)⟩
        · subst e2
          rw [pk_us, pk_us]
          exact ⟨fun _ => ⟨ht, em.symm, cs⟩, fun _ => Or.inr rfl⟩
/-- a thread leaves its line -/
theorem il_H_rem (htc : tc ≤ 8) (hmc : mc ≤ 8) (J : il_J mc oc mo) (Hh : (il_H tc oc mc ck mo nx pv st pl am ar)) {t : Nat} {am' : Nat → Int32} (ht : t < tc) (hq : il_q (st t)) (fa : ∀ j, j ≠ t → am' j = am j) :
    ∃ p q, p < 24 ∧ q < 24 ∧ pv t = nI p ∧ nx t = nI q ∧ (il_H tc oc mc ck mo (upd nx p (nI q)) (upd pv q (nI p)) (upd st t 0) (upd pl t (-1)) am' ar) := by
  obtain ⟨T, hA, hN, L, hL⟩ := Hh
  obtain ⟨z, cz, hz⟩ := il_q_cl hq
  obtain ⟨m, hm, em⟩ := hN t ht hq
  obtain ⟨s1, s2, s3⟩ := hL z m hz hm
  have tin : t ∈ L (z + m) := (s3 t).mpr ⟨ht, em.symm, cz⟩
  have l8 : ∀ x, x ∈ L (z + m) → x < 8 := fun x hx => by have := ((s3 x).mp hx).1; omega
  obtain ⟨l1, l2, el⟩ := List.append_of_mem tin
  rw [el] at s1 s2 l8
  obtain ⟨p, q, ep1, eq1, hp, hq1⟩ := il_seg_mid s1
  have p24 : p < 24 := by
    rcases hp with e | e
    · omega
    · have := l8 p (List.mem_append_left _ e); omega
  have q24 : q < 24 := by
    rcases hq1 with e | e
    · omega
    · have := l8 q (List.mem_append_right _ (List.mem_cons_of_mem _ e)); omega
  have nd := il_srt_nd s2
  have z0 : ¬ il_q 0 := by intro a; exact (il_q01 a).1 rfl
  refine ⟨p, q, p24, q24, ep1, eq1, fun u hu => ?_, hA, fun u hu hqu => ?_, fun x => if x = z + m then l1 ++ l2 else L x, fun z' m' hz' hm' => ?_⟩
  · rcases Nat.decEq u t with e | e
    · rw [pk_un e, pk_un e, fa u e]; exact T u hu
    · rw [e, pk_us, pk_us]; exact Or.inl ⟨rfl, rfl⟩
  · rcases Nat.decEq u t with e | e
    · rw [pk_un e] at hqu ⊢; exact hN u hu hqu
    · rw [e, pk_us] at hqu; exact absurd hqu z0
  · rcases Nat.decEq (z' + m') (z + m) with e | e
    · show il_seg _ _ (z' + m') (z' + m') (if z' + m' = z + m then l1 ++ l2 else L (z' + m')) ∧ il_srt _ (if z' + m' = z + m then l1 ++ l2 else L (z' + m')) ∧ ∀ u, u ∈ (if z' + m' = z + m then l1 ++ l2 else L (z' + m')) ↔ _
      rw [if_neg e]
      obtain ⟨r1, r2, r3⟩ := hL z' m' hz' hm'
      have l8' : ∀ x, x ∈ L (z' + m') → x < 8 := fun x hx => by have := ((r3 x).mp hx).1; omega
      have nin : ∀ x, x ∈ L (z' + m') → x ∉ L (z + m) := fun x hx hx2 => by
        have := il_dis J T hL hz' hm' hz hm hx hx2; omega
      rw [el] at nin
      have npq : ∀ x, x = z' + m' ∨ x ∈ L (z' + m') → x ≠ p ∧ x ≠ q := fun x hx => by
        rcases hx with hx | hx
        · constructor
          · rcases hp with e2 | e2
            · omega
            · have := l8 p (List.mem_append_left _ e2); omega
          · rcases hq1 with e2 | e2
            · omega
            · have := l8 q (List.mem_append_right _ (List.mem_cons_of_mem _ e2)); omega
        · have x8 := l8' x hx
          constructor
          · intro e3
            rcases hp with e2 | e2
            · omega
            · exact nin x hx (by rw [e3]; exact List.mem_append_left _ e2)
          · intro e3
            rcases hq1 with e2 | e2
            · omega
            · exact nin x hx (by rw [e3]; exact List.mem_append_right _ (List.mem_cons_of_mem _ e2))
      refine ⟨il_seg_fr (fun x hx => pk_un (npq x hx).1) (fun x hx => pk_un (npq x (hx.elim Or.inr Or.inl)).2) r1, r2, fun u => ?_⟩
      rcases Nat.decEq u t with e2 | e2
      · rw [pk_un e2, pk_un e2]; exact r3 u
      · rw [e2, pk_us, pk_us]
        refine ⟨fun hx => absurd (by rw [← el]; exact tin) (nin t hx), fun ⟨_, _, h3⟩ => absurd (il_cl_q h3).1 z0⟩
    · have ez : z' = z ∧ m' = m := by omega
      obtain ⟨rfl, rfl⟩ := ez
      show il_seg _ _ (z' + m') (z' + m') (if z' + m' = z' + m' then l1 ++ l2 else L (z' + m')) ∧ il_srt _ (if z' + m' = z' + m' then l1 ++ l2 else L (z' + m')) ∧ ∀ u, u ∈ (if z' + m' = z' + m' then l1 ++ l2 else L (z' + m')) ↔ _
      rw [if_pos rfl]
      have hn : z' + m' ∉ l1 ++ t :: l2 := fun hx => by have := l8 _ hx; omega
      refine ⟨il_seg_cut (p := p) (q := q) (t := t) (by omega) (by omega) (by omega) ep1 eq1 (fun j h1 => pk_un h1) pk_us (fun j h1 => pk_un h1) pk_us (by omega) (fun x hx => by have := l8 x hx; omega) hn nd hn s1, ?_, fun u => ?_⟩
      · unfold il_srt at s2 ⊢
        exact List.Pairwise.sublist (List.Sublist.append (List.Sublist.refl l1) (List.sublist_cons_self t l2)) s2
      · rw [el] at s3
        rcases Nat.decEq u t with e2 | e2
        · rw [pk_un e2, pk_un e2, ← s3 u, List.mem_append, List.mem_append, List.mem_cons]
          exact ⟨fun hx => hx.elim Or.inl (fun y => Or.inr (Or.inr y)), fun hx => hx.elim Or.inl (fun y => y.elim (fun y => absurd y e2) Or.inr)⟩
        · rw [e2, pk_us, pk_us]
          refine ⟨fun hx => ?_, fun ⟨_, _, h3⟩ => absurd (il_cl_q h3).1 z0⟩
          have nd2 := List.nodup_append.mp nd
          rcases List.mem_append.mp hx with y | y
          · exact absurd rfl (nd2.2.2 t y t List.mem_cons_self)
          · exact absurd y (List.nodup_cons.mp nd2.2.1).1
/-- a thread outside the lines changes what it wants -/
theorem il_H_set (Hh : (il_H tc oc mc ck mo nx pv st pl am ar)) {t : Nat} {s p a : Int32} (nq : ¬ il_q (st t)) (nq' : ¬ il_q s) (hT : il_T oc s p a) : (il_H tc oc mc ck mo nx pv (upd st t s) (upd pl t p) (upd am t a) ar) := by
  obtain ⟨T, hA, hN, L, hL⟩ := Hh
  refine ⟨fun u hu => ?_, hA, fun u hu hqu => ?_, L, fun z m hz hm => ⟨(hL z m hz hm).1, (hL z m hz hm).2.1, fun u => ?_⟩⟩
  · rcases Nat.decEq u t with e | e
    · rw [pk_un e, pk_un e, pk_un e]; exact T u hu
    · rw [e, pk_us, pk_us, pk_us]; exact hT
  · rcases Nat.decEq u t with e | e
    · rw [pk_un e] at hqu ⊢; exact hN u hu hqu
    · rw [e, pk_us] at hqu; exact absurd hqu nq'
  · rcases Nat.decEq u t with e | e
    · rw [pk_un e, pk_un e]; exact (hL z m hz hm).2.2 u
    · rw [e, pk_us, pk_us]
      exact ⟨fun hx => absurd (il_cl_q (((hL z m hz hm).2.2 t).mp hx).2.2).1 nq, fun ⟨_, _, h3⟩ => absurd (il_cl_q h3).1 nq'⟩
/-- a monitor without a line changes its object -/
theorem il_H_mo (Hh : (il_H tc oc mc ck mo nx pv st pl am ar)) {m : Nat} {x : Int32} (h1 : ∀ t, t < tc → il_q (st t) → ¬ pl t = mo m) (h2 : ∀ t, t < tc → il_q (st t) → ¬ pl t = x) : (il_H tc oc mc ck (upd mo m x) nx pv st pl am ar) := by
  obtain ⟨T, hA, hN, L, hL⟩ := Hh
  refine ⟨T, hA, fun u hu hqu => ?_, L, fun z k hz hk => ⟨(hL z k hz hk).1, (hL z k hz hk).2.1, fun u => ?_⟩⟩
  · obtain ⟨k, hk, e⟩ := hN u hu hqu
    exact ⟨k, hk, by rw [pk_un (fun e2 => h1 u hu hqu (by rw [← e2]; exact e.symm))]; exact e⟩
  · rcases Nat.decEq k m with e | e
    · rw [pk_un e]; exact (hL z k hz hk).2.2 u
    · rw [(hL z k hz hk).2.2 u]
      subst e
      rw [pk_us]
      exact ⟨fun ⟨a, b, c⟩ => absurd b (h1 u a (il_cl_q c).1), fun ⟨a, b, c⟩ => absurd b (h2 u a (il_cl_q c).1)⟩
end
end
section
/-! who needs a monitor, which monitors are busy; the counts agree -/
def il_nd (tc : Nat) (st pl ow dp hs : Nat → Int32) (o : Nat) : Prop := (∃ t, t < tc ∧ pl t = nI o ∧ ¬ st t = 0 ∧ ¬ st t = 1) ∨ (¬ ow o = -1 ∧ ¬ hs o = -1) ∨ ¬ dp o ≤ 4
def il_bz (tc oc : Nat) (mo st pl ow dp hs : Nat → Int32) (m : Nat) : Prop := ∃ o, o < oc ∧ mo m = nI o ∧ il_nd tc st pl ow dp hs o
section
variable {g0 g1 g2 g3 : Int32} {tc oc mc lim nh : Nat} {hd kx sx ep mo mw md mh nx pv st pl am : Nat → Int32}
variable {ck : Nat} {ar : Nat → Int64} {ow dp ho hs ky sy ba : Nat → Int32}
variable {o m : Nat} {post : Int32 → Prop}
theorem il_B_mo (hoc : oc ≤ 16) (B : (il_B tc oc mc lim hd kx sx ep mo mw md mh ow dp ho hs ky sy ba)) (hm : m < mc) (h : o < oc) (e : mo m = nI o) : hd o = nI (4 * m + 3) := by
  rcases B.2.2.2 m hm with q | ⟨j, hj, e1, e2⟩
  · exact absurd (e.symm.trans q) (il_nn (by omega)).1
  · have : j = o := il_inj (e1.symm.trans e)
    rw [← this]; exact e2
theorem il_nd_fat (R : (il_R tc oc mc lim nh ck hd kx sx ep mo mw md mh nx pv st pl am ar ow dp ho hs ky sy ba)) (h : o < oc) (n : il_nd tc st pl ow dp hs o) : il_fat mc (hd o) := by
  obtain ⟨⟨d1, d2, d3, d4, d5, d6, d7, d8, d9⟩, B, T, hA, hN, L, hL⟩ := R
  rcases n with ⟨t, h1, h2, h3, h4⟩ | n
  · obtain ⟨m, hm, e⟩ := hN t h1 (il_T_q (T t h1) h3 h4)
    exact ⟨m, hm, il_B_mo d4 B hm h (e.trans h2)⟩
  · rcases Classical.em (il_fat mc (hd o)) with z | z
    · exact z
    · obtain ⟨l1, l2⟩ := il_S_light z (B.1 o h)
      rcases n with ⟨a, b⟩ | n
      · rcases l2 with l2 | l2
        · exact absurd l2 a
        · exact absurd l2 b
      · exact absurd l1 n
theorem il_cnt_eq (R : (il_R tc oc mc lim nh ck hd kx sx ep mo mw md mh nx pv st pl am ar ow dp ho hs ky sy ba)) : cn (il_bz tc oc mo st pl ow dp hs) mc = cn (il_nd tc st pl ow dp hs) oc := by
  have R0 := R
  obtain ⟨⟨d1, d2, d3, d4, d5, d6, d7, d8, d9⟩, B, H⟩ := R
  have J := il_B_J d6 d4 B
  refine cn_bij (fun m => (mo m).toNatClampNeg) (fun i hi ⟨o, h1, h2, h3⟩ => ?_) (fun i j hi hj ⟨o, h1, h2, h3⟩ ⟨o', h1', h2', h3'⟩ e => ?_) (fun j hj hn => ?_)
  · show (mo i).toNatClampNeg < oc ∧ il_nd tc st pl ow dp hs (mo i).toNatClampNeg
    rw [h2, nI_clamp (by omega)]; exact ⟨h1, h3⟩
  · have e' : (mo i).toNatClampNeg = (mo j).toNatClampNeg := e
    rw [h2, h2', nI_clamp (by omega), nI_clamp (by omega)] at e'
    exact J i j o hi hj h1 h2 (by rw [e']; exact h2')
  · obtain ⟨m, hm, e⟩ := il_nd_fat R0 hj hn
    have f := (il_S_fat d2 d6 (B.1 j hj) hm e).1
    exact ⟨m, hm, ⟨j, hj, f, hn⟩, by show (mo m).toNatClampNeg = j; rw [f, nI_clamp (by omega)]⟩
theorem il_xBusy (R : (il_R tc oc mc lim nh ck hd kx sx ep mo mw md mh nx pv st pl am ar ow dp ho hs ky sy ba)) (hm : m < mc) (K : post (il_i (il_bz tc oc mo st pl ow dp hs m))) : wpX_isBusy post (g0, g1, g2, g3, nI tc, nI oc, nI mc, nI lim, nI nh, hd, kx, sx, ep, mo, mw, md, mh, nx, pv, st, pl, am) (nI m) := by
  obtain ⟨⟨d1, d2, d3, d4, d5, d6, d7, d8, d9⟩, B, T, hA, hN, L, hL⟩ := R
  have m8 : vp_in (nI m) 8 := vp_in_nI (by omega) (by decide)
  have cm : (nI m).toNatClampNeg = m := nI_clamp (by omega)
  have a8 : (8 : Int32) + nI m = nI (8 + m) := nI_add 8 m
  have a16 : (16 : Int32) + nI m = nI (16 + m) := nI_add 16 m
  unfold wpX_isBusy
  refine And.intro m8 ?_
  rw [cm, a8, a16, nI_clamp (show 8 + m < 2 ^ 31 by omega), nI_clamp (show 16 + m < 2 ^ 31 by omega)]
  rcases B.2.2.2 m hm with z | ⟨o, ho1, e1, e2⟩
  · refine br_t z ?_
    rw [il_if (fun ⟨o, h1, h2, h3⟩ => (il_nn (q := o) (by omega)).1 (h2.symm.trans z))] at K
    exact K
  · refine br_f (fun q => (il_nn (q := o) (by omega)).1 (e1.symm.trans q)) ?_
    obtain ⟨f1, f2, f3, f4, f5⟩ := il_S_fat d2 d6 (B.1 o ho1) hm e2
    have key : il_bz tc oc mo st pl ow dp hs m ↔ il_nd tc st pl ow dp hs o := by
      constructor
      · rintro ⟨o', h1, h2, h3⟩
        have : o' = o := il_inj (h2.symm.trans e1)
        rw [← this]; exact h3
      · exact fun n => ⟨o, ho1, e1, n⟩
    rw [il_ie key] at K
    have lst : ∀ z, (z = 8 ∨ z = 16) → ¬ L (z + m) = [] → il_nd tc st pl ow dp hs o := fun z hz ne => by
      obtain ⟨x, hx⟩ := List.exists_mem_of_ne_nil _ ne
      obtain ⟨h1, h2, h3⟩ := ((hL z m hz hm).2.2 x).mp hx
      have := il_q01 (il_cl_q h3).1
      exact Or.inl ⟨x, h1, h2.trans e1, this.1, this.2⟩
    have s8 := il_seg_emp (hL 8 m (Or.inl rfl) hm).1 (fun x hx => by have := (((hL 8 m (Or.inl rfl) hm).2.2 x).mp hx).1; omega) (by omega) (by omega)
    have s16 := il_seg_emp (hL 16 m (Or.inr rfl) hm).1 (fun x hx => by have := (((hL 16 m (Or.inr rfl) hm).2.2 x).mp hx).1; omega) (by omega) (by omega)
    have yes : il_nd tc st pl ow dp hs o → post 1 := fun n => by rw [il_it n] at K; exact K
    have no : ¬ il_nd tc st pl ow dp hs o → post 0 := fun n => by rw [il_if n] at K; exact K
    have one : ¬ (1 : Int32) = 0 := by decide
    have i24 : vp_in (nI (8 + m)) 24 := vp_in_nI (by omega) (by decide)
    have j24 : vp_in (nI (16 + m)) 24 := vp_in_nI (by omega) (by decide)
    refine And.intro i24 ?_
    rcases Classical.em (L (8 + m) = []) with y | y
    · refine br_t (s8.mpr y) (And.intro j24 ?_)
      rcases Classical.em (L (16 + m) = []) with y2 | y2
      · refine br_t (s16.mpr y2) ?_
        have nl : ¬ ∃ t, t < tc ∧ pl t = nI o ∧ ¬ st t = 0 ∧ ¬ st t = 1 := by
          rintro ⟨t, h1, h2, h3, h4⟩
          obtain ⟨z, cz, hz⟩ := il_q_cl (il_T_q (T t h1) h3 h4)
          have tin := ((hL z m hz hm).2.2 t).mpr ⟨h1, h2.trans e1.symm, cz⟩
          rcases hz with rfl | rfl
          · rw [y] at tin; exact List.not_mem_nil tin
          · rw [y2] at tin; exact List.not_mem_nil tin
        unfold wX_isBusy_49
        refine br_t rfl (And.intro m8 ?_)
        rw [cm, f2, f3, f4]
        by_cases q : 4 < dp o
        · exact br_t q (yes (Or.inr (Or.inr (Int32.not_le.mpr q))))
        · refine br_f q (And.intro m8 ?_)
          have q' : dp o ≤ 4 := Int32.not_lt.mp q
          by_cases q1 : ow o = -1
          · exact br_t q1 (no (fun n => n.elim nl (fun n => n.elim (fun n => n.1 q1) (fun n => n q'))))
          · refine br_f q1 (And.intro m8 ?_)
            by_cases q2 : hs o = -1
            · exact br_t q2 (no (fun n => n.elim nl (fun n => n.elim (fun n => n.2 q2) (fun n => n q'))))
            · exact br_f q2 (yes (Or.inr (Or.inl ⟨q1, q2⟩)))
      · exact br_f (fun q => y2 (s16.mp q)) (br_f one (yes (lst 16 (Or.inr rfl) y2)))
    · exact br_f (fun q => y (s8.mp q)) (br_f one (yes (lst 8 (Or.inl rfl) y)))
theorem il_xUsed (R : (il_R tc oc mc lim nh ck hd kx sx ep mo mw md mh nx pv st pl am ar ow dp ho hs ky sy ba)) (K : post (nI (cn (il_bz tc oc mo st pl ow dp hs) mc))) : wpX_usedCount post (g0, g1, g2, g3, nI tc, nI oc, nI mc, nI lim, nI nh, hd, kx, sx, ep, mo, mw, md, mh, nx, pv, st, pl, am) := by
  have m8 : mc ≤ 8 := R.1.2.2.2.2.2.1
  have go : ∀ k i, i + k = mc → ∀ n, k < n → wX_usedCount_4 post g0 g1 g2 g3 (nI tc) (nI oc) (nI mc) (nI lim) (nI nh) hd kx sx ep mo mw md mh nx pv st pl am n (nI (cn (il_bz tc oc mo st pl ow dp hs) i)) (nI i) := by
    intro k
    induction k with
    | zero =>
      intro i hi n hn
      cases n with
      | zero => omega
      | succ n =>
        have e : i = mc := by omega
        exact br_t (nI_le (by omega) (by omega)) (by rw [e]; exact K)
    | succ k ih =>
      intro i hi n hn
      cases n with
      | zero => omega
      | succ n =>
        refine br_f (nI_ge (by omega) (by omega)) (il_xBusy R (by omega) ?_)
        have ih' := ih (i + 1) (by omega) n (by omega)
        rcases Classical.em (il_bz tc oc mo st pl ow dp hs i) with z | z
        · refine br_f (by rw [il_i0]; exact fun q => q z) (fun a ea b eb => ?_)
          simp only [cn, b01_t z] at ih'
          rw [ea, eb, nI_1, nI_1]; exact ih'
        · refine br_t (il_i0.mpr z) (fun a ea b eb => ?_)
          simp only [cn, b01_f z, Nat.add_zero] at ih'
          rw [ea, eb, Int32.add_zero, nI_1]; exact ih'
  unfold wpX_usedCount
  exact Exists.intro (mc + 1) (go mc 0 (by omega) _ (by omega))
theorem il_xShort (R : (il_R tc oc mc lim nh ck hd kx sx ep mo mw md mh nx pv st pl am ar ow dp ho hs ky sy ba)) (h : o < oc) (K : post (il_i (¬ il_fat mc (hd o) ∧ cn (il_bz tc oc mo st pl ow dp hs) mc = mc))) : wpX_isShort post (g0, g1, g2, g3, nI tc, nI oc, nI mc, nI lim, nI nh, hd, kx, sx, ep, mo, mw, md, mh, nx, pv, st, pl, am) (nI o) := by
  have R0 := R
  obtain ⟨⟨d1, d2, d3, d4, d5, d6, d7, d8, d9⟩, B, H⟩ := R
  have cl := cn_le (il_bz tc oc mo st pl ow dp hs) mc
  unfold wpX_isShort
  refine il_xTag (by omega) ?_
  rcases il_S_tag d2 d6 (B.1 o h) with ⟨f, t⟩ | ⟨f, t⟩
  · refine br_t t ?_
    rw [il_if (fun q => q.1 f)] at K; exact K
  · refine br_f t (il_xUsed R0 ?_)
    by_cases z : cn (il_bz tc oc mo st pl ow dp hs) mc = mc
    · refine br_t (by rw [z]) ?_
      rw [il_it ⟨f, z⟩] at K; exact K
    · refine br_f (fun q => z (il_inj q)) ?_
      rw [il_if (fun q => z q.2)] at K; exact K
theorem il_yNeeds (htc : tc ≤ 8) (o16 : o < 16) (K : post (il_i (il_nd tc st pl ow dp hs o))) : wpY_needs post (nI tc, nI oc, nI mc, nI lim, nI nh, lN ck, st, pl, am, ar, ow, dp, ho, hs, ky, sy, ba) (nI o) := by
  have yes : il_nd tc st pl ow dp hs o → post 1 := fun n => by rw [il_it n] at K; exact K
  have no : ¬ il_nd tc st pl ow dp hs o → post 0 := fun n => by rw [il_if n] at K; exact K
  have co : (nI o).toNatClampNeg = o := nI_clamp (by omega)
  have io : vp_in (nI o) 16 := vp_in_nI o16 (by decide)
  have go : ∀ k i, i + k = tc → (∀ t, t < i → ¬ (pl t = nI o ∧ ¬ st t = 0 ∧ ¬ st t = 1)) → ∀ n, k < n → wY_needs_2 post (nI o) (nI tc) (nI oc) (nI mc) (nI lim) (nI nh) (lN ck) st pl am ar ow dp ho hs ky sy ba n (nI i) := by
    intro k
    induction k with
    | zero =>
      intro i hi hb n hn
      cases n with
      | zero => omega
      | succ n =>
        have nl : ¬ ∃ t, t < tc ∧ pl t = nI o ∧ ¬ st t = 0 ∧ ¬ st t = 1 := fun ⟨t, h1, h2⟩ => hb t (by omega) h2
        have w67 : (ow o = -1 ∨ hs o = -1) → wY_needs_67 post (nI o) (nI tc) (nI oc) (nI mc) (nI lim) (nI nh) (lN ck) st pl am ar ow dp ho hs ky sy ba := by
          intro q
          unfold wY_needs_67
          refine And.intro io ?_
          rw [co]
          by_cases y : dp o ≤ 4
          · exact br_t y (no (fun n => n.elim nl (fun n => n.elim (fun n => q.elim n.1 n.2) (fun n => n y))))
          · exact br_f y (yes (Or.inr (Or.inr y)))
        refine br_t (nI_le (by omega) (by omega)) (And.intro io ?_)
        rw [co]
        by_cases q1 : ow o = -1
        · exact br_t q1 (w67 (Or.inl q1))
        · refine br_f q1 (And.intro io ?_)
          by_cases q2 : hs o = -1
          · exact br_t q2 (w67 (Or.inr q2))
          · exact br_f q2 (yes (Or.inr (Or.inl ⟨q1, q2⟩)))
    | succ k ih =>
      intro i hi hb n hn
      cases n with
      | zero => omega
      | succ n =>
        have i8 : vp_in (nI i) 8 := vp_in_nI (by omega) (by decide)
        have ci : (nI i).toNatClampNeg = i := nI_clamp (by omega)
        have nxt : ¬ (pl i = nI o ∧ ¬ st i = 0 ∧ ¬ st i = 1) → wY_needs_2 post (nI o) (nI tc) (nI oc) (nI mc) (nI lim) (nI nh) (lN ck) st pl am ar ow dp ho hs ky sy ba n (nI (i + 1)) := fun q =>
          ih (i + 1) (by omega) (fun t ht => by
            rcases Nat.lt_or_ge t i with y | y
            · exact hb t y
            · have : t = i := by omega
              rw [this]; exact q) n (by omega)
        refine br_f (nI_ge (by omega) (by omega)) (And.intro i8 ?_)
        rw [ci]
        by_cases q1 : pl i = nI o
        · refine br_t q1 (And.intro i8 ?_)
          by_cases q2 : st i = 0
          · exact br_t q2 (fun a ea => by rw [ea, nI_1]; exact nxt (fun q => q.2.1 q2))
          · refine br_f q2 (And.intro i8 ?_)
            by_cases q3 : st i = 1
            · exact br_t q3 (fun a ea => by rw [ea, nI_1]; exact nxt (fun q => q.2.2 q3))
            · exact br_f q3 (yes (Or.inl ⟨i, by omega, q1, q2, q3⟩))
        · exact br_f q1 (fun a ea => by rw [ea, nI_1]; exact nxt (fun q => q1 q.1))
  unfold wpY_needs
  exact Exists.intro (tc + 1) (go tc 0 (by omega) (fun t ht => by omega) _ (by omega))
theorem il_yCount (htc : tc ≤ 8) (hoc : oc ≤ 16) (K : post (nI (cn (il_nd tc st pl ow dp hs) oc))) : wpY_countUsed post (nI tc, nI oc, nI mc, nI lim, nI nh, lN ck, st, pl, am, ar, ow, dp, ho, hs, ky, sy, ba) := by
  have go : ∀ k i, i + k = oc → ∀ n, k < n → wY_countUsed_4 post (nI tc) (nI oc) (nI mc) (nI lim) (nI nh) (lN ck) st pl am ar ow dp ho hs ky sy ba n (nI (cn (il_nd tc st pl ow dp hs) i)) (nI i) := by
    intro k
    induction k with
    | zero =>
      intro i hi n hn
      cases n with
      | zero => omega
      | succ n =>
        have e : i = oc := by omega
        exact br_t (nI_le (by omega) (by omega)) (by rw [e]; exact K)
    | succ k ih =>
      intro i hi n hn
      cases n with
      | zero => omega
      | succ n =>
        refine br_f (nI_ge (by omega) (by omega)) (il_yNeeds htc (by omega) ?_)
        have ih' := ih (i + 1) (by omega) n (by omega)
        rcases Classical.em (il_nd tc st pl ow dp hs i) with z | z
        · refine br_f (by rw [il_i0]; exact fun q => q z) (fun a ea b eb => ?_)
          simp only [cn, b01_t z] at ih'
          rw [ea, eb, nI_1, nI_1]; exact ih'
        · refine br_t (il_i0.mpr z) (fun b eb => ?_)
          simp only [cn, b01_f z, Nat.add_zero] at ih'
          rw [eb, nI_1]; exact ih'
  unfold wpY_countUsed
  exact Exists.intro (oc + 1) (go oc 0 (by omega) _ (by omega))
theorem il_yShort (R : (il_R tc oc mc lim nh ck hd kx sx ep mo mw md mh nx pv st pl am ar ow dp ho hs ky sy ba)) (h : o < oc) (K : post (il_i (¬ il_fat mc (hd o) ∧ cn (il_bz tc oc mo st pl ow dp hs) mc = mc))) : wpY_isShort post (nI tc, nI oc, nI mc, nI lim, nI nh, lN ck, st, pl, am, ar, ow, dp, ho, hs, ky, sy, ba) (nI o) := by
  have R0 := R
  obtain ⟨⟨d1, d2, d3, d4, d5, d6, d7, d8, d9⟩, B, H⟩ := R
  have ce := il_cnt_eq R0
  have cl := cn_le (il_bz tc oc mo st pl ow dp hs) mc
  unfold wpY_isShort
  refine il_yNeeds d2 (by omega) ?_
  rcases Classical.em (il_nd tc st pl ow dp hs o) with z | z
  · refine br_f (by rw [il_i0]; exact fun q => q z) ?_
    rw [il_if (fun q => q.1 (il_nd_fat R0 h z))] at K; exact K
  · refine br_t (il_i0.mpr z) (il_yCount d2 d4 ?_)
    rw [← ce]
    by_cases y : cn (il_bz tc oc mo st pl ow dp hs) mc = mc
    · refine br_t (by rw [y]) ?_
      have nf : ¬ il_fat mc (hd o) := by
        rintro ⟨m, hm, e⟩
        obtain ⟨o', h1, h2, h3⟩ := cn_full y m hm
        have f := (il_S_fat d2 d6 (B.1 o h) hm e).1
        have : o' = o := il_inj (h2.symm.trans f)
        rw [this] at h3; exact z h3
      rw [il_it ⟨nf, y⟩] at K; exact K
    · refine br_f (fun q => y (il_inj q)) ?_
      rw [il_if (fun q => y q.2)] at K; exact K
/-- not short: it has a monitor, or some monitor isn't busy -/
theorem il_room (n : ¬ (¬ il_fat mc (hd o) ∧ cn (il_bz tc oc mo st pl ow dp hs) mc = mc)) : il_fat mc (hd o) ∨ ∃ m, m < mc ∧ ¬ il_bz tc oc mo st pl ow dp hs m := by
  rcases Classical.em (il_fat mc (hd o)) with z | z
  · exact Or.inl z
  · rcases Classical.em (∃ m, m < mc ∧ ¬ il_bz tc oc mo st pl ow dp hs m) with y | y
    · exact Or.inr y
    · refine absurd ⟨z, cn_all (fun k hk => ?_)⟩ n
      rcases Classical.em (il_bz tc oc mo st pl ow dp hs k) with x | x
      · exact x
      · exact absurd ⟨k, hk, x⟩ y
end
end
section
/-! X: the small writers -/
section
variable {g0 g1 g2 g3 : Int32} {tc oc mc lim nh : Nat} {hd kx sx ep mo mw md mh nx pv st pl am : Nat → Int32}
variable {ck : Nat} {ar : Nat → Int64} {ow dp ho hs ky sy ba : Nat → Int32}
variable {o m : Nat}
theorem il_xRevoke {MO : Nat → Int32} {E qo qd qh qs : Int32} {post : SX → Prop} (o16 : o < 16) (htc : tc ≤ 8) (hmc : mc ≤ 8) (S : il_S tc mc MO mw md mh E (hd o) o qo qd qh qs) (K : post (g0, g1, g2, g3, nI tc, nI oc, nI mc, nI lim, nI nh, upd hd o (il_rv (hd o)), kx, sx, ep, mo, mw, md, mh, nx, pv, st, pl, am)) : wpX_revoke post (g0, g1, g2, g3, nI tc, nI oc, nI mc, nI lim, nI nh, hd, kx, sx, ep, mo, mw, md, mh, nx, pv, st, pl, am) (nI o) := by
  have S0 := S
  obtain ⟨w, d, n, ⟨h1, h2, h3, h4, h5, h6, h7⟩, C⟩ := S
  have io : vp_in (nI o) 16 := vp_in_nI o16 (by decide)
  have co : (nI o).toNatClampNeg = o := nI_clamp (by omega)
  have same : ¬ hd o &&& 3 = 1 → wpX_revoke post (g0, g1, g2, g3, nI tc, nI oc, nI mc, nI lim, nI nh, hd, kx, sx, ep, mo, mw, md, mh, nx, pv, st, pl, am) (nI o) := fun t => by
    unfold wpX_revoke
    refine il_xTag o16 (br_f t ?_)
    rw [show il_rv (hd o) = hd o from if_neg t, il_us] at K
    exact K
  rcases C with ⟨a, b, c⟩ | ⟨a, b, v, e, e0, c1, c2, c3, c4, c5, c6, c7, c8⟩ | ⟨a, b, b2, c, c5⟩ | ⟨m, y1, y2, y3, y4⟩
  · exact same (by rw [c, (il_nw h3).1]; decide)
  · obtain ⟨w1, w2, w3, w4⟩ := il_hw (g := 1) (d := d) (w := v) (e := e0) (by omega) (by omega) (by omega) (by omega)
    rw [← c5] at w1 w2 w3 w4
    unfold wpX_revoke
    refine il_xTag o16 (br_t w1 (il_xDepth o16 htc hmc S0 ?_))
    rcases Nat.decEq d 0 with z | z
    · refine br_f (by rw [h6]; exact nI_ne0 (by omega) (by omega)) (And.intro io (And.intro io (fun a ea => ?_)))
      have e1 : il_rv (hd o) = (hd o &&& 508) ||| 2 := by
        unfold il_rv; rw [if_pos (show hd o &&& 3 = 1 from w1), w2, if_neg (nI_ne0 (by omega) (by omega))]
      rw [e1] at K
      rw [ea, co]; exact K
    · refine br_t (by rw [h6, z]; rfl) (And.intro io (fun a ea => ?_))
      have e1 : il_rv (hd o) = 0 := by
        unfold il_rv; rw [if_pos (show hd o &&& 3 = 1 from w1), w2, z]; exact if_pos rfl
      rw [e1] at K
      rw [ea, co]; exact K
  · exact same (by rw [c5, (il_hw (by omega) (by omega) (by omega) (by omega)).1]; decide)
  · exact same (by rw [y3, (il_fw (by omega)).1]; decide)
theorem il_xClose {post : SX → Prop} (htc : tc ≤ 8) (hmc : mc ≤ 8) (hoc : oc ≤ 16) (B : (il_B tc oc mc lim hd kx sx ep mo mw md mh ow dp ho hs ky sy ba)) (h : o < oc) (K : post (g0, g1, g2, g3, nI tc, nI oc, nI mc, nI lim, nI nh, upd hd o (il_rv (hd o)), kx, il_cs lim ho kx sx o, ep, mo, mw, md, mh, nx, pv, st, pl, am)) : wpX_close post (g0, g1, g2, g3, nI tc, nI oc, nI mc, nI lim, nI nh, hd, kx, sx, ep, mo, mw, md, mh, nx, pv, st, pl, am) (nI o) := by
  have o16 : o < 16 := by omega
  have io : vp_in (nI o) 16 := vp_in_nI o16 (by decide)
  have co : (nI o).toNatClampNeg = o := nI_clamp (by omega)
  obtain ⟨k, hk, e1, e2⟩ := B.2.1 o h
  have ik : vp_in (kx o) 3 := by rw [e1]; exact vp_in_nI hk (by decide)
  have rv : ∀ s : Nat → Int32, post (g0, g1, g2, g3, nI tc, nI oc, nI mc, nI lim, nI nh, upd hd o (il_rv (hd o)), kx, s, ep, mo, mw, md, mh, nx, pv, st, pl, am) → wX_close_40 post (nI o) g0 g1 g2 g3 (nI tc) (nI oc) (nI mc) (nI lim) (nI nh) hd kx s ep mo mw md mh nx pv st pl am := fun s K => by
    unfold wX_close_40
    exact il_xRevoke o16 htc hmc (B.1 o h) K
  unfold wpX_close
  refine And.intro io (fun x ex => ?_)
  rw [co] at ex
  subst ex
  refine il_xHome o16 htc hmc hk e1 (B.1 o h) ?_
  unfold il_cs at K
  by_cases z : ho o < 0
  · rw [if_pos z] at K
    exact br_t z (rv sx K)
  · rw [if_neg z] at K
    refine br_f z (And.intro ik ?_)
    by_cases y : 2 * nI lim ≤ sx (kx o).toNatClampNeg
    · rw [if_pos y] at K
      exact br_t y (rv sx K)
    · rw [if_neg y] at K
      exact br_f y (And.intro ik (And.intro ik (fun a ea => by rw [ea]; exact rv _ K)))
theorem il_xDefl {post : SX → Prop} (m8 : m < 8) (o16 : o < 16) (em : mo m = nI o) (K : post (g0, g1, g2, g3, nI tc, nI oc, nI mc, nI lim, nI nh, upd hd o (il_df (mw m) (md m) (mh m)), kx, sx, ep, mo, mw, md, mh, nx, pv, st, pl, am)) : wpX_deflate post (g0, g1, g2, g3, nI tc, nI oc, nI mc, nI lim, nI nh, hd, kx, sx, ep, mo, mw, md, mh, nx, pv, st, pl, am) (nI m) := by
  have im : vp_in (nI m) 8 := vp_in_nI m8 (by decide)
  have cm : (nI m).toNatClampNeg = m := nI_clamp (by omega)
  have io : vp_in (nI o) 16 := vp_in_nI o16 (by decide)
  have co : (nI o).toNatClampNeg = o := nI_clamp (by omega)
  unfold wpX_deflate
  refine And.intro im (fun x ex => And.intro im ?_)
  rw [cm] at ex
  subst ex
  rw [cm]
  unfold il_df at K
  by_cases z : mw m = -1
  · rw [if_pos z] at K
    refine br_t z (And.intro im ?_)
    unfold wpX_packHash
    refine And.intro (by rw [em]; exact io) (fun a ea => ?_)
    rw [ea, em, co]; exact K
  · rw [if_neg z] at K
    refine br_f z (And.intro im ?_)
    unfold wpX_packLock
    refine And.intro (by rw [em]; exact io) (fun a ea => ?_)
    rw [ea, em, co]; exact K
/-- the words behind taking monitor m -/
def il_tk (mo mw md mh hd : Nat → Int32) (m : Nat) : Nat → Int32 := if mo m = -1 then hd else upd hd (mo m).toNatClampNeg (il_df (mw m) (md m) (mh m))
theorem il_xTakeM (R : (il_R tc oc mc lim nh ck hd kx sx ep mo mw md mh nx pv st pl am ar ow dp ho hs ky sy ba)) (hx : ∃ m, m < mc ∧ ¬ il_bz tc oc mo st pl ow dp hs m) : ∃ m, m < mc ∧ ¬ il_bz tc oc mo st pl ow dp hs m ∧ ∀ post : Int32 → SX → Prop, post (nI m) (g0, g1, g2, g3, nI tc, nI oc, nI mc, nI lim, nI nh, il_tk mo mw md mh hd m, kx, sx, ep, mo, mw, md, mh, nx, pv, st, pl, am) → wpX_takeMonitor post (g0, g1, g2, g3, nI tc, nI oc, nI mc, nI lim, nI nh, hd, kx, sx, ep, mo, mw, md, mh, nx, pv, st, pl, am) := by
  have R0 := R
  obtain ⟨⟨d1, d2, d3, d4, d5, d6, d7, d8, d9⟩, B, H⟩ := R
  have go : ∀ k i x, i + k = mc → (∀ j, j < i → ¬ mo j = -1) → ((∃ j, j < i ∧ ¬ il_bz tc oc mo st pl ow dp hs j) → x < i ∧ ¬ il_bz tc oc mo st pl ow dp hs x) →
      ∃ m, m < mc ∧ ¬ il_bz tc oc mo st pl ow dp hs m ∧ ∀ post : Int32 → SX → Prop, post (nI m) (g0, g1, g2, g3, nI tc, nI oc, nI mc, nI lim, nI nh, il_tk mo mw md mh hd m, kx, sx, ep, mo, mw, md, mh, nx, pv, st, pl, am) → ∀ n, k < n → wX_takeMonitor_4 post g0 g1 g2 g3 (nI tc) (nI oc) (nI mc) (nI lim) (nI nh) hd kx sx ep mo mw md mh nx pv st pl am n (nI x) (nI i) := by
    intro k
    induction k with
    | zero =>
      intro i x hi hb hl
      have e : i = mc := by omega
      obtain ⟨x1, x2⟩ := hl (by rw [e]; exact hx)
      refine ⟨x, by omega, x2, fun post K n hn => ?_⟩
      cases n with
      | zero => omega
      | succ n =>
        refine br_t (nI_le (by omega) (by omega)) ?_
        rcases B.2.2.2 x (by omega) with q | ⟨j, hj, e1, e2⟩
        · exact absurd q (hb x x1)
        · unfold il_tk at K
          rw [if_neg (hb x x1), e1, nI_clamp (by omega)] at K
          exact il_xDefl (by omega) (by omega) e1 K
    | succ k ih =>
      intro i x hi hb hl
      have ii : vp_in (nI i) 8 := vp_in_nI (by omega) (by decide)
      have ci : (nI i).toNatClampNeg = i := nI_clamp (by omega)
      by_cases q : mo i = -1
      · have nb : ¬ il_bz tc oc mo st pl ow dp hs i := fun ⟨o', h1, h2, h3⟩ => (il_nn (q := o') (by omega)).1 (h2.symm.trans q)
        refine ⟨i, by omega, nb, fun post K n hn => ?_⟩
        cases n with
        | zero => omega
        | succ n =>
          refine br_f (nI_ge (by omega) (by omega)) (And.intro ii ?_)
          rw [ci]
          unfold il_tk at K
          rw [if_pos q] at K
          exact br_t q K
      · have hb' : ∀ j, j < i + 1 → ¬ mo j = -1 := fun j hj => by
          rcases Nat.lt_or_ge j i with y | y
          · exact hb j y
          · have : j = i := by omega
            rw [this]; exact q
        rcases Classical.em (il_bz tc oc mo st pl ow dp hs i) with z | z
        · obtain ⟨m, m1, m2, m3⟩ := ih (i + 1) x (by omega) hb' (fun ⟨j, j1, j2⟩ => by
            have : j ≠ i := fun e => j2 (by rw [e]; exact z)
            obtain ⟨y1, y2⟩ := hl ⟨j, by omega, j2⟩
            exact ⟨by omega, y2⟩)
          refine ⟨m, m1, m2, fun post K n hn => ?_⟩
          cases n with
          | zero => omega
          | succ n =>
            refine br_f (nI_ge (by omega) (by omega)) (And.intro ii ?_)
            rw [ci]
            refine br_f q (il_xBusy R0 (by omega) (br_f (by rw [il_i0]; exact fun y => y z) (fun a ea => ?_)))
            rw [ea, nI_1]; exact m3 post K n (by omega)
        · obtain ⟨m, m1, m2, m3⟩ := ih (i + 1) i (by omega) hb' (fun _ => ⟨by omega, z⟩)
          refine ⟨m, m1, m2, fun post K n hn => ?_⟩
          cases n with
          | zero => omega
          | succ n =>
            refine br_f (nI_ge (by omega) (by omega)) (And.intro ii ?_)
            rw [ci]
            refine br_f q (il_xBusy R0 (by omega) (br_t (il_i0.mpr z) (fun a ea => ?_)))
            rw [ea, nI_1]; exact m3 post K n (by omega)
  obtain ⟨m, m1, m2, m3⟩ := go mc 0 0 (by omega) (fun j hj => by omega) (fun ⟨j, hj, _⟩ => by omega)
  refine ⟨m, m1, m2, fun post K => ?_⟩
  unfold wpX_takeMonitor
  exact Exists.intro (mc + 1) (m3 post K _ (by omega))
theorem il_xSetT {t : Nat} {s p a : Int32} {post : SX → Prop} (t8 : t < 8) (K : post (g0, g1, g2, g3, nI tc, nI oc, nI mc, nI lim, nI nh, hd, kx, sx, ep, mo, mw, md, mh, nx, pv, upd st t s, upd pl t p, upd am t a)) : wpX_setThread post (g0, g1, g2, g3, nI tc, nI oc, nI mc, nI lim, nI nh, hd, kx, sx, ep, mo, mw, md, mh, nx, pv, st, pl, am) (nI t) s p a := by
  have it : vp_in (nI t) 8 := vp_in_nI t8 (by decide)
  have ct : (nI t).toNatClampNeg = t := nI_clamp (by omega)
  unfold wpX_setThread
  refine And.intro it (fun x ex => And.intro it (fun y ey => And.intro it (fun w ew => ?_)))
  rw [ex, ey, ew, ct]; exact K
theorem il_xApp {t x q : Nat} {post : SX → Prop} (t24 : t < 24) (x24 : x < 24) (q24 : q < 24) (tx : t ≠ x) (eq1 : pv x = nI q) (K : post (g0, g1, g2, g3, nI tc, nI oc, nI mc, nI lim, nI nh, hd, kx, sx, ep, mo, mw, md, mh, upd (upd nx t (nI x)) q (nI t), upd (upd pv t (nI q)) x (nI t), st, pl, am)) : wpX_append post (g0, g1, g2, g3, nI tc, nI oc, nI mc, nI lim, nI nh, hd, kx, sx, ep, mo, mw, md, mh, nx, pv, st, pl, am) (nI t) (nI x) := by
  have it : vp_in (nI t) 24 := vp_in_nI t24 (by decide)
  have ix : vp_in (nI x) 24 := vp_in_nI x24 (by decide)
  have iq : vp_in (nI q) 24 := vp_in_nI q24 (by decide)
  have ct : (nI t).toNatClampNeg = t := nI_clamp (by omega)
  have cx : (nI x).toNatClampNeg = x := nI_clamp (by omega)
  have cq : (nI q).toNatClampNeg = q := nI_clamp (by omega)
  have e1 : upd pv t (nI q) x = nI q := by rw [pk_un (Ne.symm tx)]; exact eq1
  unfold wpX_append
  refine And.intro ix (And.intro it (fun a1 ea1 => And.intro it (fun a2 ea2 => And.intro ix ?_)))
  rw [ct, cx, eq1] at ea1
  rw [ct] at ea2
  subst ea1 ea2
  rw [cx, e1]
  refine And.intro iq (fun a3 ea3 => And.intro ix (fun a4 ea4 => ?_))
  rw [cq] at ea3
  subst ea3 ea4
  exact K
theorem il_xUnl {t p q : Nat} {post : SX → Prop} (t24 : t < 24) (p24 : p < 24) (q24 : q < 24) (ep1 : pv t = nI p) (eq1 : nx t = nI q) (K : post (g0, g1, g2, g3, nI tc, nI oc, nI mc, nI lim, nI nh, hd, kx, sx, ep, mo, mw, md, mh, upd nx p (nI q), upd pv q (nI p), st, pl, am)) : wpX_unlink post (g0, g1, g2, g3, nI tc, nI oc, nI mc, nI lim, nI nh, hd, kx, sx, ep, mo, mw, md, mh, nx, pv, st, pl, am) (nI t) := by
  have it : vp_in (nI t) 24 := vp_in_nI t24 (by decide)
  have ip : vp_in (nI p) 24 := vp_in_nI p24 (by decide)
  have iq : vp_in (nI q) 24 := vp_in_nI q24 (by decide)
  have ct : (nI t).toNatClampNeg = t := nI_clamp (by omega)
  have cp : (nI p).toNatClampNeg = p := nI_clamp (by omega)
  have cq : (nI q).toNatClampNeg = q := nI_clamp (by omega)
  have e1 : upd nx p (nI q) t = nI q := by
    unfold upd; split
    · rfl
    · exact eq1
  unfold wpX_unlink
  refine And.intro it (And.intro it ?_)
  rw [ct, ep1, eq1, cp]
  refine And.intro ip (fun a1 ea1 => And.intro it (And.intro it ?_))
  subst ea1
  rw [e1]
  refine And.intro iq (fun a2 ea2 => ?_)
  rw [cq] at ea2
  subst ea2
  exact K
end
end
section
/-! X: inflate and setLock, with the relation behind them -/
section
variable {g0 g1 g2 g3 : Int32} {tc oc mc lim nh : Nat} {hd kx sx ep mo mw md mh nx pv st pl am : Nat → Int32}
variable {ck : Nat} {ar : Nat → Int64} {ow dp ho hs ky sy ba : Nat → Int32}
variable {o m : Nat}
theorem il_R_close (R : (il_R tc oc mc lim nh ck hd kx sx ep mo mw md mh nx pv st pl am ar ow dp ho hs ky sy ba)) (h : o < oc) : (il_R tc oc mc lim nh ck (upd hd o (il_rv (hd o))) kx (il_cs lim ho kx sx o) ep mo mw md mh nx pv st pl am ar ow dp (upd ho o (-2)) hs ky (il_cs lim ho ky sy o) ba) := by
  obtain ⟨⟨d1, d2, d3, d4, d5, d6, d7, d8, d9⟩, B, H⟩ := R
  exact ⟨⟨d1, d2, d3, d4, d5, d6, d7, d8, d9⟩, il_B_close d2 d6 d4 d8 B h, H⟩
theorem il_nolined (R : (il_R tc oc mc lim nh ck hd kx sx ep mo mw md mh nx pv st pl am ar ow dp ho hs ky sy ba)) (h : o < oc) (nf : ¬ il_fat mc (hd o)) : ∀ t, t < tc → il_q (st t) → ¬ pl t = nI o := fun t ht q e =>
  nf (il_nd_fat R h (Or.inl ⟨t, ht, e, (il_q01 q).1, (il_q01 q).2⟩))
theorem il_lined_pos (R : (il_R tc oc mc lim nh ck hd kx sx ep mo mw md mh nx pv st pl am ar ow dp ho hs ky sy ba)) : ∀ t, t < tc → il_q (st t) → ¬ pl t = -1 := fun t ht q e => by
  obtain ⟨⟨d1, d2, d3, d4, d5, d6, d7, d8, d9⟩, B, T, H⟩ := R
  obtain ⟨o, h1, h2⟩ := il_T_pl (T t ht) (il_q01 q).1
  exact (il_nn (q := o) (by omega)).1 (h2.symm.trans e)
theorem il_tk_o (hoc : oc ≤ 16) (B : (il_B tc oc mc lim hd kx sx ep mo mw md mh ow dp ho hs ky sy ba)) (h : o < oc) (nf : ¬ il_fat mc (hd o)) (hm : m < mc) : il_tk mo mw md mh hd m o = hd o := by
  unfold il_tk
  rcases B.2.2.2 m hm with q | ⟨j, hj, e1, e2⟩
  · rw [if_pos q]
  · rw [if_neg (fun q => (il_nn (q := j) (by omega)).1 (e1.symm.trans q)), e1, nI_clamp (by omega), pk_un (fun e => nf ⟨m, hm, by rw [e]; exact e2⟩)]
/-- the relation behind taking monitor m for o -/
theorem il_R_infl (R : (il_R tc oc mc lim nh ck hd kx sx ep mo mw md mh nx pv st pl am ar ow dp ho hs ky sy ba)) (h : o < oc) (nf : ¬ il_fat mc (hd o)) (hc : ho o = -2) (hm : m < mc) (nb : ¬ il_bz tc oc mo st pl ow dp hs m) :
    (il_R tc oc mc lim nh ck (upd (il_tk mo mw md mh hd m) o (nI (4 * m + 3))) kx sx ep (upd mo m (nI o)) (upd mw m (ow o)) (upd md m (dp o)) (upd mh m (hs o)) nx pv st pl am ar ow dp ho hs ky sy ba) := by
  have R0 := R
  obtain ⟨⟨d1, d2, d3, d4, d5, d6, d7, d8, d9⟩, B, H⟩ := R
  have nl := il_nolined R0 h nf
  have lp := il_lined_pos R0
  refine ⟨⟨d1, d2, d3, d4, d5, d6, d7, d8, d9⟩, ?_⟩
  have eo := il_tk_o d4 B h nf hm
  rcases B.2.2.2 m hm with q | ⟨j, hj, e1, e2⟩
  · have et : il_tk mo mw md mh hd m = hd := if_pos q
    rw [et]
    exact ⟨il_B_att d2 d6 d4 B hm h q nf hc, il_H_mo H (fun t ht hq e => lp t ht hq (e.trans q)) nl⟩
  · have nj : ¬ il_nd tc st pl ow dp hs j := fun n => nb ⟨j, hj, e1, n⟩
    have et : il_tk mo mw md mh hd m = upd hd j (il_df (mw m) (md m) (mh m)) := by
      unfold il_tk
      rw [if_neg (fun q => (il_nn (q := j) (by omega)).1 (e1.symm.trans q)), e1, nI_clamp (by omega)]
    rw [et] at eo ⊢
    have h4 : dp j ≤ 4 := by
      rcases Classical.em (dp j ≤ 4) with z | z
      · exact z
      · exact absurd (Or.inr (Or.inr z)) nj
    have hl : ow j = -1 ∨ hs j = -1 := by
      rcases Classical.em (ow j = -1) with z | z
      · exact Or.inl z
      · rcases Classical.em (hs j = -1) with y | y
        · exact Or.inr y
        · exact absurd (Or.inr (Or.inl ⟨z, y⟩)) nj
    have B1 := il_B_defl d2 d6 d4 B hm hj e1 h4 hl
    have H1 := il_H_mo H (m := m) (x := -1) (fun t ht hq e => nj (Or.inl ⟨t, ht, e.trans e1, (il_q01 hq).1, (il_q01 hq).2⟩)) lp
    have B2 := il_B_att d2 d6 d4 B1 hm h pk_us (by rw [eo]; exact nf) hc
    have H2 := il_H_mo H1 (m := m) (x := nI o) (fun t ht hq e => lp t ht hq (by rw [pk_us] at e; exact e)) nl
    rw [il_uu] at B2 H2
    exact ⟨B2, H2⟩
theorem il_xInfl (R : (il_R tc oc mc lim nh ck hd kx sx ep mo mw md mh nx pv st pl am ar ow dp ho hs ky sy ba)) (h : o < oc) (rm : il_fat mc (hd o) ∨ ∃ m, m < mc ∧ ¬ il_bz tc oc mo st pl ow dp hs m) :
    ∃ (m : Nat) (hd' mo' mw' md' mh' : Nat → Int32), m < mc ∧ hd' o = nI (4 * m + 3) ∧ (il_R tc oc mc lim nh ck hd' kx (il_cs lim ho kx sx o) ep mo' mw' md' mh' nx pv st pl am ar ow dp (upd ho o (-2)) hs ky (il_cs lim ho ky sy o) ba) ∧
      ∀ post : Int32 → SX → Prop, post (nI m) (g0, g1, g2, g3, nI tc, nI oc, nI mc, nI lim, nI nh, hd', kx, il_cs lim ho kx sx o, ep, mo', mw', md', mh', nx, pv, st, pl, am) → wpX_inflate post (g0, g1, g2, g3, nI tc, nI oc, nI mc, nI lim, nI nh, hd, kx, sx, ep, mo, mw, md, mh, nx, pv, st, pl, am) (nI o) := by
  have R0 := R
  obtain ⟨⟨d1, d2, d3, d4, d5, d6, d7, d8, d9⟩, B, H⟩ := R
  have o16 : o < 16 := by omega
  have io : vp_in (nI o) 16 := vp_in_nI o16 (by decide)
  have co : (nI o).toNatClampNeg = o := nI_clamp (by omega)
  rcases Classical.em (il_fat mc (hd o)) with ft | nf
  · obtain ⟨m, hm, e⟩ := ft
    have f := il_S_fat d2 d6 (B.1 o h) hm e
    obtain ⟨w1, w2⟩ := il_fw (m := m) (by omega)
    rw [← e] at w1 w2
    have c1 : il_cs lim ho kx sx o = sx := if_pos (by rw [f.2.2.2.2]; exact il_m2)
    have c2 : il_cs lim ho ky sy o = sy := if_pos (by rw [f.2.2.2.2]; exact il_m2)
    have c3 : upd ho o (-2) = ho := il_ue f.2.2.2.2
    refine ⟨m, hd, mo, mw, md, mh, hm, e, by rw [c1, c2, c3]; exact R0, fun post K => ?_⟩
    rw [c1] at K
    unfold wpX_inflate
    refine il_xTag o16 (br_t w1 (il_xPay o16 ?_))
    rw [w2]; exact K
  · have rm' : ∃ m, m < mc ∧ ¬ il_bz tc oc mo st pl ow dp hs m := rm.elim (fun q => absurd q nf) id
    have R1 := il_R_close R0 h
    obtain ⟨r1, r2⟩ := il_S_rv d2 d6 (B.1 o h)
    have nf1 : ¬ il_fat mc (upd hd o (il_rv (hd o)) o) := by
      rw [pk_us]
      rintro ⟨k, hk, e⟩
      have B1 := R1.2.1
      have f := (il_S_fat d2 d6 (B1.1 o h) hk (by rw [pk_us]; exact e)).1
      exact nf ⟨k, hk, il_B_mo d4 B hk h f⟩
    obtain ⟨m, hm, nb, tk⟩ := il_xTakeM (g0 := g0) (g1 := g1) (g2 := g2) (g3 := g3) R1 rm'
    have R2 := il_R_infl R1 h nf1 pk_us hm nb
    have S1 := R1.2.1.1 o h
    have t2 := il_tk_o d4 R1.2.1 h nf1 hm
    rcases il_S_tag d2 d6 (B.1 o h) with ⟨f, t⟩ | ⟨f, t⟩
    · exact absurd f nf
    refine ⟨m, _, _, _, _, _, hm, pk_us, R2, fun post K => ?_⟩
    have im : vp_in (nI m) 8 := vp_in_nI (by omega) (by decide)
    have cm : (nI m).toNatClampNeg = m := nI_clamp (by omega)
    have pkm : (nI m <<< ((2 : Int32) &&& 31)) ||| 3 = nI (4 * m + 3) := il_pkm_all m (by omega)
    unfold wpX_inflate
    refine il_xTag o16 (br_f t (il_xClose d2 d6 d4 B h ?_))
    refine tk _ ?_
    have S2 : ∀ (a b c : Nat → Int32), il_S tc mc mo a b c (ep (kx o).toNatClampNeg) (il_tk mo mw md mh (upd hd o (il_rv (hd o))) m o) o (ow o) (dp o) (upd ho o (-2) o) (hs o) := fun a b c => by
      rw [t2]; exact il_S_nf nf1 S1
    refine il_xOwner o16 d2 d6 (S2 _ _ _) (And.intro im (fun a ea => ?_))
    rw [cm] at ea
    refine il_xDepth o16 d2 d6 (S2 _ _ _) (And.intro im (fun b eb => ?_))
    rw [cm] at eb
    refine il_xHash o16 d2 d6 (S2 _ _ _) (And.intro im (fun c ec => And.intro im (fun d ed => And.intro io (fun e ee => ?_))))
    rw [cm] at ec ed
    rw [co, pkm] at ee
    rw [ea, eb, ec, ed, ee]
    exact K
/-- setLock(o, t, d) -/
theorem il_lock {t d : Nat} {ow' dp' ho' : Nat → Int32} (htc : tc ≤ 8) (hmc : mc ≤ 8) (hoc : oc ≤ 16) (B : (il_B tc oc mc lim hd kx sx ep mo mw md mh ow dp ho hs ky sy ba)) (h : o < oc) (ht : t < tc) (d9 : d ≤ 9) (fx : il_fat mc (hd o) ∨ (d ≤ 4 ∧ hs o = -1))
    (fo : ∀ j, j ≠ o → ow' j = ow j) (eo : ow' o = if d = 0 then -1 else nI t) (fd : ∀ j, j ≠ o → dp' j = dp j) (ed : dp' o = nI d)
    (fp : ∀ j, j ≠ o → ho' j = ho j) (eh : (ho o = -1 ∧ ho' o = nI t) ∨ ((ho o = -2 ∨ ho o = nI t) ∧ ho' o = ho o)) :
    ∃ hd' mw' md' : Nat → Int32, (il_B tc oc mc lim hd' kx sx ep mo mw' md' mh ow' dp' ho' hs ky sy ba) ∧
      ∀ (nh : Nat) (nx pv st pl am : Nat → Int32) (post : SX → Prop), post (g0, g1, g2, g3, nI tc, nI oc, nI mc, nI lim, nI nh, hd', kx, sx, ep, mo, mw', md', mh, nx, pv, st, pl, am) → wpX_setLock post (g0, g1, g2, g3, nI tc, nI oc, nI mc, nI lim, nI nh, hd, kx, sx, ep, mo, mw, md, mh, nx, pv, st, pl, am) (nI o) (nI t) (nI d) := by
  have o16 : o < 16 := by omega
  have io : vp_in (nI o) 16 := vp_in_nI o16 (by decide)
  have co : (nI o).toNatClampNeg = o := nI_clamp (by omega)
  have hb : ho o = -2 → ho' o = -2 := fun q => by
    rcases eh with ⟨a, b⟩ | ⟨a, b⟩
    · rw [q] at a; exact absurd a (by decide)
    · rw [b]; exact q
  obtain ⟨k, hk, e1, e2⟩ := B.2.1 o h
  have ik : vp_in (kx o) 3 := by rw [e1]; exact vp_in_nI hk (by decide)
  rcases Classical.em (il_fat mc (hd o)) with ft | nf
  · obtain ⟨m, hm, e⟩ := ft
    have f := il_S_fat htc hmc (B.1 o h) hm e
    obtain ⟨w1, w2⟩ := il_fw (m := m) (by omega)
    rw [← e] at w1 w2
    have im : vp_in (nI m) 8 := vp_in_nI (by omega) (by decide)
    have cm : (nI m).toNatClampNeg = m := nI_clamp (by omega)
    refine ⟨hd, upd mw m (ow' o), upd md m (dp' o), ?_, fun nh nx pv st pl am post K => ?_⟩
    · refine il_B_keep (o := o) B (fun _ _ => rfl) fo fd fp (fun _ _ => rfl) (fun k hk z => ?_) (by omega) (by omega) ?_ (fun _ _ q => q) hb
      · have : k ≠ m := fun q => z (by rw [q]; exact f.1)
        rw [pk_un this, pk_un this]; exact ⟨rfl, rfl, rfl⟩
      · obtain ⟨w, d0, n, ⟨h1, h2, h3, h4, h5, h6, h7⟩, C⟩ := B.1 o h
        refine ⟨if d = 0 then 0 else t + 1, d, n, ⟨?_, d9, h3, ?_, ?_, ed, h7⟩, Or.inr (Or.inr (Or.inr ⟨m, hm, hb f.2.2.2.2, e, f.1, pk_us, pk_us, f.2.2.2.1⟩))⟩
        · split <;> omega
        · split <;> omega
        · rw [eo]; split
          · exact il_p0.symm
          · exact (il_ps t).symm
    · unfold wpX_setLock
      refine il_xTag o16 (br_t w1 (il_xPay o16 ?_))
      rw [w2]
      rw [eo, ed] at K
      rcases Nat.decEq d 0 with z | z
      · refine br_f (nI_ne0 (by omega) (by omega)) ?_
        rw [if_neg z] at K
        unfold wX_setLock_31
        refine And.intro im (fun a ea => And.intro im (fun b eb => ?_))
        rw [ea, eb, cm]; exact K
      · refine br_t (by rw [z]; rfl) ?_
        rw [if_pos z] at K
        unfold wX_setLock_31
        refine And.intro im (fun a ea => And.intro im (fun b eb => ?_))
        rw [ea, eb, cm]; exact K
  · obtain ⟨d4, hn⟩ := fx.resolve_left nf
    obtain ⟨s, e, x1, x2, x3, x4, x5⟩ := B.2.2.1 k hk
    have eE : ep (kx o).toNatClampNeg = nI e := by rw [e1, nI_clamp (by omega)]; exact x4
    have S' := il_S_sl (mo' := mo) (mw' := mw) (md' := md) (mh' := mh) (qh' := ho' o) htc hmc ht d4 nf ⟨e, x2, eE⟩ (B.1 o h) hn eh
    rcases il_S_tag htc hmc (B.1 o h) with ⟨f, t3⟩ | ⟨f, t3⟩
    · exact absurd f nf
    refine ⟨upd hd o (il_sl (hd o) (ep (kx o).toNatClampNeg) t d), mw, md, ?_, fun nh nx pv st pl am post K => ?_⟩
    · refine il_B_keep (o := o) B (fun j z => pk_un z) fo fd fp (fun _ _ => rfl) (fun _ _ _ => ⟨rfl, rfl, rfl⟩) (by omega) (by omega) ?_ (fun m hm q => absurd ⟨m, hm, q⟩ nf) hb
      rw [pk_us, eo, ed]; exact S'
    · unfold il_sl at K
      unfold wpX_setLock
      refine il_xTag o16 (br_f t3 (il_xTag o16 ?_))
      by_cases t1 : hd o &&& 3 = 1
      · rw [if_pos t1, eE, nI_clamp (by omega)] at K
        refine br_t t1 ?_
        rw [co]
        refine And.intro io (And.intro ik ?_)
        unfold wpX_packLock
        refine And.intro io (fun a ea => ?_)
        rw [eE, nI_1, show (1 : Int32) = nI 1 from rfl, il_pack (by omega) (by omega) (by omega) (by omega)] at ea
        rw [ea]; exact K
      · rw [if_neg t1] at K
        refine br_f t1 ?_
        rcases Nat.decEq d 0 with z | z
        · rw [if_neg z] at K
          refine br_f (nI_ne0 (by omega) (by omega)) ?_
          unfold wpX_packLock
          refine And.intro io (fun a ea => ?_)
          rw [nI_1, show (2 : Int32) = nI 2 from rfl, show (0 : Int32) = nI 0 from rfl] at ea
          rw [show nI 2 &&& 31 = (2 : Int32) &&& 31 from rfl, il_pack (by omega) (by omega) (by omega) (by omega), co] at ea
          rw [ea]; exact K
        · rw [if_pos z] at K
          refine br_t (by rw [z]; rfl) (And.intro io (fun a ea => ?_))
          rw [ea, co]; exact K
end
end
section
/-! Y: the small writers and the searches -/
section
variable {g0 g1 g2 g3 : Int32} {tc oc mc lim nh : Nat} {hd kx sx ep mo mw md mh nx pv st pl am : Nat → Int32}
variable {ck : Nat} {ar : Nat → Int64} {ow dp ho hs ky sy ba : Nat → Int32}
variable {o m t : Nat}
theorem il_yClose {post : SY → Prop} (o16 : o < 16) (ik : ∃ c, c < 3 ∧ ky o = nI c) (K : post (nI tc, nI oc, nI mc, nI lim, nI nh, lN ck, st, pl, am, ar, ow, dp, upd ho o (-2), hs, ky, il_cs lim ho ky sy o, ba)) : wpY_close post (nI tc, nI oc, nI mc, nI lim, nI nh, lN ck, st, pl, am, ar, ow, dp, ho, hs, ky, sy, ba) (nI o) := by
  have io : vp_in (nI o) 16 := vp_in_nI o16 (by decide)
  have co : (nI o).toNatClampNeg = o := nI_clamp (by omega)
  obtain ⟨c, hc, ec⟩ := ik
  have ik : vp_in (ky o) 3 := by rw [ec]; exact vp_in_nI hc (by decide)
  unfold wpY_close
  refine And.intro io (fun x ex => And.intro io ?_)
  rw [co] at ex
  subst ex
  rw [co]
  unfold il_cs at K
  by_cases z : ho o < 0
  · rw [if_pos z] at K
    exact br_t z (And.intro io (fun a ea => by rw [ea]; exact K))
  · rw [if_neg z] at K
    refine br_f z (And.intro ik ?_)
    by_cases y : 2 * nI lim ≤ sy (ky o).toNatClampNeg
    · rw [if_pos y] at K
      exact br_t y (And.intro io (fun a ea => by rw [ea]; exact K))
    · rw [if_neg y] at K
      exact br_f y (And.intro ik (And.intro ik (fun b eb => And.intro io (fun a ea => by rw [ea, eb]; exact K))))
theorem il_yLine {s p a : Int32} {post : SY → Prop} (t8 : t < 8) (K : post (nI tc, nI oc, nI mc, nI lim, nI nh, lN (ck + 1), upd st t s, upd pl t p, upd am t a, vp_updL ar t (lN (ck + 1)), ow, dp, ho, hs, ky, sy, ba)) : wpY_line post (nI tc, nI oc, nI mc, nI lim, nI nh, lN ck, st, pl, am, ar, ow, dp, ho, hs, ky, sy, ba) (nI t) p s a := by
  have it : vp_in (nI t) 8 := vp_in_nI t8 (by decide)
  have ct : (nI t).toNatClampNeg = t := nI_clamp (by omega)
  unfold wpY_line
  refine And.intro it (fun x ex => And.intro it (fun y ey => And.intro it (fun w ew c ec => And.intro it (fun b eb => ?_))))
  rw [lN_1] at ec
  rw [ex, ey, ew, eb, ec, ct]; exact K
theorem il_yIdle {post : SY → Prop} (t8 : t < 8) (K : post (nI tc, nI oc, nI mc, nI lim, nI nh, lN ck, upd st t 0, upd pl t (-1), upd am t 0, ar, ow, dp, ho, hs, ky, sy, ba)) : wpY_goIdle post (nI tc, nI oc, nI mc, nI lim, nI nh, lN ck, st, pl, am, ar, ow, dp, ho, hs, ky, sy, ba) (nI t) := by
  have it : vp_in (nI t) 8 := vp_in_nI t8 (by decide)
  have ct : (nI t).toNatClampNeg = t := nI_clamp (by omega)
  unfold wpY_goIdle
  refine And.intro it (fun x ex => And.intro it (fun y ey => And.intro it (fun w ew => ?_)))
  rw [ex, ey, ew, ct]; exact K
/-- u stands in t's line, ahead of t -/
def il_bf (st pl : Nat → Int32) (ar : Nat → Int64) (t u : Nat) : Prop := (¬ st u = 0 ∧ ¬ st u = 1 ∧ pl u = pl t) ∧ (st u = 3 ↔ st t = 3) ∧ ar u < ar t
theorem il_y51 {post : Int32 → Prop} {J : Int32 → Int32 → Prop} {u : Nat} {x f : Int32} (t8 : t < 8) (u8 : u < 8) (Hy : ¬ f = 0 → (st u = 3 ↔ st t = 3) → ar u < ar t → J (x + 1) (nI (u + 1))) (Hn : (f = 0 ∨ ¬ (st u = 3 ↔ st t = 3) ∨ ¬ ar u < ar t) → J x (nI (u + 1))) :
    wY_before_51 post J (nI t) x (nI u) f (nI tc) (nI oc) (nI mc) (nI lim) (nI nh) (lN ck) st pl am ar ow dp ho hs ky sy ba := by
  have it : vp_in (nI t) 8 := vp_in_nI t8 (by decide)
  have ct : (nI t).toNatClampNeg = t := nI_clamp (by omega)
  have iu : vp_in (nI u) 8 := vp_in_nI u8 (by decide)
  have cu : (nI u).toNatClampNeg = u := nI_clamp (by omega)
  have one : ¬ (1 : Int32) = 0 := by decide
  have zer : ¬ (0 : Int32) = 1 := by decide
  have w0 : ¬ (st u = 3 ↔ st t = 3) → wY_before_91 post J (nI t) x (nI u) f 0 (nI tc) (nI oc) (nI mc) (nI lim) (nI nh) (lN ck) st pl am ar ow dp ho hs ky sy ba := fun q => by
    unfold wY_before_91
    by_cases z : f = 0
    · exact br_t z (fun a ea => by rw [ea, nI_1]; exact Hn (Or.inl z))
    · exact br_f z (br_t rfl (fun a ea => by rw [ea, nI_1]; exact Hn (Or.inr (Or.inl q))))
  have w1 : (st u = 3 ↔ st t = 3) → wY_before_91 post J (nI t) x (nI u) f 1 (nI tc) (nI oc) (nI mc) (nI lim) (nI nh) (lN ck) st pl am ar ow dp ho hs ky sy ba := fun q => by
    unfold wY_before_91
    by_cases z : f = 0
    · exact br_t z (fun a ea => by rw [ea, nI_1]; exact Hn (Or.inl z))
    · refine br_f z (br_f one (And.intro iu (And.intro it ?_)))
      rw [ct, cu]
      by_cases y : ar t ≤ ar u
      · exact br_t y (fun a ea => by rw [ea, nI_1]; exact Hn (Or.inr (Or.inr (Int64.not_lt.mpr y))))
      · exact br_f y (fun b eb a ea => by rw [eb, ea, nI_1]; exact Hy z q (Int64.not_le.mp y))
  unfold wY_before_51
  refine And.intro iu ?_
  rw [cu]
  by_cases a : st u = 3
  · refine br_t a ?_
    unfold wY_before_68
    refine And.intro it ?_
    rw [ct]
    by_cases b : st t = 3
    · exact br_t b (br_t rfl (w1 ⟨fun _ => b, fun _ => a⟩))
    · exact br_f b (br_f one (w0 (fun q => b (q.mp a))))
  · refine br_f a ?_
    unfold wY_before_68
    refine And.intro it ?_
    rw [ct]
    by_cases b : st t = 3
    · exact br_t b (br_f zer (w0 (fun q => a (q.mpr b))))
    · exact br_f b (br_t rfl (w1 ⟨fun q => absurd q a, fun q => absurd q b⟩))
theorem il_yBefore {post : Int32 → Prop} (htc : tc ≤ 8) (t8 : t < 8) (K : post (nI (cn (il_bf st pl ar t) tc))) : wpY_before post (nI tc, nI oc, nI mc, nI lim, nI nh, lN ck, st, pl, am, ar, ow, dp, ho, hs, ky, sy, ba) (nI t) := by
  have it : vp_in (nI t) 8 := vp_in_nI t8 (by decide)
  have ct : (nI t).toNatClampNeg = t := nI_clamp (by omega)
  have one : ¬ (1 : Int32) = 0 := by decide
  have go : ∀ k i, i + k = tc → ∀ n, k < n → wY_before_4 post (nI t) (nI tc) (nI oc) (nI mc) (nI lim) (nI nh) (lN ck) st pl am ar ow dp ho hs ky sy ba n (nI (cn (il_bf st pl ar t) i)) (nI i) := by
    intro k
    induction k with
    | zero =>
      intro i hi n hn
      cases n with
      | zero => omega
      | succ n =>
        have e : i = tc := by omega
        exact br_t (nI_le (by omega) (by omega)) (by rw [e]; exact K)
    | succ k ih =>
      intro i hi n hn
      cases n with
      | zero => omega
      | succ n =>
        have ii : vp_in (nI i) 8 := vp_in_nI (by omega) (by decide)
        have ci : (nI i).toNatClampNeg = i := nI_clamp (by omega)
        have ih' := ih (i + 1) (by omega) n (by omega)
        have yes : il_bf st pl ar t i → wY_before_4 post (nI t) (nI tc) (nI oc) (nI mc) (nI lim) (nI nh) (lN ck) st pl am ar ow dp ho hs ky sy ba n (nI (cn (il_bf st pl ar t) i) + 1) (nI (i + 1)) := fun q => by
          simp only [cn, b01_t q] at ih'
          rw [nI_1]; exact ih'
        have no : ¬ il_bf st pl ar t i → wY_before_4 post (nI t) (nI tc) (nI oc) (nI mc) (nI lim) (nI nh) (lN ck) st pl am ar ow dp ho hs ky sy ba n (nI (cn (il_bf st pl ar t) i)) (nI (i + 1)) := fun q => by
          simp only [cn, b01_f q, Nat.add_zero] at ih'
          exact ih'
        have w50 : ¬ (¬ st i = 0 ∧ ¬ st i = 1 ∧ pl i = pl t) → wY_before_50 post (wY_before_4 post (nI t) (nI tc) (nI oc) (nI mc) (nI lim) (nI nh) (lN ck) st pl am ar ow dp ho hs ky sy ba n) (nI t) (nI (cn (il_bf st pl ar t) i)) (nI i) (nI tc) (nI oc) (nI mc) (nI lim) (nI nh) (lN ck) st pl am ar ow dp ho hs ky sy ba := fun q => by
          unfold wY_before_50
          exact il_y51 t8 (by omega) (fun z => absurd rfl z) (fun _ => no (fun b => q b.1))
        refine br_f (nI_ge (by omega) (by omega)) (And.intro ii ?_)
        rw [ci]
        by_cases a : st i = 0
        · exact br_t a (w50 (fun q => q.1 a))
        · refine br_f a (And.intro ii ?_)
          by_cases b : st i = 1
          · exact br_t b (w50 (fun q => q.2.1 b))
          · refine br_f b (And.intro ii (And.intro it ?_))
            rw [ct]
            by_cases c : pl i = pl t
            · exact br_t c (il_y51 t8 (by omega) (fun _ h1 h2 => yes ⟨⟨a, b, c⟩, h1, h2⟩) (fun h => no (fun q => h.elim (fun h => one h) (fun h => h.elim (fun h => h q.2.1) (fun h => h q.2.2)))))
            · exact br_f c (w50 (fun q => c q.2.2))
  unfold wpY_before
  exact Exists.intro (tc + 1) (go tc 0 (by omega) _ (by omega))
/-- place in line is what Y counts -/
theorem il_cl_same {z : Nat} {s s' : Int32} (q : il_q s) (c : il_cl z s') (e : s = 3 ↔ s' = 3) : il_cl z s := by
  rcases c with ⟨h1, h2⟩ | ⟨h1, h2⟩
  · refine Or.inl ⟨h1, ?_⟩
    have n3 : ¬ s = 3 := fun a => by
      have := e.mp a
      rcases h2 with h2 | h2 | h2 <;> rw [this] at h2 <;> exact absurd h2 (by decide)
    rcases q with q | q | q | q
    · exact Or.inl q
    · exact absurd q n3
    · exact Or.inr (Or.inl q)
    · exact Or.inr (Or.inr q)
  · exact Or.inr ⟨h1, e.mpr h2⟩
theorem il_cl_3 {z : Nat} {s s' : Int32} (a : il_cl z s) (b : il_cl z s') : s = 3 ↔ s' = 3 := by
  have key : ∀ {x : Int32}, (x = 2 ∨ x = 4 ∨ x = 5) → ¬ x = 3 := fun {x} h e => by
    rcases h with h | h | h <;> rw [e] at h <;> exact absurd h (by decide)
  rcases a with ⟨h1, h2⟩ | ⟨h1, h2⟩ <;> rcases b with ⟨h3, h4⟩ | ⟨h3, h4⟩
  · exact ⟨fun e => absurd e (key h2), fun e => absurd e (key h4)⟩
  · omega
  · omega
  · exact ⟨fun _ => h4, fun _ => h2⟩
theorem il_place {L : Nat → List Nat} {z : Nat} {l1 l2 : List Nat} (T : ∀ t, t < tc → il_T oc (st t) (pl t) (am t)) (hL : il_LL tc mc mo nx pv st pl ar L) (hz : z = 8 ∨ z = 16) (hm : m < mc) (el : L (z + m) = l1 ++ t :: l2) : cn (il_bf st pl ar t) tc = l1.length := by
  obtain ⟨s1, s2, s3⟩ := hL z m hz hm
  have tin : t ∈ L (z + m) := by rw [el]; exact List.mem_append_right _ List.mem_cons_self
  obtain ⟨t1, t2, t3⟩ := (s3 t).mp tin
  rw [el] at s2 s3
  have nd := (List.nodup_append.mp (il_srt_nd s2)).1
  rw [← cn_len (N := tc) nd (fun u hu => ((s3 u).mp (List.mem_append_left _ hu)).1)]
  refine cn_eq (fun u hu => ⟨fun ⟨⟨a, b, c⟩, d, e⟩ => ?_, fun q => ?_⟩)
  · have uin : u ∈ l1 ++ t :: l2 := (s3 u).mpr ⟨hu, c.trans t2, il_cl_same (il_T_q (T u hu) a b) t3 d⟩
    exact (il_srt_mid s2 u uin).mp e
  · have uin : u ∈ l1 ++ t :: l2 := List.mem_append_left _ q
    obtain ⟨u1, u2, u3⟩ := (s3 u).mp uin
    have := il_q01 (il_cl_q u3).1
    exact ⟨⟨this.1, this.2, u2.trans t2.symm⟩, il_cl_3 u3 t3, (il_srt_mid s2 u uin).mpr q⟩
/-- the head of a line -/
theorem il_front (htc : tc ≤ 8) (hmc : mc ≤ 8) (Hh : (il_H tc oc mc ck mo nx pv st pl am ar)) {z : Nat} (hz : z = 8 ∨ z = 16) (hm : m < mc) :
    (nx (z + m) = nI (z + m) ∧ ∀ t, t < tc → pl t = mo m → ¬ il_cl z (st t)) ∨
    ∃ w, w < tc ∧ pl w = mo m ∧ il_cl z (st w) ∧ nx (z + m) = nI w ∧ cn (il_bf st pl ar w) tc = 0 ∧ ∀ t, t < tc → pl t = mo m → il_cl z (st t) → t ≠ w → ¬ cn (il_bf st pl ar t) tc = 0 := by
  obtain ⟨T, hA, hN, L, hL⟩ := Hh
  obtain ⟨s1, s2, s3⟩ := hL z m hz hm
  cases el : L (z + m) with
  | nil =>
    rw [el] at s1 s3
    exact Or.inl ⟨s1.1, fun t h1 h2 h3 => List.not_mem_nil ((s3 t).mpr ⟨h1, h2, h3⟩)⟩
  | cons w ws =>
    have p0 := il_place (l1 := []) T hL hz hm el
    rw [el] at s1 s3
    obtain ⟨w1, w2, w3⟩ := (s3 w).mp List.mem_cons_self
    refine Or.inr ⟨w, w1, w2, w3, s1.1, p0, fun t h1 h2 h3 ne => ?_⟩
    have tin := (s3 t).mpr ⟨h1, h2, h3⟩
    rcases List.mem_cons.mp tin with e | e
    · exact absurd e ne
    · obtain ⟨l1, l2, e2⟩ := List.append_of_mem e
      have := il_place (l1 := w :: l1) (l2 := l2) (t := t) T hL hz hm (by rw [el, e2]; rfl)
      rw [this, List.length_cons]; omega
/-- X counts the same -/
theorem il_xAhead {post : Int32 → Prop} (htc : tc ≤ 8) (hmc : mc ≤ 8) (Hh : (il_H tc oc mc ck mo nx pv st pl am ar)) (ht : t < tc) (hq : il_q (st t)) (K : post (nI (cn (il_bf st pl ar t) tc))) : wpX_ahead post (g0, g1, g2, g3, nI tc, nI oc, nI mc, nI lim, nI nh, hd, kx, sx, ep, mo, mw, md, mh, nx, pv, st, pl, am) (nI t) := by
  obtain ⟨T, hA, hN, L, hL⟩ := Hh
  obtain ⟨z, cz, hz⟩ := il_q_cl hq
  obtain ⟨m, hm, em⟩ := hN t ht hq
  obtain ⟨s1, s2, s3⟩ := hL z m hz hm
  have tin : t ∈ L (z + m) := (s3 t).mpr ⟨ht, em.symm, cz⟩
  have l8 : ∀ x, x ∈ L (z + m) → x < tc := fun x hx => ((s3 x).mp hx).1
  obtain ⟨l1, l2, el⟩ := List.append_of_mem tin
  rw [il_place T hL hz hm el] at K
  rw [el] at s1 s2 l8
  have len : l1.length < tc := by
    have := cn_len (N := tc) (il_srt_nd s2) l8
    have c := cn_le (fun u => u ∈ l1 ++ t :: l2) tc
    rw [this, List.length_append, List.length_cons] at c; omega
  have go : ∀ k (l1 : List Nat) (t : Nat) (l2 : List Nat) c, l1.length = k → c + k < tc → il_seg nx pv (z + m) (z + m) (l1 ++ t :: l2) → (∀ x, x ∈ l1 ++ t :: l2 → x < tc) → post (nI (c + k)) → ∀ n, k < n → wX_ahead_9 post g0 g1 g2 g3 (nI tc) (nI oc) (nI mc) (nI lim) (nI nh) hd kx sx ep mo mw md mh nx pv st pl am n (nI c) (pv t) := by
    intro k
    induction k with
    | zero =>
      intro l1 t l2 c h1 h2 s _ P n hn
      cases n with
      | zero => omega
      | succ n =>
        have e1 : l1 = [] := List.eq_nil_of_length_eq_zero h1
        subst e1
        rw [show pv t = nI (z + m) from s.2.1]
        exact br_t (nI_le (a := 8) (by omega) (by omega)) P
    | succ k ih =>
      intro l1 t l2 c h1 h2 s hb P n hn
      cases n with
      | zero => omega
      | succ n =>
        have ne : l1 ≠ [] := fun e => by rw [e] at h1; exact absurd h1 (by simp)
        have e1 : l1 = l1.dropLast ++ [l1.getLast ne] := (List.dropLast_concat_getLast ne).symm
        have pv1 : pv t = nI (l1.getLast ne) := by
          rw [e1] at s; exact il_seg_back s
        have y8 : l1.getLast ne < tc := hb _ (List.mem_append_left _ (List.getLast_mem ne))
        have e2 : l1 ++ t :: l2 = l1.dropLast ++ l1.getLast ne :: (t :: l2) := by
          conv => lhs; rw [e1]
          rw [List.append_assoc]; rfl
        have i2 := ih l1.dropLast (l1.getLast ne) (t :: l2) (c + 1) (by rw [List.length_dropLast]; omega) (by omega) (by rw [← e2]; exact s) (by rw [← e2]; exact hb) (by rw [show c + 1 + k = c + (k + 1) by omega]; exact P) n (by omega)
        rw [pv1]
        refine br_f (nI_ge (b := 8) (by omega) (by omega)) (br_f (nI_ge (by omega) (by omega)) (fun a ea => And.intro (vp_in_nI (by omega) (by decide)) (fun b eb => ?_)))
        rw [nI_clamp (by omega)] at eb
        rw [ea, eb, nI_1]; exact i2
  unfold wpX_ahead
  refine And.intro (vp_in_nI (by omega) (by decide)) (fun x ex => ?_)
  rw [nI_clamp (by omega)] at ex
  rw [ex]
  exact Exists.intro (l1.length + 1) (go l1.length l1 t l2 0 rfl (by omega) s1 l8 (by rw [Nat.zero_add]; exact K) _ (by omega))
/-- the first waiter -/
theorem il_yFirst {post : Int32 → Prop} (htc : tc ≤ 8) (N : (∀ t, t < tc → pl t = nI o → ¬ st t = 3) → post (-1))
    (S : ∀ w, w < tc → pl w = nI o → st w = 3 → cn (il_bf st pl ar w) tc = 0 → post (nI w)) (C : (∀ t, t < tc → pl t = nI o → ¬ st t = 3) ∨ ∃ w, w < tc ∧ pl w = nI o ∧ st w = 3 ∧ cn (il_bf st pl ar w) tc = 0) : wpY_firstWaiter post (nI tc, nI oc, nI mc, nI lim, nI nh, lN ck, st, pl, am, ar, ow, dp, ho, hs, ky, sy, ba) (nI o) := by
  have go : ∀ k i, i + k = tc → (∀ t, t < i → ¬ (pl t = nI o ∧ st t = 3 ∧ cn (il_bf st pl ar t) tc = 0)) → ∀ n, k < n → wY_firstWaiter_2 post (nI o) (nI tc) (nI oc) (nI mc) (nI lim) (nI nh) (lN ck) st pl am ar ow dp ho hs ky sy ba n (nI i) := by
    intro k
    induction k with
    | zero =>
      intro i hi hb n hn
      cases n with
      | zero => omega
      | succ n =>
        refine br_t (nI_le (by omega) (by omega)) ?_
        rcases C with C | ⟨w, w1, w2, w3, w4⟩
        · exact N C
        · exact absurd ⟨w2, w3, w4⟩ (hb w (by omega))
    | succ k ih =>
      intro i hi hb n hn
      cases n with
      | zero => omega
      | succ n =>
        have ii : vp_in (nI i) 8 := vp_in_nI (by omega) (by decide)
        have ci : (nI i).toNatClampNeg = i := nI_clamp (by omega)
        have nxt : ¬ (pl i = nI o ∧ st i = 3 ∧ cn (il_bf st pl ar i) tc = 0) → ∀ a, a = nI i + 1 → wY_firstWaiter_2 post (nI o) (nI tc) (nI oc) (nI mc) (nI lim) (nI nh) (lN ck) st pl am ar ow dp ho hs ky sy ba n a := fun q a ea => by
          rw [ea, nI_1]
          exact ih (i + 1) (by omega) (fun t ht => by
            rcases Nat.lt_or_ge t i with y | y
            · exact hb t y
            · have : t = i := by omega
              rw [this]; exact q) n (by omega)
        refine br_f (nI_ge (by omega) (by omega)) (And.intro ii ?_)
        rw [ci]
        by_cases a : st i = 3
        · refine br_t a (And.intro ii ?_)
          by_cases b : pl i = nI o
          · refine br_t b (il_yBefore htc (by omega) ?_)
            have cl := cn_le (il_bf st pl ar i) tc
            by_cases c : cn (il_bf st pl ar i) tc = 0
            · exact br_t (by rw [c]; rfl) (S i (by omega) b a c)
            · exact br_f (nI_ne0 (by omega) (by omega)) (nxt (fun q => c q.2.2))
          · exact br_f b (nxt (fun q => b q.1))
        · exact br_f a (nxt (fun q => a q.2.1))
  unfold wpY_firstWaiter
  exact Exists.intro (tc + 1) (go tc 0 (by omega) (fun t ht => by omega) _ (by omega))
/-- nobody waits: the rest of the loop changes nothing -/
theorem il_yNone {post : Int32 → SY → Prop} {M : Nat} {x : Int32} (htc : tc ≤ 8) (hM : M ≤ 8) (C : ∀ t, t < tc → pl t = nI o → ¬ st t = 3) (K : post x (nI tc, nI oc, nI mc, nI lim, nI nh, lN ck, st, pl, am, ar, ow, dp, ho, hs, ky, sy, ba)) : ∀ k i, i + k = M → ∀ n, k < n → wY_doNotify_6 post (nI o) (nI M) n x (nI i) (nI tc) (nI oc) (nI mc) (nI lim) (nI nh) (lN ck) st pl am ar ow dp ho hs ky sy ba := by
  intro k
  induction k with
  | zero =>
    intro i hi n hn
    cases n with
    | zero => omega
    | succ n => exact br_t (nI_le (by omega) (by omega)) K
  | succ k ih =>
    intro i hi n hn
    cases n with
    | zero => omega
    | succ n =>
      refine br_f (nI_ge (by omega) (by omega)) (il_yFirst htc (fun _ => ?_) (fun w w1 w2 w3 _ => absurd w3 (C w w1 w2)) (Or.inl C))
      exact br_t rfl (fun a ea => by rw [ea, nI_1]; exact ih (i + 1) (by omega) n (by omega))
end
end
section
/-! the operations of a thread, X and Y side by side -/
def il_ok (t : Nat) (r : Int32) (st : Nat → Int32) : Prop := (r = 7 ∨ r = 5) ∨ (¬ r = 7 ∧ ¬ r = 5 ∧ st t = 1)
section
variable {g0 g1 g2 g3 : Int32} {tc oc mc lim nh : Nat} {hd kx sx ep mo mw md mh nx pv st pl am : Nat → Int32}
variable {ck : Nat} {ar : Nat → Int64} {ow dp ho hs ky sy ba : Nat → Int32}
variable {o m t : Nat}
theorem il_rv_id {MO : Nat → Int32} {E h qo qd qs : Int32} (htc : tc ≤ 8) (hmc : mc ≤ 8) (S : il_S tc mc MO mw md mh E h o qo qd (-2) qs) : il_rv h = h := by
  obtain ⟨w, d, n, ⟨h1, h2, h3, h4, h5, h6, h7⟩, C⟩ := S
  rcases C with ⟨a, b, c⟩ | ⟨a, b, v, e, e0, c1, c2, c3, c4, c5, c6, c7, c8⟩ | ⟨a, b, b2, c, c5⟩ | ⟨m, y1, y2, y3, y4⟩
  · exact if_neg (by rw [c, (il_nw h3).1]; decide)
  · exfalso
    rcases Nat.decEq e0 e with z | z
    · exact absurd (c8 z) (by decide)
    · exact il_p_m2 (n := v) (by omega) (c7 z).symm
  · exact if_neg (by rw [c5, (il_hw (by omega) (by omega) (by omega) (by omega)).1]; decide)
  · exact if_neg (by rw [y3, (il_fw (by omega)).1]; decide)
theorem il_cs_id {kx sx : Nat → Int32} (e : ho o = -2) : il_cs lim ho kx sx o = sx := if_pos (by rw [e]; exact il_m2)
theorem il_xCloseI {post : SX → Prop} (htc : tc ≤ 8) (hmc : mc ≤ 8) (hoc : oc ≤ 16) (B : (il_B tc oc mc lim hd kx sx ep mo mw md mh ow dp ho hs ky sy ba)) (h : o < oc) (e : ho o = -2) (K : post (g0, g1, g2, g3, nI tc, nI oc, nI mc, nI lim, nI nh, hd, kx, sx, ep, mo, mw, md, mh, nx, pv, st, pl, am)) : wpX_close post (g0, g1, g2, g3, nI tc, nI oc, nI mc, nI lim, nI nh, hd, kx, sx, ep, mo, mw, md, mh, nx, pv, st, pl, am) (nI o) := by
  have S := B.1 o h
  rw [e] at S
  exact il_xClose htc hmc hoc B h (by rw [il_rv_id htc hmc S, il_us, il_cs_id e]; exact K)
theorem il_xInflI (R : (il_R tc oc mc lim nh ck hd kx sx ep mo mw md mh nx pv st pl am ar ow dp ho hs ky sy ba)) (h : o < oc) (e : ho o = -2) (rm : il_fat mc (hd o) ∨ ∃ m, m < mc ∧ ¬ il_bz tc oc mo st pl ow dp hs m) :
    ∃ (m : Nat) (hd' mo' mw' md' mh' : Nat → Int32), m < mc ∧ hd' o = nI (4 * m + 3) ∧ (il_R tc oc mc lim nh ck hd' kx sx ep mo' mw' md' mh' nx pv st pl am ar ow dp ho hs ky sy ba) ∧
      ∀ post : Int32 → SX → Prop, post (nI m) (g0, g1, g2, g3, nI tc, nI oc, nI mc, nI lim, nI nh, hd', kx, sx, ep, mo', mw', md', mh', nx, pv, st, pl, am) → wpX_inflate post (g0, g1, g2, g3, nI tc, nI oc, nI mc, nI lim, nI nh, hd, kx, sx, ep, mo, mw, md, mh, nx, pv, st, pl, am) (nI o) := by
  obtain ⟨m, hd', mo', mw', md', mh', h1, h2, h3, h4⟩ := il_xInfl (g0 := g0) (g1 := g1) (g2 := g2) (g3 := g3) R h rm
  rw [il_cs_id e, il_cs_id e, il_ue e] at h3
  rw [il_cs_id e] at h4
  exact ⟨m, hd', mo', mw', md', mh', h1, h2, h3, h4⟩
/-- the lock's premises for an owner -/
theorem il_own_light (R : (il_R tc oc mc lim nh ck hd kx sx ep mo mw md mh nx pv st pl am ar ow dp ho hs ky sy ba)) (h : o < oc) (a : ¬ ow o = -1) {d : Nat} (ed : dp o = nI d) (d9 : d ≤ 9) : il_fat mc (hd o) ∨ (d ≤ 4 ∧ hs o = -1) := by
  rcases Classical.em (il_fat mc (hd o)) with z | z
  · exact Or.inl z
  · obtain ⟨l1, l2⟩ := il_S_light z (R.2.1.1 o h)
    rw [ed, show (4 : Int32) = nI 4 from rfl, nI_leI (by omega) (by omega)] at l1
    exact Or.inr ⟨l1, l2.resolve_left a⟩
theorem il_own_dep (R : (il_R tc oc mc lim nh ck hd kx sx ep mo mw md mh nx pv st pl am ar ow dp ho hs ky sy ba)) (h : o < oc) (a : ¬ ow o = -1) : ∃ d, 1 ≤ d ∧ d ≤ 9 ∧ dp o = nI d := by
  rcases il_S_own (R.2.1.1 o h) R.1.2.1 with ⟨q, _⟩ | ⟨_, q⟩
  · exact absurd q a
  · exact q
theorem il_le4 {d : Nat} (h : d ≤ 4) : nI d ≤ 4 := nI_le (b := 4) h (by decide)
theorem il_gt4 {d : Nat} (h : 4 < d) (h2 : d < 100) : ¬ nI d ≤ 4 := nI_ge (a := 4) h (by omega)
theorem il_le9 {d : Nat} (h : d ≤ 9) : nI d ≤ 9 := nI_le (b := 9) h (by decide)
theorem il_opRe (R : (il_R tc oc mc lim nh ck hd kx sx ep mo mw md mh nx pv st pl am ar ow dp ho hs ky sy ba)) (ht : t < tc) (s1 : st t = 1) (h : o < oc) (a : ow o = nI t) :
    ∃ (r : Int32) (nh' ck' : Nat) (hd' sx' mo' mw' md' mh' nx' pv' st' pl' am' : Nat → Int32) (ar' : Nat → Int64) (ow' dp' ho' hs' sy' : Nat → Int32), il_ok t r st' ∧ ck' ≤ ck + 8 ∧ (il_R tc oc mc lim nh' ck' hd' kx sx' ep mo' mw' md' mh' nx' pv' st' pl' am' ar' ow' dp' ho' hs' ky sy' ba) ∧ (∀ post : Int32 → SX → Prop, post r (g0, g1, g2, g3, nI tc, nI oc, nI mc, nI lim, nI nh', hd', kx, sx', ep, mo', mw', md', mh', nx', pv', st', pl', am') → wpX_reenter post (g0, g1, g2, g3, nI tc, nI oc, nI mc, nI lim, nI nh, hd, kx, sx, ep, mo, mw, md, mh, nx, pv, st, pl, am) (nI t) (nI o)) ∧ (∀ post : Int32 → SY → Prop, post r (nI tc, nI oc, nI mc, nI lim, nI nh', lN ck', st', pl', am', ar', ow', dp', ho', hs', ky, sy', ba) → wpY_doEnter post (nI tc, nI oc, nI mc, nI lim, nI nh, lN ck, st, pl, am, ar, ow, dp, ho, hs, ky, sy, ba) (nI t) (nI o)) := by
  have R0 := R
  obtain ⟨⟨d1, d2, d3, d4, d5, d6, d7, d8, d9⟩, B, H⟩ := R
  have D : il_D tc oc mc lim nh := ⟨d1, d2, d3, d4, d5, d6, d7, d8, d9⟩
  have o16 : o < 16 := by omega
  have io : vp_in (nI o) 16 := vp_in_nI o16 (by decide)
  have co : (nI o).toNatClampNeg = o := nI_clamp (by omega)
  have S := B.1 o h
  have an : ¬ ow o = -1 := by rw [a]; exact (il_nn (by omega)).1
  obtain ⟨d, l1, l9, ed⟩ := il_own_dep R0 h an
  have lt := il_own_light R0 h an ed l9
  have e1 : dp o + 1 = nI (d + 1) := by rw [ed, nI_1]
  have hm : ho o = -2 ∨ ho o = nI t := by rw [← a]; exact il_S_oh d2 S an
  rcases Nat.lt_or_ge d 9 with z | z
  · have n9 : ¬ dp o = 9 := by rw [ed]; exact fun q => by have := il_inj (b := 9) q; omega
    rcases Nat.lt_or_ge d 4 with y | y
    · obtain ⟨hd1, mw1, md1, B1, wl⟩ := il_lock (g0 := g0) (g1 := g1) (g2 := g2) (g3 := g3) (t := t) (d := d + 1) (ow' := ow) (dp' := upd dp o (dp o + 1)) (ho' := ho) d2 d6 d4 B h ht (by omega) (lt.imp id (fun q => ⟨by omega, q.2⟩)) (fun _ _ => rfl) (by rw [if_neg (by omega)]; exact a) (fun j q => pk_un q) (by rw [pk_us]; exact e1) (fun _ _ => rfl) (Or.inr ⟨hm, rfl⟩)
      refine ⟨2, nh, ck, hd1, sx, mo, mw1, md1, mh, nx, pv, st, pl, am, ar, ow, upd dp o (dp o + 1), ho, hs, sy, Or.inr ⟨by decide, by decide, s1⟩, by omega, ⟨D, B1, H⟩, fun post K => ?_, fun post K => ?_⟩
      · unfold wpX_reenter
        refine il_xDepth o16 d2 d6 S (fun x ex => ?_)
        rw [e1] at ex
        subst ex
        refine br_t (il_le9 (by omega)) (br_t (il_le4 (by omega)) ?_)
        unfold wX_reenter_33
        refine br_t (il_le4 (by omega)) ?_
        unfold wX_reenter_44
        exact wl nh nx pv st pl am _ K
      · unfold wpY_doEnter
        refine And.intro io ?_
        rw [co]
        refine br_t a (And.intro io (br_f n9 (And.intro io (br_t (by rw [e1]; exact il_le4 (by omega)) ?_))))
        unfold wY_doEnter_47
        refine And.intro io (And.intro io (fun b eb => And.intro io ?_))
        rw [co] at eb
        subst eb
        rw [co, pk_us]
        exact br_t (by rw [e1]; exact il_le4 (by omega)) K
    · rcases Classical.em (¬ il_fat mc (hd o) ∧ cn (il_bz tc oc mo st pl ow dp hs) mc = mc) with sh | sh
      · refine ⟨7, nh, ck, hd, sx, mo, mw, md, mh, nx, pv, st, pl, am, ar, ow, dp, ho, hs, sy, Or.inl (Or.inl rfl), by omega, R0, fun post K => ?_, fun post K => ?_⟩
        · unfold wpX_reenter
          refine il_xDepth o16 d2 d6 S (fun x ex => ?_)
          rw [e1] at ex
          subst ex
          exact br_t (il_le9 (by omega)) (br_f (il_gt4 (by omega) (by omega)) (il_xShort R0 h (br_f (by rw [il_i0]; exact fun q => q sh) K)))
        · unfold wpY_doEnter
          refine And.intro io ?_
          rw [co]
          exact br_t a (And.intro io (br_f n9 (And.intro io (br_f (by rw [e1]; exact il_gt4 (by omega) (by omega)) (il_yShort R0 h (br_f (by rw [il_i0]; exact fun q => q sh) K))))))
      · obtain ⟨m, hd1, mo1, mw1, md1, mh1, m1, m2, R1, wi⟩ := il_xInfl (g0 := g0) (g1 := g1) (g2 := g2) (g3 := g3) R0 h (il_room sh)
        obtain ⟨hd2, mw2, md2, B2, wl⟩ := il_lock (g0 := g0) (g1 := g1) (g2 := g2) (g3 := g3) (t := t) (d := d + 1) (ow' := ow) (dp' := upd dp o (dp o + 1)) (ho' := upd ho o (-2)) d2 d6 d4 R1.2.1 h ht (by omega) (Or.inl ⟨m, m1, m2⟩) (fun _ _ => rfl) (by rw [if_neg (by omega)]; exact a) (fun j q => pk_un q) (by rw [pk_us]; exact e1) (fun _ _ => rfl) (Or.inr ⟨Or.inl pk_us, rfl⟩)
        refine ⟨2, nh, ck, hd2, il_cs lim ho kx sx o, mo1, mw2, md2, mh1, nx, pv, st, pl, am, ar, ow, upd dp o (dp o + 1), upd ho o (-2), hs, il_cs lim ho ky sy o, Or.inr ⟨by decide, by decide, s1⟩, by omega, ⟨D, B2, R1.2.2⟩, fun post K => ?_, fun post K => ?_⟩
        · unfold wpX_reenter
          refine il_xDepth o16 d2 d6 S (fun x ex => ?_)
          rw [e1] at ex
          subst ex
          refine br_t (il_le9 (by omega)) (br_f (il_gt4 (by omega) (by omega)) (il_xShort R0 h (br_t (il_i0.mpr sh) ?_)))
          unfold wX_reenter_33
          refine br_f (il_gt4 (by omega) (by omega)) (wi _ ?_)
          unfold wX_reenter_44
          exact wl nh nx pv st pl am _ K
        · unfold wpY_doEnter
          refine And.intro io ?_
          rw [co]
          refine br_t a (And.intro io (br_f n9 (And.intro io (br_f (by rw [e1]; exact il_gt4 (by omega) (by omega)) (il_yShort R0 h (br_t (il_i0.mpr sh) ?_))))))
          unfold wY_doEnter_47
          refine And.intro io (And.intro io (fun b eb => And.intro io ?_))
          rw [co] at eb
          subst eb
          rw [co, pk_us]
          refine br_f (by rw [e1]; exact il_gt4 (by omega) (by omega)) (il_yClose o16 ?_ K)
          obtain ⟨c, hc, _, ec⟩ := B.2.1 o h
          exact ⟨c, hc, ec⟩
  · have e9 : d = 9 := by omega
    subst e9
    refine ⟨9, nh, ck, hd, sx, mo, mw, md, mh, nx, pv, st, pl, am, ar, ow, dp, ho, hs, sy, Or.inr ⟨by decide, by decide, s1⟩, by omega, R0, fun post K => ?_, fun post K => ?_⟩
    · unfold wpX_reenter
      refine il_xDepth o16 d2 d6 S (fun x ex => ?_)
      rw [e1] at ex
      subst ex
      exact br_f (by decide) K
    · unfold wpY_doEnter
      refine And.intro io ?_
      rw [co]
      exact br_t a (And.intro io (br_t ed K))
theorem il_opFree (R : (il_R tc oc mc lim nh ck hd kx sx ep mo mw md mh nx pv st pl am ar ow dp ho hs ky sy ba)) (ht : t < tc) (s1 : st t = 1) (h : o < oc) (a : ow o = -1) :
    ∃ (r : Int32) (nh' ck' : Nat) (hd' sx' mo' mw' md' mh' nx' pv' st' pl' am' : Nat → Int32) (ar' : Nat → Int64) (ow' dp' ho' hs' sy' : Nat → Int32), il_ok t r st' ∧ ck' ≤ ck + 8 ∧ (il_R tc oc mc lim nh' ck' hd' kx sx' ep mo' mw' md' mh' nx' pv' st' pl' am' ar' ow' dp' ho' hs' ky sy' ba) ∧ (∀ post : Int32 → SX → Prop, post r (g0, g1, g2, g3, nI tc, nI oc, nI mc, nI lim, nI nh', hd', kx, sx', ep, mo', mw', md', mh', nx', pv', st', pl', am') → wpX_enterFree post (g0, g1, g2, g3, nI tc, nI oc, nI mc, nI lim, nI nh, hd, kx, sx, ep, mo, mw, md, mh, nx, pv, st, pl, am) (nI t) (nI o)) ∧ (∀ post : Int32 → SY → Prop, post r (nI tc, nI oc, nI mc, nI lim, nI nh', lN ck', st', pl', am', ar', ow', dp', ho', hs', ky, sy', ba) → wpY_doEnter post (nI tc, nI oc, nI mc, nI lim, nI nh, lN ck, st, pl, am, ar, ow, dp, ho, hs, ky, sy, ba) (nI t) (nI o)) := by
  have R0 := R
  obtain ⟨⟨d1, d2, d3, d4, d5, d6, d7, d8, d9⟩, B, H⟩ := R
  have D : il_D tc oc mc lim nh := ⟨d1, d2, d3, d4, d5, d6, d7, d8, d9⟩
  have o16 : o < 16 := by omega
  have io : vp_in (nI o) 16 := vp_in_nI o16 (by decide)
  have co : (nI o).toNatClampNeg = o := nI_clamp (by omega)
  have S := B.1 o h
  obtain ⟨c, hc, ek, eky⟩ := B.2.1 o h
  have at1 : ¬ ow o = nI t := fun q => (il_nn (q := t) (by omega)).1 (q.symm.trans a)
  have y149 : ∀ (post : Int32 → SY → Prop) (ho' sy' : Nat → Int32), post 2 (nI tc, nI oc, nI mc, nI lim, nI nh, lN ck, st, pl, am, ar, upd ow o (nI t), upd dp o 1, ho', hs, ky, sy', ba) → wY_doEnter_149 post (nI t) (nI o) (nI tc) (nI oc) (nI mc) (nI lim) (nI nh) (lN ck) st pl am ar ow dp ho' hs ky sy' ba := fun post ho' sy' K => by
    unfold wY_doEnter_149
    refine And.intro io (fun x ex => And.intro io (fun y ey => ?_))
    rw [ex, ey, co]; exact K
  have yA : ∀ post : Int32 → SY → Prop, hs o = -1 → wY_doEnter_105 post (nI t) (nI o) (nI tc) (nI oc) (nI mc) (nI lim) (nI nh) (lN ck) st pl am ar ow dp ho hs ky sy ba → wpY_doEnter post (nI tc, nI oc, nI mc, nI lim, nI nh, lN ck, st, pl, am, ar, ow, dp, ho, hs, ky, sy, ba) (nI t) (nI o) := fun post b K => by
    unfold wpY_doEnter
    refine And.intro io ?_
    rw [co]
    exact br_f at1 (And.intro io (br_t a (And.intro io (br_t b K))))
  have xA : ∀ post : Int32 → SX → Prop, hs o = -1 → wX_enterFree_30 post (nI t) (nI o) 0 g0 g1 g2 g3 (nI tc) (nI oc) (nI mc) (nI lim) (nI nh) hd kx sx ep mo mw md mh nx pv st pl am → wpX_enterFree post (g0, g1, g2, g3, nI tc, nI oc, nI mc, nI lim, nI nh, hd, kx, sx, ep, mo, mw, md, mh, nx, pv, st, pl, am) (nI t) (nI o) := fun post b K => by
    unfold wpX_enterFree
    refine il_xHash o16 d2 d6 S (br_t b ?_)
    unfold wX_enterFree_14
    exact br_t rfl K
  by_cases b : hs o = -1
  · rcases il_S_home d2 S with e | e | ⟨t', ht', e⟩
    · obtain ⟨hd1, mw1, md1, B1, wl⟩ := il_lock (g0 := g0) (g1 := g1) (g2 := g2) (g3 := g3) (t := t) (d := 1) (ow' := upd ow o (nI t)) (dp' := upd dp o 1) (ho' := ho) d2 d6 d4 B h ht (by omega) (Or.inr ⟨by omega, b⟩) (fun j q => pk_un q) pk_us (fun j q => pk_un q) pk_us (fun _ _ => rfl) (Or.inr ⟨Or.inl e, rfl⟩)
      refine ⟨2, nh, ck, hd1, sx, mo, mw1, md1, mh, nx, pv, st, pl, am, ar, upd ow o (nI t), upd dp o 1, ho, hs, sy, Or.inr ⟨by decide, by decide, s1⟩, by omega, ⟨D, B1, H⟩, fun post K => xA post b ?_, fun post K => yA post b ?_⟩
      · unfold wX_enterFree_30
        refine il_xHome o16 d2 d6 hc ek S ?_
        rw [e]
        refine br_f (by decide) (br_f (fun q => (il_nn (q := t) (by omega)).2.1 q.symm) (il_xCloseI d2 d6 d4 B h e ?_))
        unfold wX_enterFree_54
        refine br_t rfl ?_
        unfold wX_enterFree_64
        exact wl nh nx pv st pl am _ K
      · unfold wY_doEnter_105
        refine And.intro io ?_
        rw [co]
        exact br_f (by rw [e]; decide) (And.intro io (br_t (by rw [e]; decide) (y149 post ho sy K)))
    · obtain ⟨hd1, mw1, md1, B1, wl⟩ := il_lock (g0 := g0) (g1 := g1) (g2 := g2) (g3 := g3) (t := t) (d := 1) (ow' := upd ow o (nI t)) (dp' := upd dp o 1) (ho' := upd ho o (nI t)) d2 d6 d4 B h ht (by omega) (Or.inr ⟨by omega, b⟩) (fun j q => pk_un q) pk_us (fun j q => pk_un q) pk_us (fun j q => pk_un q) (Or.inl ⟨e, pk_us⟩)
      refine ⟨2, nh, ck, hd1, sx, mo, mw1, md1, mh, nx, pv, st, pl, am, ar, upd ow o (nI t), upd dp o 1, upd ho o (nI t), hs, sy, Or.inr ⟨by decide, by decide, s1⟩, by omega, ⟨D, B1, H⟩, fun post K => xA post b ?_, fun post K => yA post b ?_⟩
      · unfold wX_enterFree_30
        refine il_xHome o16 d2 d6 hc ek S ?_
        refine br_t e ?_
        unfold wX_enterFree_54
        refine br_t rfl ?_
        unfold wX_enterFree_64
        exact wl nh nx pv st pl am _ K
      · unfold wY_doEnter_105
        refine And.intro io ?_
        rw [co]
        refine br_t e (And.intro io (fun x ex => ?_))
        rw [ex]; exact y149 post _ sy K
    · have nn := il_nn (q := t') (by omega)
      by_cases tt : nI t' = nI t
      · obtain ⟨hd1, mw1, md1, B1, wl⟩ := il_lock (g0 := g0) (g1 := g1) (g2 := g2) (g3 := g3) (t := t) (d := 1) (ow' := upd ow o (nI t)) (dp' := upd dp o 1) (ho' := ho) d2 d6 d4 B h ht (by omega) (Or.inr ⟨by omega, b⟩) (fun j q => pk_un q) pk_us (fun j q => pk_un q) pk_us (fun _ _ => rfl) (Or.inr ⟨Or.inr (e.trans tt), rfl⟩)
        refine ⟨2, nh, ck, hd1, sx, mo, mw1, md1, mh, nx, pv, st, pl, am, ar, upd ow o (nI t), upd dp o 1, ho, hs, sy, Or.inr ⟨by decide, by decide, s1⟩, by omega, ⟨D, B1, H⟩, fun post K => xA post b ?_, fun post K => yA post b ?_⟩
        · unfold wX_enterFree_30
          refine il_xHome o16 d2 d6 hc ek S ?_
          rw [e]
          refine br_f nn.1 (br_t tt ?_)
          unfold wX_enterFree_54
          refine br_t rfl ?_
          unfold wX_enterFree_64
          exact wl nh nx pv st pl am _ K
        · unfold wY_doEnter_105
          refine And.intro io ?_
          rw [co]
          exact br_f (by rw [e]; exact nn.1) (And.intro io (br_f (by rw [e]; exact nn.2.2) (And.intro io (br_t (e.trans tt) (y149 post ho sy K)))))
      · have R1 := il_R_close R0 h
        obtain ⟨hd1, mw1, md1, B1, wl⟩ := il_lock (g0 := g0) (g1 := g1) (g2 := g2) (g3 := g3) (t := t) (d := 1) (ow' := upd ow o (nI t)) (dp' := upd dp o 1) (ho' := upd ho o (-2)) d2 d6 d4 R1.2.1 h ht (by omega) (Or.inr ⟨by omega, b⟩) (fun j q => pk_un q) pk_us (fun j q => pk_un q) pk_us (fun _ _ => rfl) (Or.inr ⟨Or.inl pk_us, rfl⟩)
        refine ⟨2, nh, ck, hd1, il_cs lim ho kx sx o, mo, mw1, md1, mh, nx, pv, st, pl, am, ar, upd ow o (nI t), upd dp o 1, upd ho o (-2), hs, il_cs lim ho ky sy o, Or.inr ⟨by decide, by decide, s1⟩, by omega, ⟨D, B1, H⟩, fun post K => xA post b ?_, fun post K => yA post b ?_⟩
        · unfold wX_enterFree_30
          refine il_xHome o16 d2 d6 hc ek S ?_
          rw [e]
          refine br_f nn.1 (br_f tt (il_xClose d2 d6 d4 B h ?_))
          unfold wX_enterFree_54
          refine br_t rfl ?_
          unfold wX_enterFree_64
          exact wl nh nx pv st pl am _ K
        · unfold wY_doEnter_105
          refine And.intro io ?_
          rw [co]
          exact br_f (by rw [e]; exact nn.1) (And.intro io (br_f (by rw [e]; exact nn.2.2) (And.intro io (br_f (by rw [e]; exact tt) (il_yClose o16 ⟨c, hc, eky⟩ (y149 post _ _ K))))))
  · have e := il_S_hash S b
    rcases Classical.em (¬ il_fat mc (hd o) ∧ cn (il_bz tc oc mo st pl ow dp hs) mc = mc) with sh | sh
    · refine ⟨7, nh, ck, hd, sx, mo, mw, md, mh, nx, pv, st, pl, am, ar, ow, dp, ho, hs, sy, Or.inl (Or.inl rfl), by omega, R0, fun post K => ?_, fun post K => ?_⟩
      · unfold wpX_enterFree
        refine il_xHash o16 d2 d6 S (br_f b ?_)
        unfold wX_enterFree_14
        exact br_f (by decide) (il_xShort R0 h (br_f (by rw [il_i0]; exact fun q => q sh) K))
      · unfold wpY_doEnter
        refine And.intro io ?_
        rw [co]
        exact br_f at1 (And.intro io (br_t a (And.intro io (br_f b (il_yShort R0 h (br_f (by rw [il_i0]; exact fun q => q sh) K))))))
    · obtain ⟨m, hd1, mo1, mw1, md1, mh1, m1, m2, R1, wi⟩ := il_xInflI (g0 := g0) (g1 := g1) (g2 := g2) (g3 := g3) R0 h e (il_room sh)
      obtain ⟨hd2, mw2, md2, B2, wl⟩ := il_lock (g0 := g0) (g1 := g1) (g2 := g2) (g3 := g3) (t := t) (d := 1) (ow' := upd ow o (nI t)) (dp' := upd dp o 1) (ho' := ho) d2 d6 d4 R1.2.1 h ht (by omega) (Or.inl ⟨m, m1, m2⟩) (fun j q => pk_un q) pk_us (fun j q => pk_un q) pk_us (fun _ _ => rfl) (Or.inr ⟨Or.inl e, rfl⟩)
      refine ⟨2, nh, ck, hd2, sx, mo1, mw2, md2, mh1, nx, pv, st, pl, am, ar, upd ow o (nI t), upd dp o 1, ho, hs, sy, Or.inr ⟨by decide, by decide, s1⟩, by omega, ⟨D, B2, R1.2.2⟩, fun post K => ?_, fun post K => ?_⟩
      · unfold wpX_enterFree
        refine il_xHash o16 d2 d6 S (br_f b ?_)
        unfold wX_enterFree_14
        refine br_f (by decide) (il_xShort R0 h (br_t (il_i0.mpr sh) ?_))
        unfold wX_enterFree_30
        refine il_xHome o16 d2 d6 hc ek S ?_
        rw [e]
        refine br_f (by decide) (br_f (fun q => (il_nn (q := t) (by omega)).2.1 q.symm) (il_xCloseI d2 d6 d4 B h e ?_))
        unfold wX_enterFree_54
        refine br_f (by decide) (wi _ ?_)
        unfold wX_enterFree_64
        exact wl nh nx pv st pl am _ K
      · unfold wpY_doEnter
        refine And.intro io ?_
        rw [co]
        refine br_f at1 (And.intro io (br_t a (And.intro io (br_f b (il_yShort R0 h (br_t (il_i0.mpr sh) ?_))))))
        unfold wY_doEnter_105
        refine And.intro io ?_
        rw [co]
        exact br_f (by rw [e]; decide) (And.intro io (br_t (by rw [e]; decide) (y149 post ho sy K)))
end
end
section
/-! park, wait, exit, hash -/
section
variable {g0 g1 g2 g3 : Int32} {tc oc mc lim nh : Nat} {hd kx sx ep mo mw md mh nx pv st pl am : Nat → Int32}
variable {ck : Nat} {ar : Nat → Int64} {ow dp ho hs ky sy ba : Nat → Int32}
variable {o m t : Nat}
theorem il_nq1 {s : Int32} (e : s = 1) : ¬ il_q s := fun q => (il_q01 q).2 e
theorem il_mo_of (R : (il_R tc oc mc lim nh ck hd kx sx ep mo mw md mh nx pv st pl am ar ow dp ho hs ky sy ba)) (h : o < oc) (hm : m < mc) (e : hd o = nI (4 * m + 3)) : mo m = nI o := (il_S_fat R.1.2.1 R.1.2.2.2.2.2.1 (R.2.1.1 o h) hm e).1
theorem il_opPark (R : (il_R tc oc mc lim nh ck hd kx sx ep mo mw md mh nx pv st pl am ar ow dp ho hs ky sy ba)) (hck : ck + 8 < 2 ^ 31) (ht : t < tc) (s1 : st t = 1) (h : o < oc) (a : ¬ ow o = nI t) (a1 : ¬ ow o = -1) :
    ∃ (r : Int32) (nh' ck' : Nat) (hd' sx' mo' mw' md' mh' nx' pv' st' pl' am' : Nat → Int32) (ar' : Nat → Int64) (ow' dp' ho' hs' sy' : Nat → Int32), il_ok t r st' ∧ ck' ≤ ck + 8 ∧ (il_R tc oc mc lim nh' ck' hd' kx sx' ep mo' mw' md' mh' nx' pv' st' pl' am' ar' ow' dp' ho' hs' ky sy' ba) ∧ (∀ post : Int32 → SX → Prop, post r (g0, g1, g2, g3, nI tc, nI oc, nI mc, nI lim, nI nh', hd', kx, sx', ep, mo', mw', md', mh', nx', pv', st', pl', am') → wpX_park post (g0, g1, g2, g3, nI tc, nI oc, nI mc, nI lim, nI nh, hd, kx, sx, ep, mo, mw, md, mh, nx, pv, st, pl, am) (nI t) (nI o) 2 1) ∧ (∀ post : Int32 → SY → Prop, post r (nI tc, nI oc, nI mc, nI lim, nI nh', lN ck', st', pl', am', ar', ow', dp', ho', hs', ky, sy', ba) → wpY_doEnter post (nI tc, nI oc, nI mc, nI lim, nI nh, lN ck, st, pl, am, ar, ow, dp, ho, hs, ky, sy, ba) (nI t) (nI o)) := by
  have R0 := R
  obtain ⟨⟨d1, d2, d3, d4, d5, d6, d7, d8, d9⟩, B, H⟩ := R
  have D : il_D tc oc mc lim nh := ⟨d1, d2, d3, d4, d5, d6, d7, d8, d9⟩
  have o16 : o < 16 := by omega
  have io : vp_in (nI o) 16 := vp_in_nI o16 (by decide)
  have co : (nI o).toNatClampNeg = o := nI_clamp (by omega)
  obtain ⟨c, hc, ek, eky⟩ := B.2.1 o h
  have n23 : ¬ (2 : Int32) = 3 := by decide
  rcases Classical.em (¬ il_fat mc (hd o) ∧ cn (il_bz tc oc mo st pl ow dp hs) mc = mc) with sh | sh
  · refine ⟨7, nh, ck, hd, sx, mo, mw, md, mh, nx, pv, st, pl, am, ar, ow, dp, ho, hs, sy, Or.inl (Or.inl rfl), by omega, R0, fun post K => ?_, fun post K => ?_⟩
    · unfold wpX_park
      exact il_xShort R0 h (br_f (by rw [il_i0]; exact fun q => q sh) K)
    · unfold wpY_doEnter
      refine And.intro io ?_
      rw [co]
      exact br_f a (And.intro io (br_f a1 (il_yShort R0 h (br_f (by rw [il_i0]; exact fun q => q sh) K))))
  · obtain ⟨m, hd1, mo1, mw1, md1, mh1, m1, m2, R1, wi⟩ := il_xInfl (g0 := g0) (g1 := g1) (g2 := g2) (g3 := g3) R0 h (il_room sh)
    obtain ⟨q, q24, eq1, H2⟩ := il_H_add (t := t) (z := 8) (m := m) (o := o) (d := 1) (s := 2) d2 d6 d4 (by omega) (il_B_J d6 d4 R1.2.1) R1.2.2 ht (il_nq1 s1) (Or.inl rfl) m1 (Or.inl ⟨rfl, Or.inl rfl⟩) h (il_mo_of R1 h m1 m2) (by omega) (by omega)
    refine ⟨5, nh, ck + 1, hd1, il_cs lim ho kx sx o, mo1, mw1, md1, mh1, upd (upd nx t (nI (8 + m))) q (nI t), upd (upd pv t (nI q)) (8 + m) (nI t), upd st t 2, upd pl t (nI o), upd am t 1, vp_updL ar t (lN (ck + 1)), ow, dp, upd ho o (-2), hs, il_cs lim ho ky sy o, Or.inl (Or.inr rfl), by omega, ⟨D, R1.2.1, H2⟩, fun post K => ?_, fun post K => ?_⟩
    · unfold wpX_park
      refine il_xShort R0 h (br_t (il_i0.mpr sh) (wi _ (br_f n23 ?_)))
      unfold wX_park_30
      refine il_xSetT (by omega) (br_f n23 ?_)
      rw [show (8 : Int32) + nI m = nI (8 + m) from nI_add 8 m]
      unfold wX_park_59
      exact il_xApp (by omega) (by omega) q24 (by omega) eq1 K
    · unfold wpY_doEnter
      refine And.intro io ?_
      rw [co]
      exact br_f a (And.intro io (br_f a1 (il_yShort R0 h (br_t (il_i0.mpr sh) (il_yClose o16 ⟨c, hc, eky⟩ (il_yLine (by omega) K))))))
theorem il_opWait (R : (il_R tc oc mc lim nh ck hd kx sx ep mo mw md mh nx pv st pl am ar ow dp ho hs ky sy ba)) (hck : ck + 8 < 2 ^ 31) (ht : t < tc) (s1 : st t = 1) (h : o < oc) (a : ow o = nI t) :
    ∃ (r : Int32) (nh' ck' : Nat) (hd' sx' mo' mw' md' mh' nx' pv' st' pl' am' : Nat → Int32) (ar' : Nat → Int64) (ow' dp' ho' hs' sy' : Nat → Int32), il_ok t r st' ∧ ck' ≤ ck + 8 ∧ (il_R tc oc mc lim nh' ck' hd' kx sx' ep mo' mw' md' mh' nx' pv' st' pl' am' ar' ow' dp' ho' hs' ky sy' ba) ∧ (∀ post : Int32 → SX → Prop, post r (g0, g1, g2, g3, nI tc, nI oc, nI mc, nI lim, nI nh', hd', kx, sx', ep, mo', mw', md', mh', nx', pv', st', pl', am') → wpX_park post (g0, g1, g2, g3, nI tc, nI oc, nI mc, nI lim, nI nh, hd, kx, sx, ep, mo, mw, md, mh, nx, pv, st, pl, am) (nI t) (nI o) 3 (dp o)) ∧ (∀ post : Int32 → SY → Prop, post r (nI tc, nI oc, nI mc, nI lim, nI nh', lN ck', st', pl', am', ar', ow', dp', ho', hs', ky, sy', ba) → wpY_doWait post (nI tc, nI oc, nI mc, nI lim, nI nh, lN ck, st, pl, am, ar, ow, dp, ho, hs, ky, sy, ba) (nI t) (nI o)) := by
  have R0 := R
  obtain ⟨⟨d1, d2, d3, d4, d5, d6, d7, d8, d9⟩, B, H⟩ := R
  have D : il_D tc oc mc lim nh := ⟨d1, d2, d3, d4, d5, d6, d7, d8, d9⟩
  have o16 : o < 16 := by omega
  have io : vp_in (nI o) 16 := vp_in_nI o16 (by decide)
  have co : (nI o).toNatClampNeg = o := nI_clamp (by omega)
  obtain ⟨c, hc, ek, eky⟩ := B.2.1 o h
  have an : ¬ ow o = -1 := by rw [a]; exact (il_nn (by omega)).1
  obtain ⟨d, l1, l9, ed⟩ := il_own_dep R0 h an
  rcases Classical.em (¬ il_fat mc (hd o) ∧ cn (il_bz tc oc mo st pl ow dp hs) mc = mc) with sh | sh
  · refine ⟨7, nh, ck, hd, sx, mo, mw, md, mh, nx, pv, st, pl, am, ar, ow, dp, ho, hs, sy, Or.inl (Or.inl rfl), by omega, R0, fun post K => ?_, fun post K => ?_⟩
    · unfold wpX_park
      exact il_xShort R0 h (br_f (by rw [il_i0]; exact fun q => q sh) K)
    · unfold wpY_doWait
      exact il_yShort R0 h (br_f (by rw [il_i0]; exact fun q => q sh) K)
  · obtain ⟨m, hd1, mo1, mw1, md1, mh1, m1, m2, R1, wi⟩ := il_xInfl (g0 := g0) (g1 := g1) (g2 := g2) (g3 := g3) R0 h (il_room sh)
    obtain ⟨hd2, mw2, md2, B2, wl⟩ := il_lock (g0 := g0) (g1 := g1) (g2 := g2) (g3 := g3) (t := t) (d := 0) (ow' := upd ow o (-1)) (dp' := upd dp o 0) (ho' := upd ho o (-2)) d2 d6 d4 R1.2.1 h ht (by omega) (Or.inl ⟨m, m1, m2⟩) (fun j q => pk_un q) (by rw [pk_us, if_pos rfl]) (fun j q => pk_un q) pk_us (fun _ _ => rfl) (Or.inr ⟨Or.inl pk_us, rfl⟩)
    obtain ⟨q, q24, eq1, H2⟩ := il_H_add (t := t) (z := 16) (m := m) (o := o) (d := d) (s := 3) d2 d6 d4 (by omega) (il_B_J d6 d4 R1.2.1) R1.2.2 ht (il_nq1 s1) (Or.inr rfl) m1 (Or.inr ⟨rfl, rfl⟩) h (il_mo_of R1 h m1 m2) l1 l9
    rw [← ed] at H2
    refine ⟨5, nh, ck + 1, hd2, il_cs lim ho kx sx o, mo1, mw2, md2, mh1, upd (upd nx t (nI (16 + m))) q (nI t), upd (upd pv t (nI q)) (16 + m) (nI t), upd st t 3, upd pl t (nI o), upd am t (dp o), vp_updL ar t (lN (ck + 1)), upd ow o (-1), upd dp o 0, upd ho o (-2), hs, il_cs lim ho ky sy o, Or.inl (Or.inr rfl), by omega, ⟨D, B2, H2⟩, fun post K => ?_, fun post K => ?_⟩
    · unfold wpX_park
      refine il_xShort R0 h (br_t (il_i0.mpr sh) (wi _ (br_t rfl (wl nh nx pv st pl am _ ?_))))
      show wX_park_30 _ _ _ _ _ _ g0 g1 g2 g3 (nI tc) (nI oc) (nI mc) (nI lim) (nI nh) hd2 kx (il_cs lim ho kx sx o) ep mo1 mw2 md2 mh1 nx pv st pl am
      unfold wX_park_30
      refine il_xSetT (by omega) (br_t rfl ?_)
      rw [show (16 : Int32) + nI m = nI (16 + m) from nI_add 16 m]
      unfold wX_park_59
      exact il_xApp (by omega) (by omega) q24 (by omega) eq1 K
    · unfold wpY_doWait
      refine il_yShort R0 h (br_t (il_i0.mpr sh) (il_yClose o16 ⟨c, hc, eky⟩ (And.intro io ?_)))
      rw [co]
      refine il_yLine (by omega) (And.intro io (fun x ex => And.intro io (fun y ey => ?_)))
      rw [ex, ey]; exact K
theorem il_opExit (R : (il_R tc oc mc lim nh ck hd kx sx ep mo mw md mh nx pv st pl am ar ow dp ho hs ky sy ba)) (ht : t < tc) (s1 : st t = 1) (h : o < oc) (a : ow o = nI t) :
    ∃ (r : Int32) (nh' ck' : Nat) (hd' sx' mo' mw' md' mh' nx' pv' st' pl' am' : Nat → Int32) (ar' : Nat → Int64) (ow' dp' ho' hs' sy' : Nat → Int32), il_ok t r st' ∧ ck' ≤ ck + 8 ∧ (il_R tc oc mc lim nh' ck' hd' kx sx' ep mo' mw' md' mh' nx' pv' st' pl' am' ar' ow' dp' ho' hs' ky sy' ba) ∧ (∀ post : SX → Prop, post (g0, g1, g2, g3, nI tc, nI oc, nI mc, nI lim, nI nh', hd', kx, sx', ep, mo', mw', md', mh', nx', pv', st', pl', am') → wpX_setLock post (g0, g1, g2, g3, nI tc, nI oc, nI mc, nI lim, nI nh, hd, kx, sx, ep, mo, mw, md, mh, nx, pv, st, pl, am) (nI o) (nI t) (dp o - 1)) ∧ (∀ post : Int32 → SY → Prop, post r (nI tc, nI oc, nI mc, nI lim, nI nh', lN ck', st', pl', am', ar', ow', dp', ho', hs', ky, sy', ba) → wpY_doExit post (nI tc, nI oc, nI mc, nI lim, nI nh, lN ck, st, pl, am, ar, ow, dp, ho, hs, ky, sy, ba) (nI o)) ∧ r = 1 := by
  have R0 := R
  obtain ⟨⟨d1, d2, d3, d4, d5, d6, d7, d8, d9⟩, B, H⟩ := R
  have D : il_D tc oc mc lim nh := ⟨d1, d2, d3, d4, d5, d6, d7, d8, d9⟩
  have o16 : o < 16 := by omega
  have io : vp_in (nI o) 16 := vp_in_nI o16 (by decide)
  have co : (nI o).toNatClampNeg = o := nI_clamp (by omega)
  have S := B.1 o h
  have an : ¬ ow o = -1 := by rw [a]; exact (il_nn (by omega)).1
  obtain ⟨d, l1, l9, ed⟩ := il_own_dep R0 h an
  have lt := il_own_light R0 h an ed l9
  have hm : ho o = -2 ∨ ho o = nI t := by rw [← a]; exact il_S_oh d2 S an
  have e1 : dp o - 1 = nI (d - 1) := by
    rw [ed, show nI d = nI (d - 1 + 1) from congrArg nI (by omega), nI_pred]
  rcases Nat.decEq (d - 1) 0 with z | z
  · obtain ⟨hd1, mw1, md1, B1, wl⟩ := il_lock (g0 := g0) (g1 := g1) (g2 := g2) (g3 := g3) (t := t) (d := d - 1) (ow' := ow) (dp' := upd dp o (dp o - 1)) (ho' := ho) d2 d6 d4 B h ht (by omega) (lt.imp id (fun q => ⟨by omega, q.2⟩)) (fun _ _ => rfl) (by rw [if_neg z]; exact a) (fun j q => pk_un q) (by rw [pk_us]; exact e1) (fun _ _ => rfl) (Or.inr ⟨hm, rfl⟩)
    refine ⟨1, nh, ck, hd1, sx, mo, mw1, md1, mh, nx, pv, st, pl, am, ar, ow, upd dp o (dp o - 1), ho, hs, sy, Or.inr ⟨by decide, by decide, s1⟩, by omega, ⟨D, B1, H⟩, fun post K => ?_, fun post K => ?_, rfl⟩
    · rw [e1]; exact wl nh nx pv st pl am _ K
    · unfold wpY_doExit
      refine And.intro io (And.intro io (fun x ex => And.intro io ?_))
      rw [co] at ex
      subst ex
      rw [co, pk_us]
      exact br_f (by rw [e1]; exact nI_ne0 (by omega) (by omega)) K
  · obtain ⟨hd1, mw1, md1, B1, wl⟩ := il_lock (g0 := g0) (g1 := g1) (g2 := g2) (g3 := g3) (t := t) (d := d - 1) (ow' := upd ow o (-1)) (dp' := upd dp o (dp o - 1)) (ho' := ho) d2 d6 d4 B h ht (by omega) (lt.imp id (fun q => ⟨by omega, q.2⟩)) (fun j q => pk_un q) (by rw [pk_us, if_pos z]) (fun j q => pk_un q) (by rw [pk_us]; exact e1) (fun _ _ => rfl) (Or.inr ⟨hm, rfl⟩)
    refine ⟨1, nh, ck, hd1, sx, mo, mw1, md1, mh, nx, pv, st, pl, am, ar, upd ow o (-1), upd dp o (dp o - 1), ho, hs, sy, Or.inr ⟨by decide, by decide, s1⟩, by omega, ⟨D, B1, H⟩, fun post K => ?_, fun post K => ?_, rfl⟩
    · rw [e1]; exact wl nh nx pv st pl am _ K
    · unfold wpY_doExit
      refine And.intro io (And.intro io (fun x ex => And.intro io ?_))
      rw [co] at ex
      subst ex
      rw [co, pk_us]
      refine br_t (by rw [e1, z]; rfl) (And.intro io (fun y ey => ?_))
      rw [ey]; exact K
/-- a hash is put -/
theorem il_hashed (R : (il_R tc oc mc lim nh ck hd kx sx ep mo mw md mh nx pv st pl am ar ow dp ho hs ky sy ba)) (h : o < oc) (e : ho o = -2) (nf : il_fat mc (hd o) ∨ ow o = -1) (b : hs o = -1) : ∃ hd' mh' : Nat → Int32, ∀ q, q ≤ 1023 → (il_R tc oc mc lim q ck hd' kx sx ep mo mw md mh' nx pv st pl am ar ow dp ho (upd hs o (nI nh)) ky sy ba) ∧
    ∀ post : Int32 → SX → Prop, ((5 * nI nh) + 3) &&& 1023 = nI q → post 1 (g0, g1, g2, g3, nI tc, nI oc, nI mc, nI lim, nI q, hd', kx, sx, ep, mo, mw, md, mh', nx, pv, st, pl, am) → wX_takeHash_59 post (nI o) g0 g1 g2 g3 (nI tc) (nI oc) (nI mc) (nI lim) (nI nh) hd kx sx ep mo mw md mh nx pv st pl am := by
  have R0 := R
  obtain ⟨⟨d1, d2, d3, d4, d5, d6, d7, d8, d9⟩, B, H⟩ := R
  have o16 : o < 16 := by omega
  have io : vp_in (nI o) 16 := vp_in_nI o16 (by decide)
  have co : (nI o).toNatClampNeg = o := nI_clamp (by omega)
  have S := B.1 o h
  rcases Classical.em (il_fat mc (hd o)) with ft | nft
  · obtain ⟨m, hm, em⟩ := ft
    have f := il_S_fat d2 d6 S hm em
    obtain ⟨w1, w2⟩ := il_fw (m := m) (by omega)
    rw [← em] at w1 w2
    refine ⟨hd, upd mh m (nI nh), fun q hq => ⟨⟨⟨d1, d2, d3, d4, d5, d6, d7, d8, hq⟩, ?_, H⟩, fun post eq1 K => ?_⟩⟩
    · refine il_B_keep (o := o) B (fun _ _ => rfl) (fun _ _ => rfl) (fun _ _ => rfl) (fun _ _ => rfl) (fun j z => pk_un z) (fun k hk z => ?_) (by omega) (by omega) ?_ (fun _ _ q => q) (fun q => q)
      · have : k ≠ m := fun q => z (by rw [q]; exact f.1)
        rw [pk_un this]; exact ⟨rfl, rfl, rfl⟩
      · obtain ⟨w, d, n, ⟨h1, h2, h3, h4, h5, h6, h7⟩, C⟩ := S
        refine ⟨w, d, nh + 1, ⟨h1, h2, by omega, h4, h5, h6, ?_⟩, Or.inr (Or.inr (Or.inr ⟨m, hm, e, em, f.1, f.2.1, f.2.2.1, ?_⟩))⟩
        · rw [pk_us, il_ps]
        · rw [pk_us, pk_us]
    · unfold wX_takeHash_59
      refine il_xTag o16 (br_t w1 (il_xPay o16 ?_))
      rw [w2]
      refine And.intro (vp_in_nI (by omega) (by decide)) (fun x ex => ?_)
      rw [nI_clamp (by omega)] at ex
      unfold wX_takeHash_99
      intro y ey
      rw [ey, eq1, ex]; exact K
  · rcases il_S_tag d2 d6 S with ⟨q, t⟩ | ⟨_, t⟩
    · exact absurd q nft
    have aw := nf.resolve_left nft
    refine ⟨upd hd o (nI (4 * (nh + 1))), mh, fun q hq => ⟨⟨⟨d1, d2, d3, d4, d5, d6, d7, d8, hq⟩, ?_, H⟩, fun post eq1 K => ?_⟩⟩
    · refine il_B_keep (o := o) B (fun j z => pk_un z) (fun _ _ => rfl) (fun _ _ => rfl) (fun _ _ => rfl) (fun j z => pk_un z) (fun _ _ _ => ⟨rfl, rfl, rfl⟩) (by omega) (by omega) ?_ (fun m hm q => absurd ⟨m, hm, q⟩ nft) (fun q => q)
      obtain ⟨w, d, n, ⟨h1, h2, h3, h4, h5, h6, h7⟩, C⟩ := S
      have w0 : w = 0 := by rw [h5, il_p_m1 (by omega)] at aw; exact aw
      refine ⟨w, d, nh + 1, ⟨h1, h2, by omega, h4, h5, h6, ?_⟩, Or.inl ⟨h4.mp w0, e, pk_us⟩⟩
      rw [pk_us, il_ps]
    · unfold wX_takeHash_59
      refine il_xTag o16 (br_f t ?_)
      unfold wpX_packHash
      refine And.intro io (fun x ex => ?_)
      rw [nI_1, il_pkh (by omega), co] at ex
      unfold wX_takeHash_99
      intro y ey
      rw [ey, eq1, ex]; exact K
theorem il_opHash (R : (il_R tc oc mc lim nh ck hd kx sx ep mo mw md mh nx pv st pl am ar ow dp ho hs ky sy ba)) (s1 : st t = 1) (h : o < oc) :
    ∃ (r : Int32) (nh' ck' : Nat) (hd' sx' mo' mw' md' mh' nx' pv' st' pl' am' : Nat → Int32) (ar' : Nat → Int64) (ow' dp' ho' hs' sy' : Nat → Int32), il_ok t r st' ∧ ck' ≤ ck + 8 ∧ (il_R tc oc mc lim nh' ck' hd' kx sx' ep mo' mw' md' mh' nx' pv' st' pl' am' ar' ow' dp' ho' hs' ky sy' ba) ∧ (∀ post : Int32 → SX → Prop, post r (g0, g1, g2, g3, nI tc, nI oc, nI mc, nI lim, nI nh', hd', kx, sx', ep, mo', mw', md', mh', nx', pv', st', pl', am') → wpX_takeHash post (g0, g1, g2, g3, nI tc, nI oc, nI mc, nI lim, nI nh, hd, kx, sx, ep, mo, mw, md, mh, nx, pv, st, pl, am) (nI o)) ∧ (∀ post : Int32 → SY → Prop, post r (nI tc, nI oc, nI mc, nI lim, nI nh', lN ck', st', pl', am', ar', ow', dp', ho', hs', ky, sy', ba) → wpY_doHash post (nI tc, nI oc, nI mc, nI lim, nI nh, lN ck, st, pl, am, ar, ow, dp, ho, hs, ky, sy, ba) (nI o)) := by
  have R0 := R
  obtain ⟨⟨d1, d2, d3, d4, d5, d6, d7, d8, d9⟩, B, H⟩ := R
  have D : il_D tc oc mc lim nh := ⟨d1, d2, d3, d4, d5, d6, d7, d8, d9⟩
  have o16 : o < 16 := by omega
  have io : vp_in (nI o) 16 := vp_in_nI o16 (by decide)
  have co : (nI o).toNatClampNeg = o := nI_clamp (by omega)
  have S := B.1 o h
  obtain ⟨c, hc, ek, eky⟩ := B.2.1 o h
  obtain ⟨q, hq, eq1⟩ := il_hash (n := nh) (by omega)
  have y33 : ∀ post : Int32 → SY → Prop, post 1 (nI tc, nI oc, nI mc, nI lim, nI q, lN ck, st, pl, am, ar, ow, dp, upd ho o (-2), upd hs o (nI nh), ky, il_cs lim ho ky sy o, ba) → wY_doHash_33 post (nI o) (nI tc) (nI oc) (nI mc) (nI lim) (nI nh) (lN ck) st pl am ar ow dp ho hs ky sy ba := fun post K => by
    unfold wY_doHash_33
    refine And.intro io (fun x ex y ey => ?_)
    rw [co] at ex
    rw [ex, ey, eq1]
    exact il_yClose o16 ⟨c, hc, eky⟩ K
  by_cases b : hs o = -1
  · by_cases a : ow o = -1
    · have R1 := il_R_close R0 h
      obtain ⟨hd2, mh2, z⟩ := il_hashed (g0 := g0) (g1 := g1) (g2 := g2) (g3 := g3) R1 h pk_us (Or.inr a) b
      obtain ⟨R2, wh⟩ := z q hq
      refine ⟨1, q, ck, hd2, il_cs lim ho kx sx o, mo, mw, md, mh2, nx, pv, st, pl, am, ar, ow, dp, upd ho o (-2), upd hs o (nI nh), il_cs lim ho ky sy o, Or.inr ⟨by decide, by decide, s1⟩, by omega, R2, fun post K => ?_, fun post K => ?_⟩
      · unfold wpX_takeHash
        refine il_xHash o16 d2 d6 S (br_t b (il_xOwner o16 d2 d6 S (br_t a ?_)))
        unfold wX_takeHash_25
        refine br_t rfl ?_
        unfold wX_takeHash_41
        exact br_t rfl (il_xClose d2 d6 d4 B h (wh post eq1 K))
      · unfold wpY_doHash
        refine And.intro io ?_
        rw [co]
        exact br_t b (And.intro io (br_t a (y33 post K)))
    · rcases Classical.em (¬ il_fat mc (hd o) ∧ cn (il_bz tc oc mo st pl ow dp hs) mc = mc) with sh | sh
      · refine ⟨7, nh, ck, hd, sx, mo, mw, md, mh, nx, pv, st, pl, am, ar, ow, dp, ho, hs, sy, Or.inl (Or.inl rfl), by omega, R0, fun post K => ?_, fun post K => ?_⟩
        · unfold wpX_takeHash
          refine il_xHash o16 d2 d6 S (br_t b (il_xOwner o16 d2 d6 S (br_f a ?_)))
          unfold wX_takeHash_25
          exact br_f (by decide) (il_xShort R0 h (br_f (by rw [il_i0]; exact fun q => q sh) K))
        · unfold wpY_doHash
          refine And.intro io ?_
          rw [co]
          exact br_t b (And.intro io (br_f a (il_yShort R0 h (br_f (by rw [il_i0]; exact fun q => q sh) K))))
      · obtain ⟨m, hd1, mo1, mw1, md1, mh1, m1, m2, R1, wi⟩ := il_xInfl (g0 := g0) (g1 := g1) (g2 := g2) (g3 := g3) R0 h (il_room sh)
        obtain ⟨hd2, mh2, z⟩ := il_hashed (g0 := g0) (g1 := g1) (g2 := g2) (g3 := g3) R1 h pk_us (Or.inl ⟨m, m1, m2⟩) b
        obtain ⟨R2, wh⟩ := z q hq
        refine ⟨1, q, ck, hd2, il_cs lim ho kx sx o, mo1, mw1, md1, mh2, nx, pv, st, pl, am, ar, ow, dp, upd ho o (-2), upd hs o (nI nh), il_cs lim ho ky sy o, Or.inr ⟨by decide, by decide, s1⟩, by omega, R2, fun post K => ?_, fun post K => ?_⟩
        · unfold wpX_takeHash
          refine il_xHash o16 d2 d6 S (br_t b (il_xOwner o16 d2 d6 S (br_f a ?_)))
          unfold wX_takeHash_25
          refine br_f (by decide) (il_xShort R0 h (br_t (il_i0.mpr sh) ?_))
          unfold wX_takeHash_41
          exact br_f (by decide) (wi _ (wh post eq1 K))
        · unfold wpY_doHash
          refine And.intro io ?_
          rw [co]
          exact br_t b (And.intro io (br_f a (il_yShort R0 h (br_t (il_i0.mpr sh) (y33 post K)))))
  · refine ⟨1, nh, ck, hd, sx, mo, mw, md, mh, nx, pv, st, pl, am, ar, ow, dp, ho, hs, sy, Or.inr ⟨by decide, by decide, s1⟩, by omega, R0, fun post K => ?_, fun post K => ?_⟩
    · unfold wpX_takeHash
      exact il_xHash o16 d2 d6 S (br_f b K)
    · unfold wpY_doHash
      refine And.intro io ?_
      rw [co]
      exact br_f b K
theorem il_opEnter (R : (il_R tc oc mc lim nh ck hd kx sx ep mo mw md mh nx pv st pl am ar ow dp ho hs ky sy ba)) (hck : ck + 8 < 2 ^ 31) (ht : t < tc) (s1 : st t = 1) (h : o < oc) :
    ∃ (r : Int32) (nh' ck' : Nat) (hd' sx' mo' mw' md' mh' nx' pv' st' pl' am' : Nat → Int32) (ar' : Nat → Int64) (ow' dp' ho' hs' sy' : Nat → Int32), il_ok t r st' ∧ ck' ≤ ck + 8 ∧ (il_R tc oc mc lim nh' ck' hd' kx sx' ep mo' mw' md' mh' nx' pv' st' pl' am' ar' ow' dp' ho' hs' ky sy' ba) ∧ (∀ post : Int32 → SX → Prop, post r (g0, g1, g2, g3, nI tc, nI oc, nI mc, nI lim, nI nh', hd', kx, sx', ep, mo', mw', md', mh', nx', pv', st', pl', am') → wpX_enter post (g0, g1, g2, g3, nI tc, nI oc, nI mc, nI lim, nI nh, hd, kx, sx, ep, mo, mw, md, mh, nx, pv, st, pl, am) (nI t) (nI o)) ∧ (∀ post : Int32 → SY → Prop, post r (nI tc, nI oc, nI mc, nI lim, nI nh', lN ck', st', pl', am', ar', ow', dp', ho', hs', ky, sy', ba) → wpY_doEnter post (nI tc, nI oc, nI mc, nI lim, nI nh, lN ck, st, pl, am, ar, ow, dp, ho, hs, ky, sy, ba) (nI t) (nI o)) := by
  have o16 : o < 16 := by have := R.1.2.2.2.1; omega
  have S := R.2.1.1 o h
  have d2 := R.1.2.1
  have d6 := R.1.2.2.2.2.2.1
  by_cases a : ow o = nI t
  · obtain ⟨r, nh', ck', hd', sx', mo', mw', md', mh', nx', pv', st', pl', am', ar', ow', dp', ho', hs', sy', h1, h2, h3, h4, h5⟩ := il_opRe (g0 := g0) (g1 := g1) (g2 := g2) (g3 := g3) R ht s1 h a
    refine ⟨r, nh', ck', hd', sx', mo', mw', md', mh', nx', pv', st', pl', am', ar', ow', dp', ho', hs', sy', h1, h2, h3, fun post K => ?_, h5⟩
    unfold wpX_enter
    exact il_xOwner o16 d2 d6 S (br_t a (h4 _ K))
  · by_cases b : ow o = -1
    · obtain ⟨r, nh', ck', hd', sx', mo', mw', md', mh', nx', pv', st', pl', am', ar', ow', dp', ho', hs', sy', h1, h2, h3, h4, h5⟩ := il_opFree (g0 := g0) (g1 := g1) (g2 := g2) (g3 := g3) R ht s1 h b
      refine ⟨r, nh', ck', hd', sx', mo', mw', md', mh', nx', pv', st', pl', am', ar', ow', dp', ho', hs', sy', h1, h2, h3, fun post K => ?_, h5⟩
      unfold wpX_enter
      exact il_xOwner o16 d2 d6 S (br_f a (br_t b (h4 _ K)))
    · obtain ⟨r, nh', ck', hd', sx', mo', mw', md', mh', nx', pv', st', pl', am', ar', ow', dp', ho', hs', sy', h1, h2, h3, h4, h5⟩ := il_opPark (g0 := g0) (g1 := g1) (g2 := g2) (g3 := g3) R hck ht s1 h a b
      refine ⟨r, nh', ck', hd', sx', mo', mw', md', mh', nx', pv', st', pl', am', ar', ow', dp', ho', hs', sy', h1, h2, h3, fun post K => ?_, h5⟩
      unfold wpX_enter
      exact il_xOwner o16 d2 d6 S (br_f a (br_f b (h4 _ K)))
end
end
section
/-! transfer, wake and doNotify, interrupt -/
section
variable {g0 g1 g2 g3 : Int32} {tc oc mc lim nh : Nat} {hd kx sx ep mo mw md mh nx pv st pl am : Nat → Int32}
variable {ck : Nat} {ar : Nat → Int64} {ow dp ho hs ky sy ba : Nat → Int32}
variable {o m t : Nat}
/-- a waiting thread goes to the entry queue -/
theorem il_trans {s : Int32} (R : (il_R tc oc mc lim nh ck hd kx sx ep mo mw md mh nx pv st pl am ar ow dp ho hs ky sy ba)) (hck : ck + 1 < 2 ^ 31) (ht : t < tc) (s3 : st t = 3) (hs4 : s = 4 ∨ s = 5) :
    ∃ nx' pv' : Nat → Int32, (il_R tc oc mc lim nh (ck + 1) hd kx sx ep mo mw md mh nx' pv' (upd st t s) pl am (vp_updL ar t (lN (ck + 1))) ow dp ho hs ky sy ba) ∧ ∀ post : SX → Prop, post (g0, g1, g2, g3, nI tc, nI oc, nI mc, nI lim, nI nh, hd, kx, sx, ep, mo, mw, md, mh, nx', pv', upd st t s, pl, am) → wpX_transfer post (g0, g1, g2, g3, nI tc, nI oc, nI mc, nI lim, nI nh, hd, kx, sx, ep, mo, mw, md, mh, nx, pv, st, pl, am) (nI t) s := by
  have R0 := R
  obtain ⟨⟨d1, d2, d3, d4, d5, d6, d7, d8, d9⟩, B, H⟩ := R
  have D : il_D tc oc mc lim nh := ⟨d1, d2, d3, d4, d5, d6, d7, d8, d9⟩
  have hq : il_q (st t) := Or.inr (Or.inl s3)
  have J := il_B_J d6 d4 B
  obtain ⟨o, h, eo⟩ := il_T_pl (H.1 t ht) (il_q01 hq).1
  obtain ⟨d, l1, l9, ed⟩ := il_T_am (H.1 t ht) hq
  obtain ⟨m, hm, em⟩ := H.2.2.1 t ht hq
  have em' : mo m = nI o := em.trans eo
  have eh := il_B_mo d4 B hm h em'
  obtain ⟨w1, w2⟩ := il_fw (m := m) (by omega)
  rw [← eh] at w1 w2
  obtain ⟨p, q, p24, q24, ep1, eq1, H1⟩ := il_H_rem (am' := am) d2 d6 J H ht hq (fun _ _ => rfl)
  have c8 : il_cl 8 s := Or.inl ⟨rfl, hs4.elim (fun q => Or.inr (Or.inl q)) (fun q => Or.inr (Or.inr q))⟩
  obtain ⟨r, r24, er, H2⟩ := il_H_add (t := t) (z := 8) (m := m) (o := o) (d := d) (s := s) d2 d6 d4 hck J H1 ht (by rw [pk_us]; exact fun q => (il_q01 q).1 rfl) (Or.inl rfl) hm c8 h em' l1 l9
  rw [il_uu, il_uu, il_ue eo, il_ue ed] at H2
  refine ⟨_, _, ⟨D, B, H2⟩, fun post K => ?_⟩
  have it : vp_in (nI t) 8 := vp_in_nI (by omega) (by decide)
  have ct : (nI t).toNatClampNeg = t := nI_clamp (by omega)
  unfold wpX_transfer
  refine And.intro it ?_
  rw [ct, eo]
  refine il_xPay (by omega) ?_
  rw [w2, show (8 : Int32) + nI m = nI (8 + m) from nI_add 8 m]
  refine il_xUnl (by omega) p24 q24 ep1 eq1 ?_
  refine il_xApp (by omega) (by omega) r24 (by omega) er ?_
  refine And.intro it (fun x ex => ?_)
  rw [ex]; exact K
/-- the two loops that wake waiters -/
theorem il_wk (R : (il_R tc oc mc lim nh ck hd kx sx ep mo mw md mh nx pv st pl am ar ow dp ho hs ky sy ba)) (hm : m < mc) (h : o < oc) (em : mo m = nI o) {MX MY : Nat} (hMY : MY ≤ 8) (hXY : MX ≤ MY) : ∀ (j i ck : Nat) (x3 : Int32) (nx pv st : Nat → Int32) (ar : Nat → Int64), i + j = MX → ck + j + 1 < 2 ^ 31 → (il_R tc oc mc lim nh ck hd kx sx ep mo mw md mh nx pv st pl am ar ow dp ho hs ky sy ba) →
    (MX = MY ∨ i + cn (fun t => pl t = nI o ∧ st t = 3) tc ≤ MX) → (x3 = 1 ∨ (i < MX ∧ ∃ t, t < tc ∧ pl t = nI o ∧ st t = 3)) →
    ∃ (ck' : Nat) (nx' pv' st' : Nat → Int32) (ar' : Nat → Int64), ck' ≤ ck + j ∧ (∀ u, ¬ st u = 3 → st' u = st u) ∧ (il_R tc oc mc lim nh ck' hd kx sx ep mo mw md mh nx' pv' st' pl am ar' ow dp ho hs ky sy ba) ∧
      (∀ post : Int32 → SX → Prop, post 1 (g0, g1, g2, g3, nI tc, nI oc, nI mc, nI lim, nI nh, hd, kx, sx, ep, mo, mw, md, mh, nx', pv', st', pl, am) → ∀ n, j < n → wX_wake_37 post (nI MX) (nI (16 + m)) n (nI i) g0 g1 g2 g3 (nI tc) (nI oc) (nI mc) (nI lim) (nI nh) hd kx sx ep mo mw md mh nx pv st pl am) ∧
      (∀ post : Int32 → SY → Prop, post 1 (nI tc, nI oc, nI mc, nI lim, nI nh, lN ck', st', pl, am, ar', ow, dp, ho, hs, ky, sy, ba) → ∀ n, MY - i < n → wY_doNotify_6 post (nI o) (nI MY) n x3 (nI i) (nI tc) (nI oc) (nI mc) (nI lim) (nI nh) (lN ck) st pl am ar ow dp ho hs ky sy ba) := by
  have d2 := R.1.2.1
  have d4 := R.1.2.2.2.1
  have d6 := R.1.2.2.2.2.2.1
  clear R
  have i24 : vp_in (nI (16 + m)) 24 := vp_in_nI (by omega) (by decide)
  have c24 : (nI (16 + m)).toNatClampNeg = 16 + m := nI_clamp (by omega)
  intro j
  induction j with
  | zero =>
    intro i ck x3 nx pv st ar hi hck R hM hx
    have x1 : x3 = 1 := hx.resolve_right (fun q => by omega)
    subst x1
    refine ⟨ck, nx, pv, st, ar, by omega, fun _ _ => rfl, R, fun post K n hn => ?_, fun post K n hn => ?_⟩
    · cases n with
      | zero => omega
      | succ n => exact br_t (nI_le (by omega) (by omega)) K
    · rcases hM with hM | hM
      · cases n with
        | zero => omega
        | succ n => exact br_t (nI_le (by omega) (by omega)) K
      · have c0 : cn (fun t => pl t = nI o ∧ st t = 3) tc = 0 := by omega
        exact il_yNone d2 hMY (fun t ht e1 e2 => cn_zero c0 t ht ⟨e1, e2⟩) K (MY - i) i (by omega) n hn
  | succ j ih =>
    intro i ck x3 nx pv st ar hi hck R hM hx
    rcases il_front (z := 16) d2 d6 R.2.2 (Or.inr rfl) hm with ⟨f1, f2⟩ | ⟨w, w1, w2, w3, w4, w5, w6⟩
    · have nw : ∀ t, t < tc → pl t = nI o → ¬ st t = 3 := fun t ht e1 e2 => f2 t ht (e1.trans em.symm) (Or.inr ⟨rfl, e2⟩)
      have x1 : x3 = 1 := hx.resolve_right (fun ⟨_, t, h1, h2, h3⟩ => nw t h1 h2 h3)
      subst x1
      refine ⟨ck, nx, pv, st, ar, by omega, fun _ _ => rfl, R, fun post K n hn => ?_, fun post K n hn => ?_⟩
      · cases n with
        | zero => omega
        | succ n =>
          refine br_f (nI_ge (by omega) (by omega)) (And.intro i24 ?_)
          rw [c24]
          exact br_t f1 K
      · exact il_yNone d2 hMY nw K (MY - i) i (by omega) n hn
    · have w33 : st w = 3 := by
        rcases w3 with ⟨q, _⟩ | ⟨_, q⟩
        · omega
        · exact q
      have plw : pl w = nI o := w2.trans em
      obtain ⟨nx1, pv1, R1, wt⟩ := il_trans (g0 := g0) (g1 := g1) (g2 := g2) (g3 := g3) (s := 4) R (by omega) w1 w33 (Or.inl rfl)
      have cnt : cn (fun t => pl t = nI o ∧ st t = 3) tc = cn (fun t => pl t = nI o ∧ upd st w 4 t = 3) tc + 1 := by
        rw [← cn_add (P := fun t => pl t = nI o ∧ upd st w 4 t = 3) (a := w) (fun q => by rw [pk_us] at q; exact absurd q.2 (by decide)) w1]
        refine cn_eq (fun k hk => ⟨fun ⟨q1, q2⟩ => ?_, fun q => ?_⟩)
        · rcases Nat.decEq k w with z | z
          · exact Or.inl ⟨q1, by rw [pk_un z]; exact q2⟩
          · exact Or.inr z
        · rcases q with ⟨q1, q2⟩ | q
          · rcases Nat.decEq k w with z | z
            · rw [pk_un z] at q2; exact ⟨q1, q2⟩
            · rw [z]; exact ⟨plw, w33⟩
          · rw [q]; exact ⟨plw, w33⟩
      obtain ⟨ck', nx', pv', st', ar', g1', g2', g3', g4', g5'⟩ := ih (i + 1) (ck + 1) 1 nx1 pv1 (upd st w 4) (vp_updL ar w (lN (ck + 1))) (by omega) (by omega) R1 (hM.imp id (fun q => by omega)) (Or.inl rfl)
      refine ⟨ck', nx', pv', st', ar', by omega, fun u hu => ?_, g3', fun post K n hn => ?_, fun post K n hn => ?_⟩
      · have uw : u ≠ w := fun e => hu (by rw [e]; exact w33)
        rw [g2' u (by rw [pk_un uw]; exact hu), pk_un uw]
      · cases n with
        | zero => omega
        | succ n =>
          refine br_f (nI_ge (by omega) (by omega)) (And.intro i24 ?_)
          rw [c24]
          refine br_f (by rw [w4]; exact fun q => by have := il_inj q; omega) (And.intro i24 ?_)
          rw [w4]
          refine wt _ (fun a ea => ?_)
          rw [ea, nI_1]
          exact g4' post K n (by omega)
      · cases n with
        | zero => omega
        | succ n =>
          have w8 : vp_in (nI w) 8 := vp_in_nI (by omega) (by decide)
          refine br_f (nI_ge (by omega) (by omega)) (il_yFirst d2 (fun q => absurd w33 (q w w1 plw)) (fun w' v1 v2 v3 v4 => ?_) (Or.inr ⟨w, w1, plw, w33, w5⟩))
          have ww : w' = w := by
            rcases Nat.decEq w' w with z | z
            · exact absurd v4 (w6 w' v1 (v2.trans em.symm) (Or.inr ⟨rfl, v3⟩) z)
            · exact z
          subst ww
          refine br_f (il_nn (by omega)).1 (And.intro w8 ?_)
          rw [nI_clamp (by omega)]
          refine il_yLine (by omega) (fun a ea => ?_)
          rw [ea, nI_1, il_us, il_ue plw]
          exact g5' post K n (by omega)
theorem il_opNotify (R : (il_R tc oc mc lim nh ck hd kx sx ep mo mw md mh nx pv st pl am ar ow dp ho hs ky sy ba)) (hck : ck + 9 < 2 ^ 31) (ht : t < tc) (s1 : st t = 1) (h : o < oc) {MX MY : Nat} (hM : (MX = 1 ∧ MY = 1) ∨ (MX = tc ∧ MY = 8)) :
    ∃ (r : Int32) (nh' ck' : Nat) (hd' sx' mo' mw' md' mh' nx' pv' st' pl' am' : Nat → Int32) (ar' : Nat → Int64) (ow' dp' ho' hs' sy' : Nat → Int32), il_ok t r st' ∧ ck' ≤ ck + 8 ∧ (il_R tc oc mc lim nh' ck' hd' kx sx' ep mo' mw' md' mh' nx' pv' st' pl' am' ar' ow' dp' ho' hs' ky sy' ba) ∧ (∀ post : Int32 → SX → Prop, post r (g0, g1, g2, g3, nI tc, nI oc, nI mc, nI lim, nI nh', hd', kx, sx', ep, mo', mw', md', mh', nx', pv', st', pl', am') → wpX_wake post (g0, g1, g2, g3, nI tc, nI oc, nI mc, nI lim, nI nh, hd, kx, sx, ep, mo, mw, md, mh, nx, pv, st, pl, am) (nI o) (nI MX)) ∧ (∀ post : Int32 → SY → Prop, post r (nI tc, nI oc, nI mc, nI lim, nI nh', lN ck', st', pl', am', ar', ow', dp', ho', hs', ky, sy', ba) → wpY_doNotify post (nI tc, nI oc, nI mc, nI lim, nI nh, lN ck, st, pl, am, ar, ow, dp, ho, hs, ky, sy, ba) (nI o) (nI MY)) := by
  have R0 := R
  obtain ⟨⟨d1, d2, d3, d4, d5, d6, d7, d8, d9⟩, B, H⟩ := R
  have o16 : o < 16 := by omega
  have S := B.1 o h
  have hX8 : MX ≤ MY ∧ MY ≤ 8 ∧ 1 ≤ MX := by omega
  have none : (∀ t, t < tc → pl t = nI o → ¬ st t = 3) → ∀ post : Int32 → SY → Prop, post 10 (nI tc, nI oc, nI mc, nI lim, nI nh, lN ck, st, pl, am, ar, ow, dp, ho, hs, ky, sy, ba) → wpY_doNotify post (nI tc, nI oc, nI mc, nI lim, nI nh, lN ck, st, pl, am, ar, ow, dp, ho, hs, ky, sy, ba) (nI o) (nI MY) := fun q post K => by
    unfold wpY_doNotify
    exact Exists.intro (MY + 1) (il_yNone d2 hX8.2.1 q K MY 0 (by omega) _ (by omega))
  rcases Classical.em (il_fat mc (hd o)) with ft | nf
  · obtain ⟨m, hm, e⟩ := ft
    have em := (il_S_fat d2 d6 S hm e).1
    obtain ⟨w1, w2⟩ := il_fw (m := m) (by omega)
    rw [← e] at w1 w2
    have i24 : vp_in (nI (16 + m)) 24 := vp_in_nI (by omega) (by decide)
    have c24 : (nI (16 + m)).toNatClampNeg = 16 + m := nI_clamp (by omega)
    have a16 : (16 : Int32) + nI m = nI (16 + m) := nI_add 16 m
    rcases il_front (z := 16) d2 d6 H (Or.inr rfl) hm with ⟨f1, f2⟩ | ⟨w, v1, v2, v3, v4, v5, v6⟩
    · have nw : ∀ t, t < tc → pl t = nI o → ¬ st t = 3 := fun t ht e1 e2 => f2 t ht (e1.trans em.symm) (Or.inr ⟨rfl, e2⟩)
      refine ⟨10, nh, ck, hd, sx, mo, mw, md, mh, nx, pv, st, pl, am, ar, ow, dp, ho, hs, sy, Or.inr ⟨by decide, by decide, s1⟩, by omega, R0, fun post K => ?_, none nw⟩
      unfold wpX_wake
      refine il_xTag o16 (br_t w1 (il_xPay o16 ?_))
      rw [w2, a16]
      refine fun x ex => ?_
      subst ex
      refine And.intro i24 ?_
      rw [c24]
      exact br_t f1 K
    · have w33 : st w = 3 := by
        rcases v3 with ⟨q, _⟩ | ⟨_, q⟩
        · omega
        · exact q
      have plw : pl w = nI o := v2.trans em
      have cl := cn_le (fun t => pl t = nI o ∧ st t = 3) tc
      obtain ⟨ck', nx', pv', st', ar', g1', g2', g3', g4', g5'⟩ := il_wk (g0 := g0) (g1 := g1) (g2 := g2) (g3 := g3) R0 hm h em hX8.2.1 hX8.1 MX 0 ck 10 nx pv st ar (by omega) (by omega) R0 (by omega) (Or.inr ⟨by omega, w, v1, plw, w33⟩)
      refine ⟨1, nh, ck', hd, sx, mo, mw, md, mh, nx', pv', st', pl, am, ar', ow, dp, ho, hs, sy, Or.inr ⟨by decide, by decide, ?_⟩, by omega, g3', fun post K => ?_, fun post K => ?_⟩
      · rw [g2' t (by rw [s1]; decide)]; exact s1
      · unfold wpX_wake
        refine il_xTag o16 (br_t w1 (il_xPay o16 ?_))
        rw [w2, a16]
        refine fun x ex => ?_
        subst ex
        refine And.intro i24 ?_
        rw [c24]
        refine br_f (by rw [v4]; exact fun q => by have := il_inj q; omega) ?_
        exact Exists.intro (MX + 1) (g4' post K _ (by omega))
      · unfold wpY_doNotify
        exact Exists.intro (MY + 1) (g5' post K _ (by omega))
  · have nw : ∀ t, t < tc → pl t = nI o → ¬ st t = 3 := fun t ht e1 e2 => il_nolined R0 h nf t ht (Or.inr (Or.inl e2)) e1
    rcases il_S_tag d2 d6 S with ⟨q, t3⟩ | ⟨_, t3⟩
    · exact absurd q nf
    refine ⟨10, nh, ck, hd, sx, mo, mw, md, mh, nx, pv, st, pl, am, ar, ow, dp, ho, hs, sy, Or.inr ⟨by decide, by decide, s1⟩, by omega, R0, fun post K => ?_, none nw⟩
    unfold wpX_wake
    exact il_xTag o16 (br_f t3 K)
end
end
section
/-! one step of a thread -/
section
variable {g0 g1 g2 g3 : Int32} {tc oc mc lim nh : Nat} {hd kx sx ep mo mw md mh nx pv st pl am : Nat → Int32}
variable {ck : Nat} {ar : Nat → Int64} {ow dp ho hs ky sy ba : Nat → Int32}
variable {o m t : Nat}
theorem il_xIsT {post : Int32 → Prop} (htc : tc ≤ 8) (ht : t < tc) (K : post 1) : wpX_isThread post (g0, g1, g2, g3, nI tc, nI oc, nI mc, nI lim, nI nh, hd, kx, sx, ep, mo, mw, md, mh, nx, pv, st, pl, am) (nI t) := by
  unfold wpX_isThread
  exact br_f (nI_pos (by omega)) (br_f (nI_ge ht (by omega)) K)
theorem il_yIsT {post : Int32 → Prop} (htc : tc ≤ 8) (ht : t < tc) (K : post 1) : wpY_isThread post (nI tc, nI oc, nI mc, nI lim, nI nh, lN ck, st, pl, am, ar, ow, dp, ho, hs, ky, sy, ba) (nI t) := by
  unfold wpY_isThread
  exact br_f (nI_pos (by omega)) (br_f (nI_ge ht (by omega)) K)
theorem il_xIsO {post : Int32 → Prop} (hoc : oc ≤ 16) (h : o < oc) (K : post 1) : wpX_isObject post (g0, g1, g2, g3, nI tc, nI oc, nI mc, nI lim, nI nh, hd, kx, sx, ep, mo, mw, md, mh, nx, pv, st, pl, am) (nI o) := by
  unfold wpX_isObject
  exact br_f (nI_pos (by omega)) (br_f (nI_ge h (by omega)) K)
theorem il_yIsO {post : Int32 → Prop} (hoc : oc ≤ 16) (h : o < oc) (K : post 1) : wpY_isObject post (nI tc, nI oc, nI mc, nI lim, nI nh, lN ck, st, pl, am, ar, ow, dp, ho, hs, ky, sy, ba) (nI o) := by
  unfold wpY_isObject
  exact br_f (nI_pos (by omega)) (br_f (nI_ge h (by omega)) K)
theorem il_10 : ¬ (1 : Int32) = 0 := by decide
theorem il_fin {r : Int32} {nh' ck' : Nat} {hd' sx' mo' mw' md' mh' nx' pv' st' pl' am' : Nat → Int32} {ar' : Nat → Int64} {ow' dp' ho' hs' sy' : Nat → Int32} (ok : il_ok t r st') (h2 : ck' ≤ ck + 8) (R' : (il_R tc oc mc lim nh' ck' hd' kx sx' ep mo' mw' md' mh' nx' pv' st' pl' am' ar' ow' dp' ho' hs' ky sy' ba)) (t8 : t < 8) (eo : pl t = nI o)
    (hX : ∀ post : Int32 → SX → Prop, post r (g0, g1, g2, g3, nI tc, nI oc, nI mc, nI lim, nI nh', hd', kx, sx', ep, mo', mw', md', mh', nx', pv', st', pl', am') → wpX_perform post (g0, g1, g2, g3, nI tc, nI oc, nI mc, nI lim, nI nh, hd, kx, sx, ep, mo, mw, md, mh, nx, pv, st, pl, am) (nI t) (am t) (nI o)) (hY : ∀ post : Int32 → SY → Prop, wY_carryOut_112 post (nI t) r (nI tc) (nI oc) (nI mc) (nI lim) (nI nh') (lN ck') st' pl' am' ar' ow' dp' ho' hs' ky sy' ba → wpY_carryOut post (nI tc, nI oc, nI mc, nI lim, nI nh, lN ck, st, pl, am, ar, ow, dp, ho, hs, ky, sy, ba) (nI t)) :
    ∃ (r : Int32) (nh' ck' : Nat) (hd' sx' mo' mw' md' mh' nx' pv' st' pl' am' : Nat → Int32) (ar' : Nat → Int64) (ow' dp' ho' hs' sy' : Nat → Int32), ck' ≤ ck + 8 ∧ (il_R tc oc mc lim nh' ck' hd' kx sx' ep mo' mw' md' mh' nx' pv' st' pl' am' ar' ow' dp' ho' hs' ky sy' ba) ∧ (∀ post : Int32 → SX → Prop, post r (g0, g1, g2, g3, nI tc, nI oc, nI mc, nI lim, nI nh', hd', kx, sx', ep, mo', mw', md', mh', nx', pv', st', pl', am') → wpX_carryOut post (g0, g1, g2, g3, nI tc, nI oc, nI mc, nI lim, nI nh, hd, kx, sx, ep, mo, mw, md, mh, nx, pv, st, pl, am) (nI t)) ∧ (∀ post : Int32 → SY → Prop, post r (nI tc, nI oc, nI mc, nI lim, nI nh', lN ck', st', pl', am', ar', ow', dp', ho', hs', ky, sy', ba) → wpY_carryOut post (nI tc, nI oc, nI mc, nI lim, nI nh, lN ck, st, pl, am, ar, ow, dp, ho, hs, ky, sy, ba) (nI t)) := by
  have it : vp_in (nI t) 8 := vp_in_nI t8 (by decide)
  have ct : (nI t).toNatClampNeg = t := nI_clamp (by omega)
  rcases ok with q | ⟨n7, n5, s1⟩
  · refine ⟨r, nh', ck', hd', sx', mo', mw', md', mh', nx', pv', st', pl', am', ar', ow', dp', ho', hs', sy', h2, R', fun post K => ?_, fun post K => hY post ?_⟩
    · unfold wpX_carryOut
      refine And.intro it (And.intro it ?_)
      rw [ct, eo]
      refine hX _ ?_
      rcases q with q | q
      · exact br_t q K
      · exact br_f (by rw [q]; decide) (br_t q K)
    · unfold wY_carryOut_112
      rcases q with q | q
      · exact br_t q K
      · exact br_f (by rw [q]; decide) (br_t q K)
  · refine ⟨r, nh', ck', hd', sx', mo', mw', md', mh', nx', pv', upd st' t 0, upd pl' t (-1), upd am' t 0, ar', ow', dp', ho', hs', sy', h2, ⟨R'.1, R'.2.1, il_H_set R'.2.2 (il_nq1 s1) (fun q => (il_q01 q).1 rfl) (Or.inl ⟨rfl, rfl⟩)⟩, fun post K => ?_, fun post K => hY post ?_⟩
    · unfold wpX_carryOut
      refine And.intro it (And.intro it ?_)
      rw [ct, eo]
      refine hX _ ?_
      exact br_f n7 (br_f n5 (il_xSetT t8 K))
    · unfold wY_carryOut_112
      exact br_f n7 (br_f n5 (il_yIdle t8 K))
theorem il_carry (R : (il_R tc oc mc lim nh ck hd kx sx ep mo mw md mh nx pv st pl am ar ow dp ho hs ky sy ba)) (hck : ck + 9 < 2 ^ 31) (ht : t < tc) (s1 : st t = 1) :
    ∃ (r : Int32) (nh' ck' : Nat) (hd' sx' mo' mw' md' mh' nx' pv' st' pl' am' : Nat → Int32) (ar' : Nat → Int64) (ow' dp' ho' hs' sy' : Nat → Int32), ck' ≤ ck + 8 ∧ (il_R tc oc mc lim nh' ck' hd' kx sx' ep mo' mw' md' mh' nx' pv' st' pl' am' ar' ow' dp' ho' hs' ky sy' ba) ∧ (∀ post : Int32 → SX → Prop, post r (g0, g1, g2, g3, nI tc, nI oc, nI mc, nI lim, nI nh', hd', kx, sx', ep, mo', mw', md', mh', nx', pv', st', pl', am') → wpX_carryOut post (g0, g1, g2, g3, nI tc, nI oc, nI mc, nI lim, nI nh, hd, kx, sx, ep, mo, mw, md, mh, nx, pv, st, pl, am) (nI t)) ∧ (∀ post : Int32 → SY → Prop, post r (nI tc, nI oc, nI mc, nI lim, nI nh', lN ck', st', pl', am', ar', ow', dp', ho', hs', ky, sy', ba) → wpY_carryOut post (nI tc, nI oc, nI mc, nI lim, nI nh, lN ck, st, pl, am, ar, ow, dp, ho, hs, ky, sy, ba) (nI t)) := by
  have d2 := R.1.2.1
  have d4 := R.1.2.2.2.1
  have d6 := R.1.2.2.2.2.2.1
  obtain ⟨o, h, eo⟩ := il_T_pl (R.2.2.1 t ht) (by rw [s1]; exact il_10)
  have t8 : t < 8 := by omega
  have it : vp_in (nI t) 8 := vp_in_nI t8 (by decide)
  have ct : (nI t).toNatClampNeg = t := nI_clamp (by omega)
  have io : vp_in (nI o) 16 := vp_in_nI (by omega) (by decide)
  have co : (nI o).toNatClampNeg = o := nI_clamp (by omega)
  have S := R.2.1.1 o h
  by_cases a1 : am t = 1
  · obtain ⟨r, nh', ck', hd', sx', mo', mw', md', mh', nx', pv', st', pl', am', ar', ow', dp', ho', hs', sy', h1, h2, h3, h4, h5⟩ := il_opEnter (g0 := g0) (g1 := g1) (g2 := g2) (g3 := g3) R (by omega) ht s1 h
    refine il_fin (g0 := g0) (g1 := g1) (g2 := g2) (g3 := g3) h1 h2 h3 t8 eo (fun post K => ?_) (fun post K => ?_)
    · unfold wpX_perform
      exact br_t a1 (h4 _ K)
    · unfold wpY_carryOut
      refine And.intro it (fun x ex => And.intro it (fun y ey => ?_))
      rw [ct] at ex ey
      rw [eo] at ex
      subst ex ey
      exact br_t a1 (h5 _ K)
  · by_cases a6 : am t = 6
    · obtain ⟨r, nh', ck', hd', sx', mo', mw', md', mh', nx', pv', st', pl', am', ar', ow', dp', ho', hs', sy', h1, h2, h3, h4, h5⟩ := il_opHash (g0 := g0) (g1 := g1) (g2 := g2) (g3 := g3) R s1 h
      refine il_fin (g0 := g0) (g1 := g1) (g2 := g2) (g3 := g3) h1 h2 h3 t8 eo (fun post K => ?_) (fun post K => ?_)
      · unfold wpX_perform
        exact br_f a1 (br_t a6 (h4 _ K))
      · unfold wpY_carryOut
        refine And.intro it (fun x ex => And.intro it (fun y ey => ?_))
        rw [ct] at ex ey
        rw [eo] at ex
        subst ex ey
        exact br_f a1 (br_t a6 (h5 _ K))
    · by_cases w : ow o = nI t
      · by_cases a2 : am t = 2
        · obtain ⟨r, nh', ck', hd', sx', mo', mw', md', mh', nx', pv', st', pl', am', ar', ow', dp', ho', hs', sy', h1, h2, h3, h4, h5, h6⟩ := il_opExit (g0 := g0) (g1 := g1) (g2 := g2) (g3 := g3) R ht s1 h w
          subst h6
          refine il_fin (g0 := g0) (g1 := g1) (g2 := g2) (g3 := g3) h1 h2 h3 t8 eo (fun post K => ?_) (fun post K => ?_)
          · unfold wpX_perform
            exact br_f a1 (br_f a6 (il_xOwner (by omega) d2 d6 S (br_t w (il_xDepth (by omega) d2 d6 S (br_t a2 (h4 _ K))))))
          · unfold wpY_carryOut
            refine And.intro it (fun x ex => And.intro it (fun y ey => ?_))
            rw [ct] at ex ey
            rw [eo] at ex
            subst ex ey
            refine br_f a1 (br_f a6 (And.intro io ?_))
            rw [co]
            exact br_t w (br_t a2 (h5 _ K))
        · by_cases a3 : am t = 3
          · obtain ⟨r, nh', ck', hd', sx', mo', mw', md', mh', nx', pv', st', pl', am', ar', ow', dp', ho', hs', sy', h1, h2, h3, h4, h5⟩ := il_opWait (g0 := g0) (g1 := g1) (g2 := g2) (g3 := g3) R (by omega) ht s1 h w
            refine il_fin (g0 := g0) (g1 := g1) (g2 := g2) (g3 := g3) h1 h2 h3 t8 eo (fun post K => ?_) (fun post K => ?_)
            · unfold wpX_perform
              exact br_f a1 (br_f a6 (il_xOwner (by omega) d2 d6 S (br_t w (il_xDepth (by omega) d2 d6 S (br_f a2 (br_t a3 (h4 _ K)))))))
            · unfold wpY_carryOut
              refine And.intro it (fun x ex => And.intro it (fun y ey => ?_))
              rw [ct] at ex ey
              rw [eo] at ex
              subst ex ey
              refine br_f a1 (br_f a6 (And.intro io ?_))
              rw [co]
              exact br_t w (br_f a2 (br_t a3 (h5 _ K)))
          · by_cases a4 : am t = 4
            · obtain ⟨r, nh', ck', hd', sx', mo', mw', md', mh', nx', pv', st', pl', am', ar', ow', dp', ho', hs', sy', h1, h2, h3, h4, h5⟩ := il_opNotify (g0 := g0) (g1 := g1) (g2 := g2) (g3 := g3) (MX := 1) (MY := 1) R hck ht s1 h (Or.inl ⟨rfl, rfl⟩)
              refine il_fin (g0 := g0) (g1 := g1) (g2 := g2) (g3 := g3) h1 h2 h3 t8 eo (fun post K => ?_) (fun post K => ?_)
              · unfold wpX_perform
                refine br_f a1 (br_f a6 (il_xOwner (by omega) d2 d6 S (br_t w (il_xDepth (by omega) d2 d6 S (br_f a2 (br_f a3 (br_t a4 ?_)))))))
                unfold wX_perform_90
                exact h4 _ K
              · unfold wpY_carryOut
                refine And.intro it (fun x ex => And.intro it (fun y ey => ?_))
                rw [ct] at ex ey
                rw [eo] at ex
                subst ex ey
                refine br_f a1 (br_f a6 (And.intro io ?_))
                rw [co]
                refine br_t w (br_f a2 (br_f a3 (br_t a4 ?_)))
                unfold wY_carryOut_107
                exact h5 _ K
            · obtain ⟨r, nh', ck', hd', sx', mo', mw', md', mh', nx', pv', st', pl', am', ar', ow', dp', ho', hs', sy', h1, h2, h3, h4, h5⟩ := il_opNotify (g0 := g0) (g1 := g1) (g2 := g2) (g3 := g3) (MX := tc) (MY := 8) R hck ht s1 h (Or.inr ⟨rfl, rfl⟩)
              refine il_fin (g0 := g0) (g1 := g1) (g2 := g2) (g3 := g3) h1 h2 h3 t8 eo (fun post K => ?_) (fun post K => ?_)
              · unfold wpX_perform
                refine br_f a1 (br_f a6 (il_xOwner (by omega) d2 d6 S (br_t w (il_xDepth (by omega) d2 d6 S (br_f a2 (br_f a3 (br_f a4 ?_)))))))
                unfold wX_perform_90
                exact h4 _ K
              · unfold wpY_carryOut
                refine And.intro it (fun x ex => And.intro it (fun y ey => ?_))
                rw [ct] at ex ey
                rw [eo] at ex
                subst ex ey
                refine br_f a1 (br_f a6 (And.intro io ?_))
                rw [co]
                refine br_t w (br_f a2 (br_f a3 (br_f a4 ?_)))
                unfold wY_carryOut_107
                exact h5 _ K
      · refine il_fin (g0 := g0) (g1 := g1) (g2 := g2) (g3 := g3) (r := 8) (Or.inr ⟨by decide, by decide, s1⟩) (Nat.le_add_right ck 8) R t8 eo (fun post K => ?_) (fun post K => ?_)
        · unfold wpX_perform
          exact br_f a1 (br_f a6 (il_xOwner (by omega) d2 d6 S (br_f w K)))
        · unfold wpY_carryOut
          refine And.intro it (fun x ex => And.intro it (fun y ey => ?_))
          rw [ct] at ex ey
          rw [eo] at ex
          subst ex ey
          refine br_f a1 (br_f a6 (And.intro io ?_))
          rw [co]
          exact br_f w K
theorem il_res (R : (il_R tc oc mc lim nh ck hd kx sx ep mo mw md mh nx pv st pl am ar ow dp ho hs ky sy ba)) (ht : t < tc) (hq : il_q (st t)) (n3 : ¬ st t = 3) :
    ∃ (r : Int32) (nh' ck' : Nat) (hd' sx' mo' mw' md' mh' nx' pv' st' pl' am' : Nat → Int32) (ar' : Nat → Int64) (ow' dp' ho' hs' sy' : Nat → Int32), ck' ≤ ck + 8 ∧ (il_R tc oc mc lim nh' ck' hd' kx sx' ep mo' mw' md' mh' nx' pv' st' pl' am' ar' ow' dp' ho' hs' ky sy' ba) ∧ (∀ post : Int32 → SX → Prop, post r (g0, g1, g2, g3, nI tc, nI oc, nI mc, nI lim, nI nh', hd', kx, sx', ep, mo', mw', md', mh', nx', pv', st', pl', am') → wpX_resume post (g0, g1, g2, g3, nI tc, nI oc, nI mc, nI lim, nI nh, hd, kx, sx, ep, mo, mw, md, mh, nx, pv, st, pl, am) (nI t)) ∧ (∀ post : Int32 → SY → Prop, post r (nI tc, nI oc, nI mc, nI lim, nI nh', lN ck', st', pl', am', ar', ow', dp', ho', hs', ky, sy', ba) → wpY_step post (nI tc, nI oc, nI mc, nI lim, nI nh, lN ck, st, pl, am, ar, ow, dp, ho, hs, ky, sy, ba) (nI t)) := by
  have R0 := R
  obtain ⟨⟨d1, d2, d3, d4, d5, d6, d7, d8, d9⟩, B, H⟩ := R
  have D : il_D tc oc mc lim nh := ⟨d1, d2, d3, d4, d5, d6, d7, d8, d9⟩
  have t8 : t < 8 := by omega
  have it : vp_in (nI t) 8 := vp_in_nI t8 (by decide)
  have ct : (nI t).toNatClampNeg = t := nI_clamp (by omega)
  obtain ⟨n0, n1⟩ := il_q01 hq
  obtain ⟨o, h, eo⟩ := il_T_pl (H.1 t ht) n0
  obtain ⟨d, l1, l9, ed⟩ := il_T_am (H.1 t ht) hq
  obtain ⟨m, hm, em⟩ := H.2.2.1 t ht hq
  have em' : mo m = nI o := em.trans eo
  have eh := il_B_mo d4 B hm h em'
  obtain ⟨w1, w2⟩ := il_fw (m := m) (by omega)
  rw [← eh] at w1 w2
  have o16 : o < 16 := by omega
  have io : vp_in (nI o) 16 := vp_in_nI o16 (by decide)
  have co : (nI o).toNatClampNeg = o := nI_clamp (by omega)
  have S := B.1 o h
  have i24 : vp_in (nI (8 + m)) 24 := vp_in_nI (by omega) (by decide)
  have c24 : (nI (8 + m)).toNatClampNeg = 8 + m := nI_clamp (by omega)
  have a8 : (8 : Int32) + nI m = nI (8 + m) := nI_add 8 m
  have c8 : il_cl 8 (st t) := by
    rcases hq with q | q | q | q
    · exact Or.inl ⟨rfl, Or.inl q⟩
    · exact absurd q n3
    · exact Or.inl ⟨rfl, Or.inr (Or.inl q)⟩
    · exact Or.inl ⟨rfl, Or.inr (Or.inr q)⟩
  by_cases aw : ow o = -1
  · rcases il_front (z := 8) d2 d6 H (Or.inl rfl) hm with ⟨f1, f2⟩ | ⟨w, v1, v2, v3, v4, v5, v6⟩
    · exact absurd c8 (f2 t ht em.symm)
    · rcases Nat.decEq t w with tw | tw
      · have nb := v6 t ht em.symm c8 tw
        have cl := cn_le (il_bf st pl ar t) tc
        refine ⟨6, nh, ck, hd, sx, mo, mw, md, mh, nx, pv, st, pl, am, ar, ow, dp, ho, hs, sy, by omega, R0, fun post K => ?_, fun post K => ?_⟩
        · unfold wpX_resume
          refine And.intro it (fun x ex => ?_)
          rw [ct, eo] at ex
          subst ex
          refine il_xOwner o16 d2 d6 S (br_t aw (il_xPay o16 ?_))
          rw [w2, a8]
          refine And.intro i24 ?_
          rw [c24]
          exact br_f (by rw [v4]; exact fun q => tw (il_inj q).symm) K
        · unfold wpY_step
          refine il_yIsT d2 ht (br_f il_10 (And.intro it (fun x ex => ?_)))
          rw [ct] at ex
          subst ex
          refine br_f n0 (br_f n3 (br_f n1 (And.intro it (fun y ey => ?_))))
          rw [ct, eo] at ey
          subst ey
          refine And.intro io ?_
          rw [co]
          exact br_t aw (il_yBefore d2 t8 (br_f (nI_ne0 (by omega) (by omega)) K))
      · subst tw
        obtain ⟨p, q, p24, q24, ep1, eq1, H1⟩ := il_H_rem (am' := upd am t 0) d2 d6 (il_B_J d6 d4 B) H ht hq (fun j z => pk_un z)
        obtain ⟨hd1, mw1, md1, B1, wl⟩ := il_lock (g0 := g0) (g1 := g1) (g2 := g2) (g3 := g3) (t := t) (d := d) (ow' := upd ow o (nI t)) (dp' := upd dp o (am t)) (ho' := ho) d2 d6 d4 B h ht l9 (Or.inl ⟨m, hm, eh⟩) (fun j q => pk_un q) (by rw [pk_us, if_neg (by omega)]) (fun j q => pk_un q) (by rw [pk_us]; exact ed) (fun _ _ => rfl) (Or.inr ⟨Or.inl (il_S_fat d2 d6 S hm eh).2.2.2.2, rfl⟩)
        have main : ∃ r : Int32, (∀ post : Int32 → SX → Prop, wX_resume_67 post (nI t) (nI o) r g0 g1 g2 g3 (nI tc) (nI oc) (nI mc) (nI lim) (nI nh) hd kx sx ep mo mw md mh nx pv st pl am → wpX_resume post (g0, g1, g2, g3, nI tc, nI oc, nI mc, nI lim, nI nh, hd, kx, sx, ep, mo, mw, md, mh, nx, pv, st, pl, am) (nI t)) ∧ (∀ post : Int32 → SY → Prop, post r (nI tc, nI oc, nI mc, nI lim, nI nh, lN ck, upd st t 0, upd pl t (-1), upd am t 0, ar, upd ow o (nI t), upd dp o (am t), ho, hs, ky, sy, ba) → wpY_step post (nI tc, nI oc, nI mc, nI lim, nI nh, lN ck, st, pl, am, ar, ow, dp, ho, hs, ky, sy, ba) (nI t)) := by
          have xx : ∀ (r : Int32) (post : Int32 → SX → Prop), ((st t = 2 ∧ r = 2) ∨ (¬ st t = 2 ∧ st t = 4 ∧ r = 3) ∨ (¬ st t = 2 ∧ ¬ st t = 4 ∧ r = 4)) → wX_resume_67 post (nI t) (nI o) r g0 g1 g2 g3 (nI tc) (nI oc) (nI mc) (nI lim) (nI nh) hd kx sx ep mo mw md mh nx pv st pl am → wpX_resume post (g0, g1, g2, g3, nI tc, nI oc, nI mc, nI lim, nI nh, hd, kx, sx, ep, mo, mw, md, mh, nx, pv, st, pl, am) (nI t) := fun r post C K => by
            unfold wpX_resume
            refine And.intro it (fun x ex => ?_)
            rw [ct, eo] at ex
            subst ex
            refine il_xOwner o16 d2 d6 S (br_t aw (il_xPay o16 ?_))
            rw [w2, a8]
            refine And.intro i24 ?_
            rw [c24, ct]
            refine br_t v4 (And.intro it ?_)
            unfold wX_resume_51
            rw [ct]
            rcases C with ⟨s2, rfl⟩ | ⟨s2, s4, rfl⟩ | ⟨s2, s4, rfl⟩
            · exact br_f (by rw [s2]; decide) (And.intro it (br_t s2 K))
            · exact br_t s4 (And.intro it (br_f s2 K))
            · exact br_f s4 (And.intro it (br_f s2 K))
          have yy : ∀ (r : Int32) (post : Int32 → SY → Prop), ((st t = 2 ∧ r = 2) ∨ (¬ st t = 2 ∧ st t = 4 ∧ r = 3) ∨ (¬ st t = 2 ∧ ¬ st t = 4 ∧ r = 4)) → post r (nI tc, nI oc, nI mc, nI lim, nI nh, lN ck, upd st t 0, upd pl t (-1), upd am t 0, ar, upd ow o (nI t), upd dp o (am t), ho, hs, ky, sy, ba) → wpY_step post (nI tc, nI oc, nI mc, nI lim, nI nh, lN ck, st, pl, am, ar, ow, dp, ho, hs, ky, sy, ba) (nI t) := fun r post C K => by
            unfold wpY_step
            refine il_yIsT d2 ht (br_f il_10 (And.intro it (fun x ex => ?_)))
            rw [ct] at ex
            subst ex
            refine br_f n0 (br_f n3 (br_f n1 (And.intro it (fun y ey => ?_))))
            rw [ct, eo] at ey
            subst ey
            refine And.intro io ?_
            rw [co]
            refine br_t aw (il_yBefore d2 t8 (br_t (by rw [v5]; rfl) (And.intro io (fun a ea => And.intro it (And.intro io (fun b eb => ?_))))))
            rw [ct] at eb
            rw [ea, eb]
            refine il_yIdle t8 ?_
            rcases C with ⟨s2, rfl⟩ | ⟨s2, s4, rfl⟩ | ⟨s2, s4, rfl⟩
            · exact br_t s2 K
            · exact br_f s2 (br_t s4 K)
            · exact br_f s2 (br_f s4 K)
          by_cases s2 : st t = 2
          · exact ⟨2, fun post => xx 2 post (Or.inl ⟨s2, rfl⟩), fun post => yy 2 post (Or.inl ⟨s2, rfl⟩)⟩
          · by_cases s4 : st t = 4
            · exact ⟨3, fun post => xx 3 post (Or.inr (Or.inl ⟨s2, s4, rfl⟩)), fun post => yy 3 post (Or.inr (Or.inl ⟨s2, s4, rfl⟩))⟩
            · exact ⟨4, fun post => xx 4 post (Or.inr (Or.inr ⟨s2, s4, rfl⟩)), fun post => yy 4 post (Or.inr (Or.inr ⟨s2, s4, rfl⟩))⟩
        obtain ⟨r, mx, my⟩ := main
        refine ⟨r, nh, ck, hd1, sx, mo, mw1, md1, mh, upd nx p (nI q), upd pv q (nI p), upd st t 0, upd pl t (-1), upd am t 0, ar, upd ow o (nI t), upd dp o (am t), ho, hs, sy, by omega, ⟨D, B1, H1⟩, fun post K => mx post ?_, my⟩
        unfold wX_resume_67
        refine il_xUnl (by omega) p24 q24 ep1 eq1 (And.intro it ?_)
        rw [ct, ed]
        exact wl nh _ _ _ _ _ _ (il_xSetT t8 K)
  · refine ⟨6, nh, ck, hd, sx, mo, mw, md, mh, nx, pv, st, pl, am, ar, ow, dp, ho, hs, sy, by omega, R0, fun post K => ?_, fun post K => ?_⟩
    · unfold wpX_resume
      refine And.intro it (fun x ex => ?_)
      rw [ct, eo] at ex
      subst ex
      exact il_xOwner o16 d2 d6 S (br_f aw K)
    · unfold wpY_step
      refine il_yIsT d2 ht (br_f il_10 (And.intro it (fun x ex => ?_)))
      rw [ct] at ex
      subst ex
      refine br_f n0 (br_f n3 (br_f n1 (And.intro it (fun y ey => ?_))))
      rw [ct, eo] at ey
      subst ey
      refine And.intro io ?_
      rw [co]
      exact br_f aw K
theorem il_step (R : (il_R tc oc mc lim nh ck hd kx sx ep mo mw md mh nx pv st pl am ar ow dp ho hs ky sy ba)) (hck : ck + 9 < 2 ^ 31) (ht : t < tc) :
    ∃ (r : Int32) (nh' ck' : Nat) (hd' sx' mo' mw' md' mh' nx' pv' st' pl' am' : Nat → Int32) (ar' : Nat → Int64) (ow' dp' ho' hs' sy' : Nat → Int32), ck' ≤ ck + 8 ∧ (il_R tc oc mc lim nh' ck' hd' kx sx' ep mo' mw' md' mh' nx' pv' st' pl' am' ar' ow' dp' ho' hs' ky sy' ba) ∧ (∀ post : Int32 → SX → Prop, post r (g0, g1, g2, g3, nI tc, nI oc, nI mc, nI lim, nI nh', hd', kx, sx', ep, mo', mw', md', mh', nx', pv', st', pl', am') → wpX_step post (g0, g1, g2, g3, nI tc, nI oc, nI mc, nI lim, nI nh, hd, kx, sx, ep, mo, mw, md, mh, nx, pv, st, pl, am) (nI t)) ∧ (∀ post : Int32 → SY → Prop, post r (nI tc, nI oc, nI mc, nI lim, nI nh', lN ck', st', pl', am', ar', ow', dp', ho', hs', ky, sy', ba) → wpY_step post (nI tc, nI oc, nI mc, nI lim, nI nh, lN ck, st, pl, am, ar, ow, dp, ho, hs, ky, sy, ba) (nI t)) := by
  have d2 := R.1.2.1
  have t8 : t < 8 := by omega
  have it : vp_in (nI t) 8 := vp_in_nI t8 (by decide)
  have ct : (nI t).toNatClampNeg = t := nI_clamp (by omega)
  by_cases s0 : st t = 0
  · refine ⟨11, nh, ck, hd, sx, mo, mw, md, mh, nx, pv, st, pl, am, ar, ow, dp, ho, hs, sy, by omega, R, fun post K => ?_, fun post K => ?_⟩
    · unfold wpX_step
      refine il_xIsT d2 ht (br_f il_10 (And.intro it ?_))
      rw [ct]
      exact br_t s0 K
    · unfold wpY_step
      refine il_yIsT d2 ht (br_f il_10 (And.intro it (fun x ex => ?_)))
      rw [ct] at ex
      subst ex
      exact br_t s0 K
  · by_cases s3 : st t = 3
    · refine ⟨6, nh, ck, hd, sx, mo, mw, md, mh, nx, pv, st, pl, am, ar, ow, dp, ho, hs, sy, by omega, R, fun post K => ?_, fun post K => ?_⟩
      · unfold wpX_step
        refine il_xIsT d2 ht (br_f il_10 (And.intro it ?_))
        rw [ct]
        exact br_f s0 (And.intro it (br_t s3 K))
      · unfold wpY_step
        refine il_yIsT d2 ht (br_f il_10 (And.intro it (fun x ex => ?_)))
        rw [ct] at ex
        subst ex
        exact br_f s0 (br_t s3 K)
    · by_cases s1 : st t = 1
      · obtain ⟨r, nh', ck', hd', sx', mo', mw', md', mh', nx', pv', st', pl', am', ar', ow', dp', ho', hs', sy', h2, h3, h4, h5⟩ := il_carry (g0 := g0) (g1 := g1) (g2 := g2) (g3 := g3) R hck ht s1
        refine ⟨r, nh', ck', hd', sx', mo', mw', md', mh', nx', pv', st', pl', am', ar', ow', dp', ho', hs', sy', h2, h3, fun post K => ?_, fun post K => ?_⟩
        · unfold wpX_step
          refine il_xIsT d2 ht (br_f il_10 (And.intro it ?_))
          rw [ct]
          exact br_f s0 (And.intro it (br_f s3 (And.intro it (br_t s1 (h4 _ K)))))
        · unfold wpY_step
          refine il_yIsT d2 ht (br_f il_10 (And.intro it (fun x ex => ?_)))
          rw [ct] at ex
          subst ex
          exact br_f s0 (br_f s3 (br_t s1 (h5 _ K)))
      · obtain ⟨r, nh', ck', hd', sx', mo', mw', md', mh', nx', pv', st', pl', am', ar', ow', dp', ho', hs', sy', h2, h3, h4, h5⟩ := il_res (g0 := g0) (g1 := g1) (g2 := g2) (g3 := g3) R ht (il_T_q (R.2.2.1 t ht) s0 s1) s3
        refine ⟨r, nh', ck', hd', sx', mo', mw', md', mh', nx', pv', st', pl', am', ar', ow', dp', ho', hs', sy', h2, h3, fun post K => ?_, h5⟩
        unfold wpX_step
        refine il_xIsT d2 ht (br_f il_10 (And.intro it ?_))
        rw [ct]
        exact br_f s0 (And.intro it (br_f s3 (And.intro it (br_f s1 (h4 _ K)))))
end
end
section
/-! a round of steps -/
section
variable {g0 g1 g2 g3 : Int32} {tc oc mc lim : Nat} {kx ep ky ba : Nat → Int32}
theorem il_round : ∀ (j i : Nat) (x1 : Int32) (nh ck : Nat) (hd sx mo mw md mh nx pv st pl am : Nat → Int32) (ar : Nat → Int64) (ow dp ho hs sy : Nat → Int32), i + j = tc → ck + 8 * j + 9 < 2 ^ 31 → (il_R tc oc mc lim nh ck hd kx sx ep mo mw md mh nx pv st pl am ar ow dp ho hs ky sy ba) →
    ∃ (r : Int32) (nh' ck' : Nat) (hd' sx' mo' mw' md' mh' nx' pv' st' pl' am' : Nat → Int32) (ar' : Nat → Int64) (ow' dp' ho' hs' sy' : Nat → Int32), ck' ≤ ck + 8 * j ∧ (il_R tc oc mc lim nh' ck' hd' kx sx' ep mo' mw' md' mh' nx' pv' st' pl' am' ar' ow' dp' ho' hs' ky sy' ba) ∧ (∀ post : Int32 → SX → Prop, post r (g0, g1, g2, g3, nI tc, nI oc, nI mc, nI lim, nI nh', hd', kx, sx', ep, mo', mw', md', mh', nx', pv', st', pl', am') → ∀ n, j < n → wX_round_4 post n x1 (nI i) g0 g1 g2 g3 (nI tc) (nI oc) (nI mc) (nI lim) (nI nh) hd kx sx ep mo mw md mh nx pv st pl am) ∧ (∀ post : Int32 → SY → Prop, post r (nI tc, nI oc, nI mc, nI lim, nI nh', lN ck', st', pl', am', ar', ow', dp', ho', hs', ky, sy', ba) → ∀ n, j < n → wY_round_4 post n x1 (nI i) (nI tc) (nI oc) (nI mc) (nI lim) (nI nh) (lN ck) st pl am ar ow dp ho hs ky sy ba) := by
  intro j
  induction j with
  | zero =>
    intro i x1 nh ck hd sx mo mw md mh nx pv st pl am ar ow dp ho hs sy hi hck R
    have d2 := R.1.2.1
    refine ⟨x1, nh, ck, hd, sx, mo, mw, md, mh, nx, pv, st, pl, am, ar, ow, dp, ho, hs, sy, by omega, R, fun post K n hn => ?_, fun post K n hn => ?_⟩
    · cases n with
      | zero => omega
      | succ n => exact br_t (nI_le (by omega) (by omega)) K
    · cases n with
      | zero => omega
      | succ n => exact br_t (nI_le (by omega) (by omega)) K
  | succ j ih =>
    intro i x1 nh ck hd sx mo mw md mh nx pv st pl am ar ow dp ho hs sy hi hck R
    have d2 := R.1.2.1
    obtain ⟨r, nh', ck', hd', sx', mo', mw', md', mh', nx', pv', st', pl', am', ar', ow', dp', ho', hs', sy', h2, h3, h4, h5⟩ := il_step (g0 := g0) (g1 := g1) (g2 := g2) (g3 := g3) (t := i) R (by omega) (by omega)
    by_cases q : r = 11 ∨ r = 6 ∨ r = 7
    · obtain ⟨r2, nh2, ck2, hd2, sx2, mo2, mw2, md2, mh2, nx2, pv2, st2, pl2, am2, ar2, ow2, dp2, ho2, hs2, sy2, k2, k3, k4, k5⟩ := ih (i + 1) x1 nh' ck' hd' sx' mo' mw' md' mh' nx' pv' st' pl' am' ar' ow' dp' ho' hs' sy' (by omega) (by omega) h3
      refine ⟨r2, nh2, ck2, hd2, sx2, mo2, mw2, md2, mh2, nx2, pv2, st2, pl2, am2, ar2, ow2, dp2, ho2, hs2, sy2, by omega, k3, fun post K n hn => ?_, fun post K n hn => ?_⟩
      · cases n with
        | zero => omega
        | succ n =>
          have kk := k4 post K n (by omega)
          refine br_f (nI_ge (by omega) (by omega)) (h4 _ ?_)
          rcases q with q | q | q
          · exact br_t q (fun a ea => by rw [ea, nI_1]; exact kk)
          · exact br_f (by rw [q]; decide) (br_t q (fun a ea => by rw [ea, nI_1]; exact kk))
          · exact br_f (by rw [q]; decide) (br_f (by rw [q]; decide) (br_t q (fun a ea => by rw [ea, nI_1]; exact kk)))
      · cases n with
        | zero => omega
        | succ n =>
          have kk := k5 post K n (by omega)
          refine br_f (nI_ge (by omega) (by omega)) (h5 _ ?_)
          rcases q with q | q | q
          · exact br_t q (fun a ea => by rw [ea, nI_1]; exact kk)
          · exact br_f (by rw [q]; decide) (br_t q (fun a ea => by rw [ea, nI_1]; exact kk))
          · exact br_f (by rw [q]; decide) (br_f (by rw [q]; decide) (br_t q (fun a ea => by rw [ea, nI_1]; exact kk)))
    · have q1 : ¬ r = 11 := fun e => q (Or.inl e)
      have q2 : ¬ r = 6 := fun e => q (Or.inr (Or.inl e))
      have q3 : ¬ r = 7 := fun e => q (Or.inr (Or.inr e))
      obtain ⟨r2, nh2, ck2, hd2, sx2, mo2, mw2, md2, mh2, nx2, pv2, st2, pl2, am2, ar2, ow2, dp2, ho2, hs2, sy2, k2, k3, k4, k5⟩ := ih (i + 1) (x1 + 1) nh' ck' hd' sx' mo' mw' md' mh' nx' pv' st' pl' am' ar' ow' dp' ho' hs' sy' (by omega) (by omega) h3
      refine ⟨r2, nh2, ck2, hd2, sx2, mo2, mw2, md2, mh2, nx2, pv2, st2, pl2, am2, ar2, ow2, dp2, ho2, hs2, sy2, by omega, k3, fun post K n hn => ?_, fun post K n hn => ?_⟩
      · cases n with
        | zero => omega
        | succ n =>
          have kk := k4 post K n (by omega)
          exact br_f (nI_ge (by omega) (by omega)) (h4 _ (br_f q1 (br_f q2 (br_f q3 (fun b eb a ea => by rw [ea, eb, nI_1]; exact kk)))))
      · cases n with
        | zero => omega
        | succ n =>
          have kk := k5 post K n (by omega)
          exact br_f (nI_ge (by omega) (by omega)) (h5 _ (br_f q1 (br_f q2 (br_f q3 (fun b eb a ea => by rw [ea, eb, nI_1]; exact kk)))))
end
end
section
/-! the safepoint -/
section
variable {g0 g1 g2 g3 : Int32} {tc oc mc lim nh : Nat} {hd kx sx ep mo mw md mh nx pv st pl am : Nat → Int32}
variable {ck : Nat} {ar : Nat → Int64} {ow dp ho hs ky sy ba : Nat → Int32}
variable {o c : Nat}
/-- words behind a bar of kind c, homes likewise -/
def il_bX (kx hd : Nat → Int32) (c j : Nat) : Int32 := if kx j = nI c then il_rv (hd j) else hd j
def il_bY (ky ho : Nat → Int32) (c j : Nat) : Int32 := if ky j = nI c then -2 else ho j
theorem il_B_bar (htc : tc ≤ 8) (hmc : mc ≤ 8) (hoc : oc ≤ 16) (B : (il_B tc oc mc lim hd kx sx ep mo mw md mh ow dp ho hs ky sy ba)) (hc : c < 3) : (il_B tc oc mc lim (il_mx oc (il_bX kx hd c) hd) kx (upd sx c (-2)) ep mo mw md mh ow dp (il_mx oc (il_bY ky ho c) ho) hs ky sy (upd ba c 1)) := by
  refine ⟨fun o h => ?_, B.2.1, fun k hk => ?_, fun m hm => ?_⟩
  · obtain ⟨q, hq, e1, e2⟩ := B.2.1 o h
    rw [il_mxl h, il_mxl h]
    unfold il_bX il_bY
    rw [e2]
    by_cases z : kx o = nI c
    · rw [if_pos z, if_pos (e1.symm.trans z)]
      exact (il_S_rv htc hmc (B.1 o h)).1
    · rw [if_neg z, if_neg (fun q => z (e1.trans q))]
      exact B.1 o h
  · obtain ⟨s, e, h1, h2, h3, h4, h5⟩ := B.2.2.1 k hk
    refine ⟨s, e, h1, h2, h3, h4, ?_⟩
    rcases Nat.decEq k c with z | z
    · rw [pk_un z, pk_un z]
      rcases h5 with h5 | ⟨h5, h6, h7⟩
      · exact Or.inl h5
      · refine Or.inr ⟨h5, h6, fun o h e1 => ?_⟩
        rw [il_mxl h]
        unfold il_bY
        split
        · rfl
        · exact h7 o h e1
    · rw [z, pk_us, pk_us]
      refine Or.inr ⟨rfl, rfl, fun o h e1 => ?_⟩
      obtain ⟨q, hq, e2, e3⟩ := B.2.1 o h
      rw [il_mxl h]
      exact if_pos (e3.trans (e2.symm.trans e1))
  · rcases B.2.2.2 m hm with q | ⟨j, hj, e1, e2⟩
    · exact Or.inl q
    · refine Or.inr ⟨j, hj, e1, ?_⟩
      rw [il_mxl hj]
      unfold il_bX
      split
      · rw [(il_S_rv htc hmc (B.1 j hj)).2 m hm e2]; exact e2
      · exact e2
theorem il_xBar {post : SX → Prop} (htc : tc ≤ 8) (hmc : mc ≤ 8) (hoc : oc ≤ 16) (B : (il_B tc oc mc lim hd kx sx ep mo mw md mh ow dp ho hs ky sy ba)) (hc : c < 3) (K : post (g0, g1, g2, g3, nI tc, nI oc, nI mc, nI lim, nI nh, il_mx oc (il_bX kx hd c) hd, kx, upd sx c (-2), ep, mo, mw, md, mh, nx, pv, st, pl, am)) : wpX_bar post (g0, g1, g2, g3, nI tc, nI oc, nI mc, nI lim, nI nh, hd, kx, sx, ep, mo, mw, md, mh, nx, pv, st, pl, am) (nI c) := by
  have go : ∀ k i, i + k = oc → ∀ n, k < n → wX_bar_10 post (nI c) n (nI i) g0 g1 g2 g3 (nI tc) (nI oc) (nI mc) (nI lim) (nI nh) (il_mx i (il_bX kx hd c) hd) kx (upd sx c (-2)) ep mo mw md mh nx pv st pl am := by
    intro k
    induction k with
    | zero =>
      intro i hi n hn
      cases n with
      | zero => omega
      | succ n =>
        have e : i = oc := by omega
        subst e
        exact br_t (nI_le (by omega) (by omega)) K
    | succ k ih =>
      intro i hi n hn
      cases n with
      | zero => omega
      | succ n =>
        have ih' := ih (i + 1) (by omega) n (by omega)
        have ii : vp_in (nI i) 16 := vp_in_nI (by omega) (by decide)
        have ci : (nI i).toNatClampNeg = i := nI_clamp (by omega)
        have e0 : il_mx i (il_bX kx hd c) hd i = hd i := il_mxg (Nat.le_refl i)
        refine br_f (nI_ge (by omega) (by omega)) (And.intro ii ?_)
        rw [ci]
        by_cases z : kx i = nI c
        · refine br_t z (il_xRevoke (MO := mo) (E := ep (kx i).toNatClampNeg) (qo := ow i) (qd := dp i) (qh := ho i) (qs := hs i) (by omega) htc hmc (by rw [e0]; exact B.1 i (by omega)) ?_)
          rw [e0, il_mxs (x := il_rv (hd i)) (if_pos z).symm]
          exact fun a ea => by rw [ea, nI_1]; exact ih'
        · refine br_f z (fun a ea => ?_)
          rw [il_mxk (if_neg z)] at ih'
          rw [ea, nI_1]; exact ih'
  have ic : vp_in (nI c) 3 := vp_in_nI hc (by decide)
  have cc : (nI c).toNatClampNeg = c := nI_clamp (by omega)
  have g := go oc 0 (by omega) (oc + 1) (by omega)
  rw [il_mx0] at g
  unfold wpX_bar
  refine And.intro ic (fun a ea => Exists.intro (oc + 1) ?_)
  rw [ea, cc]; exact g
/-- words behind an expiry of kind c with the new epoch f -/
def il_eX (kx hd dp : Nat → Int32) (c f j : Nat) : Int32 := if kx j = nI c ∧ hd j &&& 3 = 1 then (if dp j ≤ 0 then (if nI f = 0 then 1 else hd j) else (hd j &&& 511) ||| (nI f <<< ((9 : Int32) &&& 31))) else hd j
def il_eY (ky ow ho : Nat → Int32) (c j : Nat) : Int32 := if ky j = nI c ∧ ow j = -1 ∧ ¬ ho j < 0 then -1 else ho j
theorem il_S_E {MO : Nat → Int32} {E E' h qo qd qh qs : Int32} (htc : tc ≤ 8) (t1 : ¬ h &&& 3 = 1) (S : il_S tc mc MO mw md mh E h o qo qd qh qs) : il_S tc mc MO mw md mh E' h o qo qd qh qs ∧ qh = -2 := by
  obtain ⟨w, d, n, ⟨h1, h2, h3, h4, h5, h6, h7⟩, C⟩ := S
  have F : w ≤ tc ∧ d ≤ 9 ∧ n ≤ 1024 ∧ (w = 0 ↔ d = 0) ∧ qo = il_p w ∧ qd = nI d ∧ qs = il_p n := ⟨h1, h2, h3, h4, h5, h6, h7⟩
  rcases C with C | ⟨a, b, v, e, e0, c1, c2, c3, c4, c5, c6, c7, c8⟩ | C | C
  · exact ⟨⟨w, d, n, F, Or.inl C⟩, C.2.1⟩
  · exact absurd (by rw [c5]; exact (il_hw (by omega) (by omega) (by omega) (by omega)).1) t1
  · exact ⟨⟨w, d, n, F, Or.inr (Or.inr (Or.inl C))⟩, C.2.2.2.1⟩
  · obtain ⟨m, y1, y2, y3⟩ := C
    exact ⟨⟨w, d, n, F, Or.inr (Or.inr (Or.inr ⟨m, y1, y2, y3⟩))⟩, y2⟩
theorem il_B_exp (htc : tc ≤ 8) (hmc : mc ≤ 8) (hoc : oc ≤ 16) (B : (il_B tc oc mc lim hd kx sx ep mo mw md mh ow dp ho hs ky sy ba)) (hc : c < 3) {e : Nat} (he : e ≤ 3) (ee : ep c = nI e) (hb : ba c = 0) :
    (il_B tc oc mc lim (il_mx oc (il_eX kx hd dp c ((e + 1) % 4)) hd) kx (upd sx c 0) (upd ep c (nI ((e + 1) % 4))) mo mw md mh ow dp (il_mx oc (il_eY ky ow ho c) ho) hs ky (upd sy c 0) ba) := by
  have f4 : (e + 1) % 4 < 4 := Nat.mod_lt _ (by decide)
  refine ⟨fun o h => ?_, B.2.1, fun k hk => ?_, fun m hm => ?_⟩
  · obtain ⟨q, hq, e1, e2⟩ := B.2.1 o h
    rw [il_mxl h, il_mxl h]
    have S := B.1 o h
    by_cases z : kx o = nI c
    · have qc : q = c := il_inj (e1.symm.trans z)
      subst qc
      rw [e1, nI_clamp (by omega), pk_us]
      rw [e1, nI_clamp (by omega), ee] at S
      by_cases t1 : hd o &&& 3 = 1
      · unfold il_eX il_eY
        rw [if_pos ⟨e1, t1⟩, e2]
        obtain ⟨w, d, n, ⟨h1, h2, h3, h4, h5, h6, h7⟩, C⟩ := S
        rcases C with ⟨a, b, g⟩ | ⟨a, b, v, e', e0, c1, c2, c3, c4, c5, c6, c7, c8⟩ | ⟨a, b, b2, g, c5⟩ | ⟨m, y1, y2, y3, y4⟩
        · rw [g, (il_nw h3).1] at t1; exact absurd t1 (by decide)
        · have e3 : e' = e := (il_inj c4).symm
          subst e3
          rcases Nat.decEq d 0 with dz | dz
          · obtain ⟨rfl, rfl⟩ := c6 dz
            have w0 : ¬ ow o = -1 := by
              rw [h5, il_p_m1 (by omega)]; exact fun q => dz (h4.mp q)
            rw [if_neg (show ¬ dp o ≤ 0 by rw [h6]; exact nI_nle (by omega) (by omega)), if_neg (fun q => w0 q.2.1), c5, il_511 (by omega) (by omega) (by omega) f4]
            exact ⟨v, d, n, ⟨h1, h2, h3, h4, h5, h6, h7⟩, Or.inr (Or.inl ⟨a, b, v, _, _, c1, Nat.le_refl _, by omega, rfl, rfl, fun _ => ⟨rfl, rfl⟩, fun _ => c7 rfl, fun q => absurd rfl q⟩)⟩
          · have w0 : ow o = -1 := by rw [h5, h4.mpr dz, il_p0]
            have hm1 : (if nI q = nI q ∧ ow o = -1 ∧ ¬ ho o < 0 then (-1 : Int32) else ho o) = -1 := by
              by_cases y : ho o < 0
              · rw [if_neg (fun q => q.2.2 y)]
                rcases Nat.decEq e0 e' with x | x
                · exact c8 x
                · have := c7 x
                  rw [this, il_p_lt (by omega)] at y
                  rw [this, y, il_p0]
              · exact if_pos ⟨rfl, w0, y⟩
            rw [hm1, if_pos (show dp o ≤ 0 by rw [h6, dz]; decide)]
            have F : w ≤ tc ∧ d ≤ 9 ∧ n ≤ 1024 ∧ (w = 0 ↔ d = 0) ∧ ow o = il_p w ∧ dp o = nI d ∧ hs o = il_p n := ⟨h1, h2, h3, h4, h5, h6, h7⟩
            rcases Nat.decEq ((e' + 1) % 4) 0 with x | x
            · rw [if_neg (nI_ne0 (by omega) (by omega))]
              exact ⟨w, d, n, F, Or.inr (Or.inl ⟨a, b, v, (e' + 1) % 4, e0, c1, by omega, by omega, rfl, c5, fun q => absurd dz q, fun q => by omega, fun _ => rfl⟩)⟩
            · rw [x, if_pos (show nI 0 = 0 from rfl)]
              refine ⟨w, d, n, F, Or.inr (Or.inl ⟨a, b, 0, 0, 0, by omega, Nat.le_refl _, by omega, rfl, ?_, fun q => absurd dz q, fun _ => il_p0.symm, fun _ => rfl⟩)⟩
              rw [dz]; rfl
        · rw [c5, (il_hw (by omega) (by omega) (by omega) (by omega)).1] at t1; exact absurd t1 (by decide)
        · rw [y3, (il_fw (by omega)).1] at t1; exact absurd t1 (by decide)
      · obtain ⟨S1, S2⟩ := il_S_E (E' := nI ((e + 1) % 4)) htc t1 S
        unfold il_eX il_eY
        rw [if_neg (fun q => t1 q.2), if_neg (fun q => q.2.2 (by rw [S2]; exact il_m2))]
        exact S1
    · unfold il_eX il_eY
      rw [if_neg (fun q => z q.1), if_neg (fun q => z (e1.trans (e2.symm.trans q.1))), pk_un (by rw [e1, nI_clamp (by omega)]; exact fun q => z (by rw [← q]; exact e1))]
      exact S
  · rcases Nat.decEq k c with z | z
    · obtain ⟨s, e, h1, h2, h3, h4, h5⟩ := B.2.2.1 k hk
      rw [pk_un z, pk_un z, pk_un z]
      refine ⟨s, e, h1, h2, h3, h4, ?_⟩
      rcases h5 with h5 | ⟨h5, h6, h7⟩
      · exact Or.inl h5
      · refine Or.inr ⟨h5, h6, fun o h e1 => ?_⟩
        have hh := h7 o h e1
        rw [il_mxl h]
        unfold il_eY
        rw [if_neg (fun q => q.2.2 (by rw [hh]; exact il_m2))]
        exact hh
    · rw [z, pk_us, pk_us, pk_us]
      exact ⟨0, (e + 1) % 4, by omega, by omega, rfl, rfl, Or.inl ⟨hb, rfl⟩⟩
  · rcases B.2.2.2 m hm with q | ⟨j, hj, e1, e2⟩
    · exact Or.inl q
    · refine Or.inr ⟨j, hj, e1, ?_⟩
      rw [il_mxl hj]
      unfold il_eX
      rw [if_neg (fun q => absurd q.2 (by rw [e2, (il_fw (by omega)).1]; decide))]
      exact e2
theorem il_xExp {post : SX → Prop} (htc : tc ≤ 8) (hmc : mc ≤ 8) (hoc : oc ≤ 16) (B : (il_B tc oc mc lim hd kx sx ep mo mw md mh ow dp ho hs ky sy ba)) (hc : c < 3) {e : Nat} (he : e ≤ 3) (ee : ep c = nI e) (K : post (g0, g1, g2, g3, nI tc, nI oc, nI mc, nI lim, nI nh, il_mx oc (il_eX kx hd dp c ((e + 1) % 4)) hd, kx, upd sx c 0, upd ep c (nI ((e + 1) % 4)), mo, mw, md, mh, nx, pv, st, pl, am)) : wpX_expire post (g0, g1, g2, g3, nI tc, nI oc, nI mc, nI lim, nI nh, hd, kx, sx, ep, mo, mw, md, mh, nx, pv, st, pl, am) (nI c) := by
  have ic : vp_in (nI c) 3 := vp_in_nI hc (by decide)
  have cc : (nI c).toNatClampNeg = c := nI_clamp (by omega)
  have e1 : (ep c + 1) &&& 3 = nI ((e + 1) % 4) := by rw [ee, nI_1, il_tag (by omega)]
  generalize ef : (e + 1) % 4 = f at *
  have go : ∀ k i, i + k = oc → ∀ n, k < n → wX_expire_25 post (nI c) g0 g1 g2 g3 (nI tc) (nI oc) (nI mc) (nI lim) (nI nh) n (nI i) (il_mx i (il_eX kx hd dp c f) hd) kx (upd sx c 0) (upd ep c (nI f)) mo mw md mh nx pv st pl am := by
    intro k
    induction k with
    | zero =>
      intro i hi n hn
      cases n with
      | zero => omega
      | succ n =>
        have e : i = oc := by omega
        subst e
        exact br_t (nI_le (by omega) (by omega)) K
    | succ k ih =>
      intro i hi n hn
      cases n with
      | zero => omega
      | succ n =>
        have ih' := ih (i + 1) (by omega) n (by omega)
        have ii : vp_in (nI i) 16 := vp_in_nI (by omega) (by decide)
        have ci : (nI i).toNatClampNeg = i := nI_clamp (by omega)
        have e0 : il_mx i (il_eX kx hd dp c f) hd i = hd i := il_mxg (Nat.le_refl i)
        have same : il_eX kx hd dp c f i = hd i → ∀ a, a = nI i + 1 → wX_expire_25 post (nI c) g0 g1 g2 g3 (nI tc) (nI oc) (nI mc) (nI lim) (nI nh) n a (il_mx i (il_eX kx hd dp c f) hd) kx (upd sx c 0) (upd ep c (nI f)) mo mw md mh nx pv st pl am := fun q a ea => by
          rw [il_mxk q] at ih'
          rw [ea, nI_1]; exact ih'
        have w56 : ¬ (kx i = nI c ∧ hd i &&& 3 = 1) → wX_expire_56 post (wX_expire_25 post (nI c) g0 g1 g2 g3 (nI tc) (nI oc) (nI mc) (nI lim) (nI nh) n) (nI c) (nI i) g0 g1 g2 g3 (nI tc) (nI oc) (nI mc) (nI lim) (nI nh) (il_mx i (il_eX kx hd dp c f) hd) kx (upd sx c 0) (upd ep c (nI f)) mo mw md mh nx pv st pl am := fun q => by
          unfold wX_expire_56 wX_expire_57
          refine br_t rfl ?_
          unfold wX_expire_99
          exact br_t rfl (same (if_neg q))
        refine br_f (nI_ge (by omega) (by omega)) (And.intro ii ?_)
        rw [ci]
        by_cases z : kx i = nI c
        · refine br_t z (il_xTag (by omega) ?_)
          rw [e0]
          by_cases t1 : hd i &&& 3 = 1
          · refine br_t t1 ?_
            have dpx : il_eX kx hd dp c f i = (if dp i ≤ 0 then (if nI f = 0 then 1 else hd i) else (hd i &&& 511) ||| (nI f <<< ((9 : Int32) &&& 31))) := if_pos ⟨z, t1⟩
            unfold wX_expire_57
            refine br_f il_10 (il_xDepth (MO := mo) (E := ep (kx i).toNatClampNeg) (qo := ow i) (qd := dp i) (qh := ho i) (qs := hs i) (by omega) htc hmc (by rw [e0]; exact B.1 i (by omega)) ?_)
            by_cases d0 : dp i ≤ 0
            · rw [if_pos d0] at dpx
              refine br_t d0 ?_
              unfold wX_expire_99
              refine br_f il_10 (And.intro ic ?_)
              rw [cc, pk_us]
              by_cases f0 : nI f = 0
              · rw [if_pos f0] at dpx
                refine br_t f0 (And.intro ii (fun a ea b eb => ?_))
                rw [ci, il_mxs dpx.symm] at ea
                rw [ea, eb, nI_1]; exact ih'
              · rw [if_neg f0] at dpx
                exact br_f f0 (same dpx)
            · rw [if_neg d0] at dpx
              refine br_f d0 (And.intro ii (And.intro ic (And.intro ii (fun a ea b eb => ?_))))
              rw [ci, cc, pk_us, e0, il_mxs dpx.symm] at ea
              rw [ea, eb, nI_1]; exact ih'
          · exact br_f t1 (w56 (fun q => t1 q.2))
        · exact br_f z (w56 (fun q => z q.1))
  have g := go oc 0 (by omega) (oc + 1) (by omega)
  rw [il_mx0] at g
  unfold wpX_expire
  refine And.intro ic (fun a ea => And.intro ic (And.intro ic (fun b eb => Exists.intro (oc + 1) ?_)))
  rw [cc] at ea
  rw [cc, e1] at eb
  rw [ea, eb]; exact g
end
end
section
/-! the safepoint: Y's loops and both together -/
section
variable {g0 g1 g2 g3 : Int32} {tc oc mc lim nh : Nat} {hd kx sx ep mo mw md mh nx pv st pl am : Nat → Int32}
variable {ck : Nat} {ar : Nat → Int64} {ow dp ho hs ky sy ba : Nat → Int32}
variable {o c : Nat}
theorem il_yBar {post : Int32 → SY → Prop} {J4 : Int32 → Int32 → (Nat → Int32) → (Nat → Int32) → (Nat → Int32) → (Nat → Int64) → (Nat → Int32) → (Nat → Int32) → (Nat → Int32) → (Nat → Int32) → (Nat → Int32) → (Nat → Int32) → (Nat → Int32) → Prop} {x1 : Int32} (hoc : oc ≤ 16) (hc : c < 3) (K : J4 x1 (nI (c + 1)) st pl am ar ow dp (il_mx oc (il_bY ky ho c) ho) hs ky sy (upd ba c 1)) :
    ∃ n : Nat, wY_safepoint_58 post J4 x1 (nI c) 1 (nI tc) (nI oc) (nI mc) (nI lim) (nI nh) (lN ck) n 0 st pl am ar ow dp ho hs ky sy ba := by
  have ic : vp_in (nI c) 3 := vp_in_nI hc (by decide)
  have cc : (nI c).toNatClampNeg = c := nI_clamp (by omega)
  have go : ∀ k i, i + k = oc → ∀ n, k < n → wY_safepoint_58 post J4 x1 (nI c) 1 (nI tc) (nI oc) (nI mc) (nI lim) (nI nh) (lN ck) n (nI i) st pl am ar ow dp (il_mx i (il_bY ky ho c) ho) hs ky sy ba := by
    intro k
    induction k with
    | zero =>
      intro i hi n hn
      cases n with
      | zero => omega
      | succ n =>
        have e : i = oc := by omega
        subst e
        refine br_t (nI_le (by omega) (by omega)) (br_f il_10 (And.intro ic (fun a ea b eb => ?_)))
        rw [cc, show vp_nar .boolean 1 = 1 from rfl] at ea
        rw [ea, eb, nI_1]; exact K
    | succ k ih =>
      intro i hi n hn
      cases n with
      | zero => omega
      | succ n =>
        have ih' := ih (i + 1) (by omega) n (by omega)
        have ii : vp_in (nI i) 16 := vp_in_nI (by omega) (by decide)
        have ci : (nI i).toNatClampNeg = i := nI_clamp (by omega)
        refine br_f (nI_ge (by omega) (by omega)) (And.intro ii ?_)
        rw [ci]
        by_cases z : ky i = nI c
        · refine br_t z (br_f il_10 (And.intro ii (fun a ea b eb => ?_)))
          rw [il_mxs (x := -2) (if_pos z).symm] at ea
          rw [ea, eb, nI_1]; exact ih'
        · refine br_f z ?_
          unfold wY_safepoint_94
          refine And.intro ii ?_
          rw [ci]
          rw [il_mxk (if_neg z)] at ih'
          exact br_f z (fun a ea => by rw [ea, nI_1]; exact ih')
  have g := go oc 0 (by omega) (oc + 1) (by omega)
  rw [il_mx0] at g
  exact ⟨oc + 1, g⟩
theorem il_yExp {post : Int32 → SY → Prop} {J4 : Int32 → Int32 → (Nat → Int32) → (Nat → Int32) → (Nat → Int32) → (Nat → Int64) → (Nat → Int32) → (Nat → Int32) → (Nat → Int32) → (Nat → Int32) → (Nat → Int32) → (Nat → Int32) → (Nat → Int32) → Prop} {x1 : Int32} (hoc : oc ≤ 16) (hc : c < 3) (K : J4 x1 (nI (c + 1)) st pl am ar ow dp (il_mx oc (il_eY ky ow ho c) ho) hs ky (upd sy c 0) ba) :
    ∃ n : Nat, wY_safepoint_58 post J4 x1 (nI c) 0 (nI tc) (nI oc) (nI mc) (nI lim) (nI nh) (lN ck) n 0 st pl am ar ow dp ho hs ky sy ba := by
  have ic : vp_in (nI c) 3 := vp_in_nI hc (by decide)
  have cc : (nI c).toNatClampNeg = c := nI_clamp (by omega)
  have go : ∀ k i, i + k = oc → ∀ n, k < n → wY_safepoint_58 post J4 x1 (nI c) 0 (nI tc) (nI oc) (nI mc) (nI lim) (nI nh) (lN ck) n (nI i) st pl am ar ow dp (il_mx i (il_eY ky ow ho c) ho) hs ky sy ba := by
    intro k
    induction k with
    | zero =>
      intro i hi n hn
      cases n with
      | zero => omega
      | succ n =>
        have e : i = oc := by omega
        subst e
        refine br_t (nI_le (by omega) (by omega)) (br_t rfl (And.intro ic (fun a ea b eb => ?_)))
        rw [cc] at ea
        rw [ea, eb, nI_1]; exact K
    | succ k ih =>
      intro i hi n hn
      cases n with
      | zero => omega
      | succ n =>
        have ih' := ih (i + 1) (by omega) n (by omega)
        have ii : vp_in (nI i) 16 := vp_in_nI (by omega) (by decide)
        have ci : (nI i).toNatClampNeg = i := nI_clamp (by omega)
        have e0 : il_mx i (il_eY ky ow ho c) ho i = ho i := il_mxg (Nat.le_refl i)
        have same : il_eY ky ow ho c i = ho i → ∀ a, a = nI i + 1 → wY_safepoint_58 post J4 x1 (nI c) 0 (nI tc) (nI oc) (nI mc) (nI lim) (nI nh) (lN ck) n a st pl am ar ow dp (il_mx i (il_eY ky ow ho c) ho) hs ky sy ba := fun q a ea => by
          rw [il_mxk q] at ih'
          rw [ea, nI_1]; exact ih'
        have w94 : wY_safepoint_94 post J4 (wY_safepoint_58 post J4 x1 (nI c) 0 (nI tc) (nI oc) (nI mc) (nI lim) (nI nh) (lN ck) n) x1 (nI c) 0 (nI i) (nI tc) (nI oc) (nI mc) (nI lim) (nI nh) (lN ck) st pl am ar ow dp (il_mx i (il_eY ky ow ho c) ho) hs ky sy ba := by
          unfold wY_safepoint_94
          refine And.intro ii ?_
          rw [ci, e0]
          by_cases z : ky i = nI c
          · refine br_t z (And.intro ii ?_)
            by_cases a : ow i = -1
            · refine br_t a (And.intro ii ?_)
              by_cases b : ho i < 0
              · exact br_t b (same (if_neg (fun q => q.2.2 b)))
              · refine br_f b (And.intro ii (fun x ex y ey => ?_))
                rw [il_mxs (x := -1) (if_pos ⟨z, a, b⟩).symm] at ex
                rw [ex, ey, nI_1]; exact ih'
            · exact br_f a (same (if_neg (fun q => a q.2.1)))
          · exact br_f z (same (if_neg (fun q => z q.1)))
        refine br_f (nI_ge (by omega) (by omega)) (And.intro ii ?_)
        by_cases z : ky (nI i).toNatClampNeg = nI c
        · exact br_t z (br_t rfl w94)
        · exact br_f z w94
  have g := go oc 0 (by omega) (oc + 1) (by omega)
  rw [il_mx0] at g
  exact ⟨oc + 1, g⟩
end
section
variable {g0 g1 g2 g3 : Int32} {tc oc mc lim nh ck : Nat} {kx mo mw md mh nx pv st pl am ow dp hs ky : Nat → Int32} {ar : Nat → Int64}
theorem il_safe : ∀ (j i : Nat) (x1 : Int32) (hd sx ep ho sy ba : Nat → Int32), i + j = 3 → (il_R tc oc mc lim nh ck hd kx sx ep mo mw md mh nx pv st pl am ar ow dp ho hs ky sy ba) →
    ∃ (r : Int32) (hd' sx' ep' ho' sy' ba' : Nat → Int32), (il_R tc oc mc lim nh ck hd' kx sx' ep' mo mw md mh nx pv st pl am ar ow dp ho' hs ky sy' ba') ∧
      (∀ post : Int32 → SX → Prop, post r (g0, g1, g2, g3, nI tc, nI oc, nI mc, nI lim, nI nh, hd', kx, sx', ep', mo, mw, md, mh, nx, pv, st, pl, am) → ∀ n, j < n → wX_safepoint_4 post n x1 (nI i) g0 g1 g2 g3 (nI tc) (nI oc) (nI mc) (nI lim) (nI nh) hd kx sx ep mo mw md mh nx pv st pl am) ∧
      (∀ post : Int32 → SY → Prop, post r (nI tc, nI oc, nI mc, nI lim, nI nh, lN ck, st, pl, am, ar, ow, dp, ho', hs, ky, sy', ba') → ∀ n, j < n → wY_safepoint_4 post (nI tc) (nI oc) (nI mc) (nI lim) (nI nh) (lN ck) n x1 (nI i) st pl am ar ow dp ho hs ky sy ba) := by
  intro j
  induction j with
  | zero =>
    intro i x1 hd sx ep ho sy ba hi R
    have e : i = 3 := by omega
    subst e
    refine ⟨x1, hd, sx, ep, ho, sy, ba, R, fun post K n hn => ?_, fun post K n hn => ?_⟩
    · cases n with
      | zero => omega
      | succ n => exact br_t (by decide) K
    · cases n with
      | zero => omega
      | succ n => exact br_t (by decide) K
  | succ j ih =>
    intro i x1 hd sx ep ho sy ba hi R
    have R0 := R
    obtain ⟨⟨d1, d2, d3, d4, d5, d6, d7, d8, d9⟩, B, H⟩ := R
    have D : il_D tc oc mc lim nh := ⟨d1, d2, d3, d4, d5, d6, d7, d8, d9⟩
    have hc : i < 3 := by omega
    have ic : vp_in (nI i) 3 := vp_in_nI hc (by decide)
    have ci : (nI i).toNatClampNeg = i := nI_clamp (by omega)
    have g3' : ¬ (3 : Int32) ≤ nI i := nI_ge (b := 3) hc (by decide)
    have e2 : 2 * nI lim = nI (2 * lim) := by rw [show (2 : Int32) = nI 2 from rfl, pk_mul]
    obtain ⟨s, e, h1, h2, h3, h4, h5⟩ := B.2.2.1 i hc
    have skip : (sx i < nI lim) → (¬ ba i = 0 ∨ (ba i = 0 ∧ sy i < nI lim)) → ∃ (r : Int32) (hd' sx' ep' ho' sy' ba' : Nat → Int32), (il_R tc oc mc lim nh ck hd' kx sx' ep' mo mw md mh nx pv st pl am ar ow dp ho' hs ky sy' ba') ∧
      (∀ post : Int32 → SX → Prop, post r (g0, g1, g2, g3, nI tc, nI oc, nI mc, nI lim, nI nh, hd', kx, sx', ep', mo, mw, md, mh, nx, pv, st, pl, am) → ∀ n, j + 1 < n → wX_safepoint_4 post n x1 (nI i) g0 g1 g2 g3 (nI tc) (nI oc) (nI mc) (nI lim) (nI nh) hd kx sx ep mo mw md mh nx pv st pl am) ∧
      (∀ post : Int32 → SY → Prop, post r (nI tc, nI oc, nI mc, nI lim, nI nh, lN ck, st, pl, am, ar, ow, dp, ho', hs, ky, sy', ba') → ∀ n, j + 1 < n → wY_safepoint_4 post (nI tc) (nI oc) (nI mc) (nI lim) (nI nh) (lN ck) n x1 (nI i) st pl am ar ow dp ho hs ky sy ba) := fun hX hY => by
      obtain ⟨r, hd', sx', ep', ho', sy', ba', k1, k2, k3⟩ := ih (i + 1) x1 hd sx ep ho sy ba (by omega) R0
      refine ⟨r, hd', sx', ep', ho', sy', ba', k1, fun post K n hn => ?_, fun post K n hn => ?_⟩
      · cases n with
        | zero => omega
        | succ n =>
          refine br_f g3' (And.intro ic ?_)
          rw [ci]
          exact br_t hX (fun a ea => by rw [ea, nI_1]; exact k2 post K n (by omega))
      · cases n with
        | zero => omega
        | succ n =>
          refine br_f g3' (And.intro ic ?_)
          rw [ci]
          rcases hY with q | ⟨q1, q2⟩
          · exact br_f q (fun a ea => by rw [ea, nI_1]; exact k3 post K n (by omega))
          · exact br_t q1 (And.intro ic (br_t q2 (fun a ea => by rw [ea, nI_1]; exact k3 post K n (by omega))))
    rcases h5 with ⟨h5, h6⟩ | ⟨h5, h6, h7⟩
    · rcases Nat.lt_or_ge s lim with z | z
      · exact skip (by rw [h6]; exact nI_lt z (by omega)) (Or.inr ⟨h5, by rw [h3]; exact nI_lt z (by omega)⟩)
      · have nl : ¬ nI s < nI lim := nI_nlt z (by omega)
        rcases Nat.lt_or_ge s (2 * lim) with y | y
        · have B1 := il_B_exp d2 d6 d4 B hc h2 h4 h5
          obtain ⟨r, hd', sx', ep', ho', sy', ba', k1, k2, k3⟩ := ih (i + 1) (x1 + 1) _ _ _ _ _ _ (by omega) ⟨D, B1, H⟩
          refine ⟨r, hd', sx', ep', ho', sy', ba', k1, fun post K n hn => ?_, fun post K n hn => ?_⟩
          · cases n with
            | zero => omega
            | succ n =>
              refine br_f g3' (And.intro ic ?_)
              rw [ci, h6, e2]
              refine br_f nl (And.intro ic (br_t (nI_lt y (by omega)) (il_xExp d2 d6 d4 B hc h2 h4 (fun a ea b eb => ?_))))
              rw [ea, eb, nI_1]; exact k2 post K n (by omega)
          · cases n with
            | zero => omega
            | succ n =>
              refine br_f g3' (And.intro ic ?_)
              rw [ci, h3, e2]
              refine br_t h5 (And.intro ic (br_f nl (fun a ea => And.intro ic (br_f (fun q => by have := il_inj q; omega) ?_))))
              rw [ea]
              exact il_yExp d4 hc (k3 post K n (by omega))
        · have es : s = 2 * lim := by omega
          have B1 := il_B_bar d2 d6 d4 B hc
          obtain ⟨r, hd', sx', ep', ho', sy', ba', k1, k2, k3⟩ := ih (i + 1) (x1 + 1) _ _ _ _ _ _ (by omega) ⟨D, B1, H⟩
          refine ⟨r, hd', sx', ep', ho', sy', ba', k1, fun post K n hn => ?_, fun post K n hn => ?_⟩
          · cases n with
            | zero => omega
            | succ n =>
              refine br_f g3' (And.intro ic ?_)
              rw [ci, h6, e2]
              refine br_f nl (And.intro ic (br_f (nI_nlt y (by omega)) (il_xBar d2 d6 d4 B hc (fun a ea b eb => ?_))))
              rw [ea, eb, nI_1]; exact k2 post K n (by omega)
          · cases n with
            | zero => omega
            | succ n =>
              refine br_f g3' (And.intro ic ?_)
              rw [ci, h3, e2]
              refine br_t h5 (And.intro ic (br_f nl (fun a ea => And.intro ic (br_t (by rw [es]) ?_))))
              rw [ea]
              exact il_yBar d4 hc (k3 post K n (by omega))
    · exact skip (by rw [h6, Int32.lt_iff_toInt_lt, nI_toInt (by omega), show (-2 : Int32).toInt = -2 from by decide]; omega) (Or.inl (by rw [h5]; exact il_10))
end
end
section
/-! a new object -/
section
variable {g0 g1 g2 g3 : Int32} {tc oc mc lim nh : Nat} {hd kx sx ep mo mw md mh nx pv st pl am : Nat → Int32}
variable {ck : Nat} {ar : Nat → Int64} {ow dp ho hs ky sy ba : Nat → Int32}
variable {o c : Nat}
theorem il_xInUse {post : Int32 → Prop} (R : (il_R tc oc mc lim nh ck hd kx sx ep mo mw md mh nx pv st pl am ar ow dp ho hs ky sy ba)) (h : o < oc) (K : post (il_i (¬ ow o = -1 ∨ ∃ t, t < tc ∧ pl t = nI o))) : wpX_inUse post (g0, g1, g2, g3, nI tc, nI oc, nI mc, nI lim, nI nh, hd, kx, sx, ep, mo, mw, md, mh, nx, pv, st, pl, am) (nI o) := by
  have d2 := R.1.2.1
  have d4 := R.1.2.2.2.1
  have d6 := R.1.2.2.2.2.2.1
  have S := R.2.1.1 o h
  have go : ∀ k i, i + k = tc → ∀ n, k < n → wX_inUse_17 post (nI o) g0 g1 g2 g3 (nI tc) (nI oc) (nI mc) (nI lim) (nI nh) hd kx sx ep mo mw md mh nx pv st pl am n (il_i (¬ ow o = -1 ∨ ∃ t, t < i ∧ pl t = nI o)) (nI i) := by
    intro k
    induction k with
    | zero =>
      intro i hi n hn
      cases n with
      | zero => omega
      | succ n =>
        have e : i = tc := by omega
        subst e
        refine br_t (nI_le (by omega) (by omega)) (And.intro ?_ K)
        rcases Classical.em (¬ ow o = -1 ∨ ∃ t, t < i ∧ pl t = nI o) with z | z
        · rw [il_it z]; rfl
        · rw [il_if z]; rfl
    | succ k ih =>
      intro i hi n hn
      cases n with
      | zero => omega
      | succ n =>
        have ih' := ih (i + 1) (by omega) n (by omega)
        have ii : vp_in (nI i) 8 := vp_in_nI (by omega) (by decide)
        have ci : (nI i).toNatClampNeg = i := nI_clamp (by omega)
        refine br_f (nI_ge (by omega) (by omega)) ?_
        rcases Classical.em (¬ ow o = -1 ∨ ∃ t, t < i ∧ pl t = nI o) with z | z
        · have z' : ¬ ow o = -1 ∨ ∃ t, t < i + 1 ∧ pl t = nI o := z.imp id (fun ⟨t, h1, h2⟩ => ⟨t, by omega, h2⟩)
          rw [il_it z'] at ih'
          rw [il_it z]
          exact br_f il_10 (fun a ea => by rw [ea, nI_1]; exact ih')
        · rw [il_if z]
          refine br_t rfl (And.intro ii ?_)
          rw [ci]
          by_cases y : pl i = nI o
          · rw [il_it (Or.inr ⟨i, by omega, y⟩)] at ih'
            exact br_t y (fun a ea => by rw [ea, nI_1]; exact ih')
          · rw [il_if (fun q => z (q.imp id (fun ⟨t, h1, h2⟩ => ⟨t, by
              rcases Nat.lt_or_ge t i with x | x
              · exact x
              · have : t = i := by omega
                rw [this] at h2; exact absurd h2 y, h2⟩)))] at ih'
            exact br_f y (fun a ea => by rw [ea, nI_1]; exact ih')
  have g := go tc 0 (by omega) (tc + 1) (by omega)
  unfold wpX_inUse
  refine il_xOwner (by omega) d2 d6 S ?_
  by_cases a : ow o = -1
  · rw [il_if (fun q => q.elim (fun q => q a) (fun ⟨t, h1, _⟩ => by omega))] at g
    exact br_t a (Exists.intro (tc + 1) g)
  · rw [il_it (Or.inl a)] at g
    exact br_f a (Exists.intro (tc + 1) g)
/-- the relation behind it -/
theorem il_B_new (htc : tc ≤ 8) (hmc : mc ≤ 8) (hoc : oc ≤ 16) (B : (il_B tc oc mc lim hd kx sx ep mo mw md mh ow dp ho hs ky sy ba)) (h : o < oc) (hc : c < 3) (a : ow o = -1) {hd' ho' mo' : Nat → Int32} (fh : ∀ j, j ≠ o → hd' j = hd j) (fp : ∀ j, j ≠ o → ho' j = ho j)
    (q : (ba c = 0 ∧ hd' o = 1 ∧ ho' o = -1) ∨ (¬ ba c = 0 ∧ hd' o = 0 ∧ ho' o = -2)) (fm : ∀ m, m < mc → (mo m = nI o ∧ mo' m = -1) ∨ (¬ mo m = nI o ∧ mo' m = mo m)) :
    (il_B tc oc mc lim hd' (upd kx o (nI c)) sx ep mo' mw md mh ow dp ho' (upd hs o (-1)) (upd ky o (nI c)) sy ba) := by
  refine ⟨fun j hj => ?_, fun j hj => ?_, fun k hk => ?_, fun m hm => ?_⟩
  · rcases Nat.decEq j o with z | z
    · rw [fh j z, fp j z, pk_un z, pk_un z]
      refine il_S_tr (fun m h1 h2 h3 => ?_) (B.1 j hj)
      rcases fm m h1 with ⟨f1, _⟩ | ⟨_, f2⟩
      · exact absurd (il_inj (h2.symm.trans f1)) z
      · exact ⟨f2.trans h2, rfl, rfl, rfl⟩
    · subst z
      rw [pk_us, pk_us, nI_clamp (by omega)]
      obtain ⟨w, d, n, ⟨h1, h2, h3, h4, h5, h6, h7⟩, C⟩ := B.1 j hj
      have w0 : w = 0 := by rw [h5, il_p_m1 (by omega)] at a; exact a
      obtain ⟨s, e, x1, x2, x3, x4, x5⟩ := B.2.2.1 c hc
      have F : w ≤ tc ∧ d ≤ 9 ∧ 0 ≤ 1024 ∧ (w = 0 ↔ d = 0) ∧ ow j = il_p w ∧ dp j = nI d ∧ (-1 : Int32) = il_p 0 := ⟨h1, h2, by omega, h4, h5, h6, il_p0.symm⟩
      have d0 := h4.mp w0
      rcases q with ⟨q1, q2, q3⟩ | ⟨q1, q2, q3⟩
      · refine ⟨w, d, 0, F, Or.inr (Or.inl ⟨rfl, by omega, 0, e, 0, by omega, by omega, x2, x4, ?_, fun z => absurd d0 z, fun _ => q3.trans il_p0.symm, fun _ => q3⟩)⟩
        rw [q2, d0]; rfl
      · exact ⟨w, d, 0, F, Or.inl ⟨d0, q3, q2⟩⟩
  · rcases Nat.decEq j o with z | z
    · rw [pk_un z, pk_un z]; exact B.2.1 j hj
    · rw [z, pk_us, pk_us]; exact ⟨c, hc, rfl, rfl⟩
  · obtain ⟨s, e, x1, x2, x3, x4, x5⟩ := B.2.2.1 k hk
    refine ⟨s, e, x1, x2, x3, x4, ?_⟩
    rcases x5 with x5 | ⟨x5, x6, x7⟩
    · exact Or.inl x5
    · refine Or.inr ⟨x5, x6, fun j hj ej => ?_⟩
      rcases Nat.decEq j o with z | z
      · rw [pk_un z] at ej
        rw [fp j z]; exact x7 j hj ej
      · rw [z] at ej ⊢
        rw [pk_us] at ej
        have kc : c = k := il_inj ej
        subst kc
        rcases q with ⟨q1, _⟩ | ⟨_, _, q3⟩
        · rw [x5] at q1; exact absurd q1 il_10
        · exact q3
  · rcases fm m hm with ⟨_, f2⟩ | ⟨f1, f2⟩
    · exact Or.inl f2
    · rw [f2]
      rcases B.2.2.2 m hm with y | ⟨j, hj, e1, e2⟩
      · exact Or.inl y
      · exact Or.inr ⟨j, hj, e1, by rw [fh j (fun z => f1 (by rw [← z]; exact e1))]; exact e2⟩
theorem il_fresh (R : (il_R tc oc mc lim nh ck hd kx sx ep mo mw md mh nx pv st pl am ar ow dp ho hs ky sy ba)) (h : o < oc) (hc : c < 3) :
    ∃ (r : Int32) (hd' kx' mo' ho' hs' ky' : Nat → Int32), (il_R tc oc mc lim nh ck hd' kx' sx ep mo' mw md mh nx pv st pl am ar ow dp ho' hs' ky' sy ba) ∧ (∀ post : Int32 → SX → Prop, post r (g0, g1, g2, g3, nI tc, nI oc, nI mc, nI lim, nI nh, hd', kx', sx, ep, mo', mw, md, mh, nx, pv, st, pl, am) → wpX_fresh post (g0, g1, g2, g3, nI tc, nI oc, nI mc, nI lim, nI nh, hd, kx, sx, ep, mo, mw, md, mh, nx, pv, st, pl, am) (nI o) (nI c)) ∧ (∀ post : Int32 → SY → Prop, post r (nI tc, nI oc, nI mc, nI lim, nI nh, lN ck, st, pl, am, ar, ow, dp, ho', hs', ky', sy, ba) → wpY_fresh post (nI tc, nI oc, nI mc, nI lim, nI nh, lN ck, st, pl, am, ar, ow, dp, ho, hs, ky, sy, ba) (nI o) (nI c)) := by
  have R0 := R
  obtain ⟨⟨d1, d2, d3, d4, d5, d6, d7, d8, d9⟩, B, H⟩ := R
  have D : il_D tc oc mc lim nh := ⟨d1, d2, d3, d4, d5, d6, d7, d8, d9⟩
  have o16 : o < 16 := by omega
  have io : vp_in (nI o) 16 := vp_in_nI o16 (by decide)
  have co : (nI o).toNatClampNeg = o := nI_clamp (by omega)
  have ic : vp_in (nI c) 3 := vp_in_nI hc (by decide)
  have cc : (nI c).toNatClampNeg = c := nI_clamp (by omega)
  have n0 : ¬ nI c < 0 := nI_pos (by omega)
  have n3 : nI c < 3 := nI_lt (b := 3) hc (by decide)
  have S := B.1 o h
  have tt : ∀ t, t < tc → pl t = nI o → ¬ st t = 0 := fun t ht e s0 => by
    rcases H.1 t ht with ⟨_, q⟩ | ⟨_, q | ⟨q, _⟩⟩
    · exact (il_nn (q := o) (by omega)).1 (e.symm.trans q)
    · rw [s0] at q; exact absurd q (by decide)
    · exact (il_q01 q).1 s0
  have y35 : ∀ post : Int32 → SY → Prop, ((∃ t, t < tc ∧ pl t = nI o) → post 12 (nI tc, nI oc, nI mc, nI lim, nI nh, lN ck, st, pl, am, ar, ow, dp, ho, hs, ky, sy, ba)) → ((¬ ∃ t, t < tc ∧ pl t = nI o) → ∀ n, 0 < n → wY_fresh_35 post (nI o) (nI c) (nI tc) (nI oc) (nI mc) (nI lim) (nI nh) (lN ck) st pl am ar ow dp ho hs ky sy ba n (nI tc)) → ∀ k i, i + k = tc → (∀ t, t < i → ¬ pl t = nI o) → ∀ n, k < n → wY_fresh_35 post (nI o) (nI c) (nI tc) (nI oc) (nI mc) (nI lim) (nI nh) (lN ck) st pl am ar ow dp ho hs ky sy ba n (nI i) := by
    intro post hb hf k
    induction k with
    | zero =>
      intro i hi nb n hn
      have e : i = tc := by omega
      subst e
      exact hf (fun ⟨t, h1, h2⟩ => nb t h1 h2) n hn
    | succ k ih =>
      intro i hi nb n hn
      cases n with
      | zero => omega
      | succ n =>
        have ii : vp_in (nI i) 8 := vp_in_nI (by omega) (by decide)
        have ci : (nI i).toNatClampNeg = i := nI_clamp (by omega)
        have nxt : ¬ pl i = nI o → ∀ a, a = nI i + 1 → wY_fresh_35 post (nI o) (nI c) (nI tc) (nI oc) (nI mc) (nI lim) (nI nh) (lN ck) st pl am ar ow dp ho hs ky sy ba n a := fun q a ea => by
          rw [ea, nI_1]
          exact ih (i + 1) (by omega) (fun t ht => by
            rcases Nat.lt_or_ge t i with y | y
            · exact nb t y
            · have : t = i := by omega
              rw [this]; exact q) n (by omega)
        refine br_f (nI_ge (by omega) (by omega)) (And.intro ii ?_)
        rw [ci]
        by_cases s0 : st i = 0
        · exact br_t s0 (nxt (fun q => tt i (by omega) q s0))
        · refine br_f s0 (And.intro ii ?_)
          by_cases p : pl i = nI o
          · exact br_t p (hb ⟨i, by omega, p⟩)
          · exact br_f p (nxt p)
  by_cases a : ow o = -1
  · rcases Classical.em (∃ t, t < tc ∧ pl t = nI o) with bz | nb
    · refine ⟨12, hd, kx, mo, ho, hs, ky, R0, fun post K => ?_, fun post K => ?_⟩
      · unfold wpX_fresh
        refine il_xIsO d4 h (br_f il_10 (br_f n0 (br_t n3 (il_xInUse R0 h (br_f ?_ K)))))
        rw [il_i0]; exact fun q => q (Or.inr bz)
      · unfold wpY_fresh
        refine il_yIsO d4 h (br_f il_10 (br_f n0 (br_t n3 (And.intro io ?_))))
        rw [co]
        exact br_t a (Exists.intro (tc + 1) (y35 post (fun _ => K) (fun q => absurd bz q) tc 0 (by omega) (fun t ht => by omega) _ (by omega)))
    · have nl : ∀ t, t < tc → il_q (st t) → ¬ pl t = nI o := fun t ht _ e => nb ⟨t, ht, e⟩
      have iu : il_i (¬ ow o = -1 ∨ ∃ t, t < tc ∧ pl t = nI o) = 0 := il_if (fun q => q.elim (fun q => q a) nb)
      have mon : ∃ mo' : Nat → Int32, (∀ m, m < mc → (mo m = nI o ∧ mo' m = -1) ∨ (¬ mo m = nI o ∧ mo' m = mo m)) ∧ (il_H tc oc mc ck mo' nx pv st pl am ar) ∧ ∀ post : Int32 → SX → Prop, wX_fresh_51 post (nI o) (nI c) g0 g1 g2 g3 (nI tc) (nI oc) (nI mc) (nI lim) (nI nh) hd kx sx ep mo' mw md mh nx pv st pl am → wpX_fresh post (g0, g1, g2, g3, nI tc, nI oc, nI mc, nI lim, nI nh, hd, kx, sx, ep, mo, mw, md, mh, nx, pv, st, pl, am) (nI o) (nI c) := by
        rcases il_S_tag d2 d6 S with ⟨⟨m, hm, e⟩, t3⟩ | ⟨nf, t3⟩
        · have em := (il_S_fat d2 d6 S hm e).1
          have w2 := (il_fw (m := m) (by omega)).2
          rw [← e] at w2
          have J := il_B_J d6 d4 B
          refine ⟨upd mo m (-1), fun k hk => ?_, il_H_mo H (fun t ht hq q => nl t ht hq (q.trans em)) (il_lined_pos R0), fun post K => ?_⟩
          · rcases Nat.decEq k m with z | z
            · refine Or.inr ⟨fun q => z (J k m o hk hm h q em), pk_un z⟩
            · rw [z]; exact Or.inl ⟨em, pk_us⟩
          · unfold wpX_fresh
            refine il_xIsO d4 h (br_f il_10 (br_f n0 (br_t n3 (il_xInUse R0 h (br_t iu (il_xTag o16 (br_t t3 (il_xPay o16 ?_))))))))
            rw [w2]
            refine And.intro (vp_in_nI (by omega) (by decide)) (fun x ex => ?_)
            rw [nI_clamp (by omega)] at ex
            rw [ex]; exact K
        · refine ⟨mo, fun k hk => Or.inr ⟨fun q => nf ⟨k, hk, il_B_mo d4 B hk h q⟩, rfl⟩, H, fun post K => ?_⟩
          unfold wpX_fresh
          exact il_xIsO d4 h (br_f il_10 (br_f n0 (br_t n3 (il_xInUse R0 h (br_t iu (il_xTag o16 (br_f t3 K)))))))
      obtain ⟨mo', fm, H1, wx⟩ := mon
      obtain ⟨s, e, x1, x2, x3, x4, x5⟩ := B.2.2.1 c hc
      rcases x5 with ⟨x5, x6⟩ | ⟨x5, x6, x7⟩
      · refine ⟨1, upd hd o 1, upd kx o (nI c), mo', upd ho o (-1), upd hs o (-1), upd ky o (nI c), ⟨D, il_B_new d2 d6 d4 B h hc a (fun j z => pk_un z) (fun j z => pk_un z) (Or.inl ⟨x5, pk_us, pk_us⟩) fm, H1⟩, fun post K => wx post ?_, fun post K => ?_⟩
        · unfold wX_fresh_51
          refine And.intro io (fun x ex => And.intro ic ?_)
          rw [co] at ex
          subst ex
          rw [cc]
          refine br_f (by rw [x6]; exact (il_nn (by omega)).2.1) (And.intro io (fun y ey => ?_))
          rw [co] at ey
          rw [ey]; exact K
        · unfold wpY_fresh
          refine il_yIsO d4 h (br_f il_10 (br_f n0 (br_t n3 (And.intro io ?_))))
          rw [co]
          refine br_t a (Exists.intro (tc + 1) (y35 post (fun q => absurd q nb) (fun _ n hn => ?_) tc 0 (by omega) (fun t ht => by omega) _ (by omega)))
          cases n with
          | zero => omega
          | succ n =>
            refine br_t (nI_le (by omega) (by omega)) (And.intro io (fun x ex => And.intro io (fun y ey => And.intro ic ?_)))
            rw [cc]
            refine br_t x5 (And.intro io (fun w ew => ?_))
            rw [co] at ex ey ew
            rw [ex, ey, ew]; exact K
      · have b1 : ¬ ba c = 0 := by rw [x5]; exact il_10
        refine ⟨1, upd hd o 0, upd kx o (nI c), mo', upd ho o (-2), upd hs o (-1), upd ky o (nI c), ⟨D, il_B_new d2 d6 d4 B h hc a (fun j z => pk_un z) (fun j z => pk_un z) (Or.inr ⟨b1, pk_us, pk_us⟩) fm, H1⟩, fun post K => wx post ?_, fun post K => ?_⟩
        · unfold wX_fresh_51
          refine And.intro io (fun x ex => And.intro ic ?_)
          rw [co] at ex
          subst ex
          rw [cc]
          refine br_t x6 (And.intro io (fun y ey => ?_))
          rw [co] at ey
          rw [ey]; exact K
        · unfold wpY_fresh
          refine il_yIsO d4 h (br_f il_10 (br_f n0 (br_t n3 (And.intro io ?_))))
          rw [co]
          refine br_t a (Exists.intro (tc + 1) (y35 post (fun q => absurd q nb) (fun _ n hn => ?_) tc 0 (by omega) (fun t ht => by omega) _ (by omega)))
          cases n with
          | zero => omega
          | succ n =>
            refine br_t (nI_le (by omega) (by omega)) (And.intro io (fun x ex => And.intro io (fun y ey => And.intro ic ?_)))
            rw [cc]
            refine br_f b1 (And.intro io (fun w ew => ?_))
            rw [co] at ex ey ew
            rw [ex, ey, ew]; exact K
  · refine ⟨12, hd, kx, mo, ho, hs, ky, R0, fun post K => ?_, fun post K => ?_⟩
    · unfold wpX_fresh
      refine il_xIsO d4 h (br_f il_10 (br_f n0 (br_t n3 (il_xInUse R0 h (br_f ?_ K)))))
      rw [il_i0]; exact fun q => q (Or.inl a)
    · unfold wpY_fresh
      refine il_yIsO d4 h (br_f il_10 (br_f n0 (br_t n3 (And.intro io ?_))))
      rw [co]
      exact br_f a K
end
end
section
/-! the constructors -/
def il_clp (p lo hi : Int32) : Int32 := if lo ≤ p then (if p ≤ hi then p else hi) else lo
theorem il_xClamp {post : Int32 → Prop} (u : SX) {p lo hi : Int32} (K : post (il_clp p lo hi)) : wpX_clamp post u p lo hi := by
  obtain ⟨a1, a2, a3, a4, a5, a6, a7, a8, a9, a10, a11, a12, a13, a14, a15, a16, a17, a18, a19, a20, a21, a22⟩ := u
  unfold wpX_clamp
  unfold il_clp at K
  by_cases h : lo ≤ p
  · rw [if_pos h] at K
    refine br_t h ?_
    by_cases g : p ≤ hi
    · rw [if_pos g] at K; exact br_t g K
    · rw [if_neg g] at K; exact br_f g K
  · rw [if_neg h] at K; exact br_f h K
theorem il_yClamp {post : Int32 → Prop} (u : SY) {p lo hi : Int32} (K : post (il_clp p lo hi)) : wpY_clamp post u p lo hi := by
  obtain ⟨a1, a2, a3, a4, a5, a6, a7, a8, a9, a10, a11, a12, a13, a14, a15, a16, a17⟩ := u
  unfold wpY_clamp
  unfold il_clp at K
  by_cases h : lo ≤ p
  · rw [if_pos h] at K
    refine br_t h ?_
    by_cases g : p ≤ hi
    · rw [if_pos g] at K; exact br_t g K
    · rw [if_neg g] at K; exact br_f g K
  · rw [if_neg h] at K; exact br_f h K
theorem il_clp_n (p : Int32) (lo hi : Nat) (h : lo ≤ hi) (hb : hi < 2 ^ 31) : ∃ n, lo ≤ n ∧ n ≤ hi ∧ il_clp p (nI lo) (nI hi) = nI n := by
  unfold il_clp
  by_cases a : nI lo ≤ p
  · rw [if_pos a]
    by_cases b : p ≤ nI hi
    · rw [if_pos b]
      obtain ⟨n, hn, rfl⟩ := nI_of (x := p) (fun q => nI_pos (n := lo) (by omega) (Int32.lt_of_le_of_lt a q))
      exact ⟨n, (nI_leI (by omega) hn).mp a, (nI_leI hn hb).mp b, rfl⟩
    · rw [if_neg b]; exact ⟨hi, h, Nat.le_refl _, rfl⟩
  · rw [if_neg a]; exact ⟨lo, Nat.le_refl _, h, rfl⟩
section
variable {g0 g1 g2 g3 : Int32} {tc oc mc lim nh : Nat} {hd kx sx ep mo mw md mh nx pv st pl am : Nat → Int32}
variable {ck : Nat} {ar : Nat → Int64} {ow dp ho hs ky sy ba : Nat → Int32}
theorem il_x254 {post : SX → Prop} (K : post (g0, g1, g2, g3, nI tc, nI oc, nI mc, nI lim, nI nh, hd, kx, sx, ep, il_mx 8 (fun _ => -1) mo, mw, md, mh, nx, pv, st, il_mx 8 (fun _ => -1) pl, am)) : ∃ n : Nat, wX_init_254 post g0 g1 g2 g3 (nI tc) (nI oc) (nI mc) (nI lim) (nI nh) n 0 hd kx sx ep mo mw md mh nx pv st pl am := by
  have go : ∀ k i, i + k = 8 → ∀ n, k < n → wX_init_254 post g0 g1 g2 g3 (nI tc) (nI oc) (nI mc) (nI lim) (nI nh) n (nI i) hd kx sx ep (il_mx i (fun _ => -1) mo) mw md mh nx pv st (il_mx i (fun _ => -1) pl) am := by
    intro k
    induction k with
    | zero =>
      intro i hi n hn
      cases n with
      | zero => omega
      | succ n =>
        have e : i = 8 := by omega
        subst e
        exact br_t (by decide) K
    | succ k ih =>
      intro i hi n hn
      cases n with
      | zero => omega
      | succ n =>
        have ih' := ih (i + 1) (by omega) n (by omega)
        have ii : vp_in (nI i) 8 := vp_in_nI (by omega) (by decide)
        have ci : (nI i).toNatClampNeg = i := nI_clamp (by omega)
        refine br_f (nI_ge (b := 8) (by omega) (by decide)) (And.intro ii (fun a ea => And.intro ii (fun b eb c ec => ?_)))
        rw [ci, il_mxs rfl] at ea
        rw [ci, il_mxs rfl] at eb
        rw [ea, eb, ec, nI_1]; exact ih'
  have g := go 8 0 (by omega) 9 (by omega)
  rw [il_mx0, il_mx0] at g
  exact ⟨9, g⟩
theorem il_x220 {post : SX → Prop} (K : post (g0, g1, g2, g3, nI tc, nI oc, nI mc, nI lim, nI nh, hd, kx, sx, ep, il_mx 8 (fun _ => -1) mo, mw, md, mh, il_mx 24 nI nx, il_mx 24 nI pv, st, il_mx 8 (fun _ => -1) pl, am)) : ∃ n : Nat, wX_init_220 post g0 g1 g2 g3 (nI tc) (nI oc) (nI mc) (nI lim) (nI nh) n 0 hd kx sx ep mo mw md mh nx pv st pl am := by
  have go : ∀ k i, i + k = 24 → ∀ n, k < n → wX_init_220 post g0 g1 g2 g3 (nI tc) (nI oc) (nI mc) (nI lim) (nI nh) n (nI i) hd kx sx ep mo mw md mh (il_mx i nI nx) (il_mx i nI pv) st pl am := by
    intro k
    induction k with
    | zero =>
      intro i hi n hn
      cases n with
      | zero => omega
      | succ n =>
        have e : i = 24 := by omega
        subst e
        exact br_t (by decide) (il_x254 K)
    | succ k ih =>
      intro i hi n hn
      cases n with
      | zero => omega
      | succ n =>
        have ih' := ih (i + 1) (by omega) n (by omega)
        have ii : vp_in (nI i) 24 := vp_in_nI (by omega) (by decide)
        have ci : (nI i).toNatClampNeg = i := nI_clamp (by omega)
        refine br_f (nI_ge (b := 24) (by omega) (by decide)) (And.intro ii (fun a ea => And.intro ii (fun b eb c ec => ?_)))
        rw [ci, il_mxs rfl] at ea
        rw [ci, il_mxs rfl] at eb
        rw [ea, eb, ec, nI_1]; exact ih'
  have g := go 24 0 (by omega) 25 (by omega)
  rw [il_mx0, il_mx0] at g
  exact ⟨25, g⟩
theorem il_r3 {i : Nat} (h : i < 100) : nI i - nI i / 3 * 3 = nI (i % 3) := pk_rem (d := 3) (by omega) (by decide) (by decide)
theorem il_x183 {post : SX → Prop} (hoc : oc ≤ 16) (K : post (g0, g1, g2, g3, nI tc, nI oc, nI mc, nI lim, nI nh, il_mx oc (fun _ => 1) hd, il_mx oc (fun j => nI (j % 3)) kx, sx, ep, il_mx 8 (fun _ => -1) mo, mw, md, mh, il_mx 24 nI nx, il_mx 24 nI pv, st, il_mx 8 (fun _ => -1) pl, am)) : ∃ n : Nat, wX_init_183 post g0 g1 g2 g3 (nI tc) (nI oc) (nI mc) (nI lim) (nI nh) n 0 hd kx sx ep mo mw md mh nx pv st pl am := by
  have go : ∀ k i, i + k = oc → ∀ n, k < n → wX_init_183 post g0 g1 g2 g3 (nI tc) (nI oc) (nI mc) (nI lim) (nI nh) n (nI i) (il_mx i (fun _ => 1) hd) (il_mx i (fun j => nI (j % 3)) kx) sx ep mo mw md mh nx pv st pl am := by
    intro k
    induction k with
    | zero =>
      intro i hi n hn
      cases n with
      | zero => omega
      | succ n =>
        have e : i = oc := by omega
        subst e
        exact br_t (nI_le (by omega) (by omega)) (il_x220 K)
    | succ k ih =>
      intro i hi n hn
      cases n with
      | zero => omega
      | succ n =>
        have ih' := ih (i + 1) (by omega) n (by omega)
        have ii : vp_in (nI i) 16 := vp_in_nI (by omega) (by decide)
        have ci : (nI i).toNatClampNeg = i := nI_clamp (by omega)
        refine br_f (nI_ge (by omega) (by omega)) (And.intro ii (fun a ea => And.intro (by decide) (And.intro ii (fun b eb c ec => ?_))))
        rw [ci, il_mxs rfl] at ea
        rw [ci, il_r3 (by omega), il_mxs rfl] at eb
        rw [ea, eb, ec, nI_1]; exact ih'
  have g := go oc 0 (by omega) (oc + 1) (by omega)
  rw [il_mx0, il_mx0] at g
  exact ⟨oc + 1, g⟩
theorem il_y176 {post : SY → Prop} (K : post (nI tc, nI oc, nI mc, nI lim, nI nh, lN ck, st, pl, am, ar, il_mx 16 (fun _ => -1) ow, dp, il_mx 16 (fun _ => -1) ho, il_mx 16 (fun _ => -1) hs, il_mx 16 (fun j => nI (j % 3)) ky, sy, ba)) : ∃ n : Nat, wY_init_176 post (nI tc) (nI oc) (nI mc) (nI lim) (nI nh) (lN ck) n 0 st pl am ar ow dp ho hs ky sy ba := by
  have go : ∀ k i, i + k = 16 → ∀ n, k < n → wY_init_176 post (nI tc) (nI oc) (nI mc) (nI lim) (nI nh) (lN ck) n (nI i) st pl am ar (il_mx i (fun _ => -1) ow) dp (il_mx i (fun _ => -1) ho) (il_mx i (fun _ => -1) hs) (il_mx i (fun j => nI (j % 3)) ky) sy ba := by
    intro k
    induction k with
    | zero =>
      intro i hi n hn
      cases n with
      | zero => omega
      | succ n =>
        have e : i = 16 := by omega
        subst e
        exact br_t (by decide) K
    | succ k ih =>
      intro i hi n hn
      cases n with
      | zero => omega
      | succ n =>
        have ih' := ih (i + 1) (by omega) n (by omega)
        have ii : vp_in (nI i) 16 := vp_in_nI (by omega) (by decide)
        have ci : (nI i).toNatClampNeg = i := nI_clamp (by omega)
        refine br_f (nI_ge (b := 16) (by omega) (by decide)) (And.intro ii (fun a ea => And.intro ii (fun b eb => And.intro ii (fun c ec => And.intro (by decide) (And.intro ii (fun d ed e ee => ?_))))))
        rw [ci, il_mxs rfl] at ea
        rw [ci, il_mxs rfl] at eb
        rw [ci, il_mxs rfl] at ec
        rw [ci, il_r3 (by omega), il_mxs rfl] at ed
        rw [ea, eb, ec, ed, ee, nI_1]; exact ih'
  have g := go 16 0 (by omega) 17 (by omega)
  rw [il_mx0, il_mx0, il_mx0, il_mx0] at g
  exact ⟨17, g⟩
theorem il_y152 {post : SY → Prop} (K : post (nI tc, nI oc, nI mc, nI lim, nI nh, lN ck, st, il_mx 8 (fun _ => -1) pl, am, ar, il_mx 16 (fun _ => -1) ow, dp, il_mx 16 (fun _ => -1) ho, il_mx 16 (fun _ => -1) hs, il_mx 16 (fun j => nI (j % 3)) ky, sy, ba)) : ∃ n : Nat, wY_init_152 post (nI tc) (nI oc) (nI mc) (nI lim) (nI nh) (lN ck) n 0 st pl am ar ow dp ho hs ky sy ba := by
  have go : ∀ k i, i + k = 8 → ∀ n, k < n → wY_init_152 post (nI tc) (nI oc) (nI mc) (nI lim) (nI nh) (lN ck) n (nI i) st (il_mx i (fun _ => -1) pl) am ar ow dp ho hs ky sy ba := by
    intro k
    induction k with
    | zero =>
      intro i hi n hn
      cases n with
      | zero => omega
      | succ n =>
        have e : i = 8 := by omega
        subst e
        exact br_t (by decide) (il_y176 K)
    | succ k ih =>
      intro i hi n hn
      cases n with
      | zero => omega
      | succ n =>
        have ih' := ih (i + 1) (by omega) n (by omega)
        have ii : vp_in (nI i) 8 := vp_in_nI (by omega) (by decide)
        have ci : (nI i).toNatClampNeg = i := nI_clamp (by omega)
        refine br_f (nI_ge (b := 8) (by omega) (by decide)) (And.intro ii (fun a ea c ec => ?_))
        rw [ci, il_mxs rfl] at ea
        rw [ea, ec, nI_1]; exact ih'
  have g := go 8 0 (by omega) 9 (by omega)
  rw [il_mx0] at g
  exact ⟨9, g⟩
end
/-- the new states are related -/
theorem il_R0 {tc oc mc lim : Nat} (D : il_D tc oc mc lim 7) : (il_R tc oc mc lim 7 0 (il_mx oc (fun _ => 1) (fun _ => 0)) (il_mx oc (fun j => nI (j % 3)) (fun _ => 0)) (fun _ => 0) (fun _ => 0) (il_mx 8 (fun _ => -1) (fun _ => 0)) (fun _ => 0) (fun _ => 0) (fun _ => 0) (il_mx 24 nI (fun _ => 0)) (il_mx 24 nI (fun _ => 0)) (fun _ => 0) (il_mx 8 (fun _ => -1) (fun _ => 0)) (fun _ => 0) (fun _ => 0) (il_mx 16 (fun _ => -1) (fun _ => 0)) (fun _ => 0) (il_mx 16 (fun _ => -1) (fun _ => 0)) (il_mx 16 (fun _ => -1) (fun _ => 0)) (il_mx 16 (fun j => nI (j % 3)) (fun _ => 0)) (fun _ => 0) (fun _ => 0)) := by
  have D0 := D
  obtain ⟨d1, d2, d3, d4, d5, d6, d7, d8, d9⟩ := D
  have z0 : ¬ il_q 0 := fun a => (il_q01 a).1 rfl
  refine ⟨D0, ⟨fun o h => ?_, fun o h => ?_, fun c hc => ?_, fun m hm => ?_⟩, fun t ht => ?_, fun t ht => ?_, fun t ht q => absurd q z0, fun _ => [], fun z m hz hm => ⟨?_, ?_, fun t => ?_⟩⟩
  · rw [il_mxl h, il_mxl (show o < 16 by omega), il_mxl h]
    exact ⟨0, 0, 0, ⟨by omega, by omega, by omega, Iff.rfl, il_p0.symm, rfl, il_p0.symm⟩, Or.inr (Or.inl ⟨rfl, by omega, 0, 0, 0, by omega, by omega, by omega, rfl, rfl, fun q => absurd rfl q, fun _ => il_p0.symm, fun _ => rfl⟩)⟩
  · rw [il_mxl h, il_mxl (show o < 16 by omega)]
    exact ⟨o % 3, Nat.mod_lt _ (by decide), rfl, rfl⟩
  · exact ⟨0, 0, by omega, by omega, rfl, rfl, Or.inl ⟨rfl, rfl⟩⟩
  · rw [il_mxl (by omega)]; exact Or.inl rfl
  · rw [il_mxl (by omega)]; exact Or.inl ⟨rfl, rfl⟩
  · exact ⟨0, by omega, rfl⟩
  · show il_mx 24 nI (fun _ => 0) (z + m) = nI (z + m) ∧ il_mx 24 nI (fun _ => 0) (z + m) = nI (z + m)
    rw [il_mxl (by omega)]; exact ⟨rfl, rfl⟩
  · exact List.Pairwise.nil
  · exact ⟨fun q => absurd q List.not_mem_nil, fun ⟨_, _, q⟩ => absurd (il_cl_q q).1 z0⟩
end
section
/-! the relation of the two states -/
def il_Rel (b : Nat) (u : SX) (v : SY) : Prop :=
  ∃ (g0 g1 g2 g3 : Int32) (tc oc mc lim nh ck : Nat) (hd kx sx ep mo mw md mh nx pv st pl am : Nat → Int32) (ar : Nat → Int64) (ow dp ho hs ky sy ba : Nat → Int32), ck ≤ b ∧ (il_R tc oc mc lim nh ck hd kx sx ep mo mw md mh nx pv st pl am ar ow dp ho hs ky sy ba) ∧ u = (g0, g1, g2, g3, nI tc, nI oc, nI mc, nI lim, nI nh, hd, kx, sx, ep, mo, mw, md, mh, nx, pv, st, pl, am) ∧ v = (nI tc, nI oc, nI mc, nI lim, nI nh, lN ck, st, pl, am, ar, ow, dp, ho, hs, ky, sy, ba)
section
variable {g0 g1 g2 g3 : Int32} {tc oc mc lim nh : Nat} {hd kx sx ep mo mw md mh nx pv st pl am : Nat → Int32}
variable {ck : Nat} {ar : Nat → Int64} {ow dp ho hs ky sy ba : Nat → Int32}
theorem il_mk {b : Nat} (h : ck ≤ b) (R : (il_R tc oc mc lim nh ck hd kx sx ep mo mw md mh nx pv st pl am ar ow dp ho hs ky sy ba)) : il_Rel b (g0, g1, g2, g3, nI tc, nI oc, nI mc, nI lim, nI nh, hd, kx, sx, ep, mo, mw, md, mh, nx, pv, st, pl, am) (nI tc, nI oc, nI mc, nI lim, nI nh, lN ck, st, pl, am, ar, ow, dp, ho, hs, ky, sy, ba) :=
  ⟨g0, g1, g2, g3, tc, oc, mc, lim, nh, ck, hd, kx, sx, ep, mo, mw, md, mh, nx, pv, st, pl, am, ar, ow, dp, ho, hs, ky, sy, ba, h, R, rfl, rfl⟩
end
theorem il_el {b : Nat} {u : SX} {v : SY} {P : SX → SY → Prop} (h : ∀ (g0 g1 g2 g3 : Int32) (tc oc mc lim nh ck : Nat) (hd kx sx ep mo mw md mh nx pv st pl am : Nat → Int32) (ar : Nat → Int64) (ow dp ho hs ky sy ba : Nat → Int32), ck ≤ b → (il_R tc oc mc lim nh ck hd kx sx ep mo mw md mh nx pv st pl am ar ow dp ho hs ky sy ba) → P (g0, g1, g2, g3, nI tc, nI oc, nI mc, nI lim, nI nh, hd, kx, sx, ep, mo, mw, md, mh, nx, pv, st, pl, am) (nI tc, nI oc, nI mc, nI lim, nI nh, lN ck, st, pl, am, ar, ow, dp, ho, hs, ky, sy, ba)) (I : il_Rel b u v) : P u v := by
  obtain ⟨g0, g1, g2, g3, tc, oc, mc, lim, nh, ck, hd, kx, sx, ep, mo, mw, md, mh, nx, pv, st, pl, am, ar, ow, dp, ho, hs, ky, sy, ba, h1, h2, rfl, rfl⟩ := I
  exact h g0 g1 g2 g3 tc oc mc lim nh ck hd kx sx ep mo mw md mh nx pv st pl am ar ow dp ho hs ky sy ba h1 h2
theorem il_Rel_up {b b' : Nat} {u : SX} {v : SY} (hb : b ≤ b') (I : il_Rel b u v) : il_Rel b' u v := by
  obtain ⟨g0, g1, g2, g3, tc, oc, mc, lim, nh, ck, hd, kx, sx, ep, mo, mw, md, mh, nx, pv, st, pl, am, ar, ow, dp, ho, hs, ky, sy, ba, h1, h2⟩ := I
  exact ⟨g0, g1, g2, g3, tc, oc, mc, lim, nh, ck, hd, kx, sx, ep, mo, mw, md, mh, nx, pv, st, pl, am, ar, ow, dp, ho, hs, ky, sy, ba, Nat.le_trans h1 hb, h2⟩
/-- an int against a bound -/
theorem il_ix (x : Int32) {n : Nat} (hn : n < 2 ^ 31) : (x < 0 ∨ (¬ x < 0 ∧ nI n ≤ x)) ∨ ∃ j : Nat, j < n ∧ x = nI j := by
  by_cases h : x < 0
  · exact Or.inl (Or.inl h)
  · obtain ⟨j, hj, rfl⟩ := nI_of h
    rcases Nat.lt_or_ge j n with h2 | h2
    · exact Or.inr ⟨j, h2, rfl⟩
    · exact Or.inl (Or.inr ⟨h, nI_le h2 hj⟩)
section
variable {g0 g1 g2 g3 : Int32} {tc oc mc lim nh : Nat} {hd kx sx ep mo mw md mh nx pv st pl am : Nat → Int32}
variable {ck : Nat} {ar : Nat → Int64} {ow dp ho hs ky sy ba : Nat → Int32}
theorem il_xNoT {post : Int32 → Prop} {x : Int32} (h : x < 0 ∨ (¬ x < 0 ∧ nI tc ≤ x)) (K : post 0) : wpX_isThread post (g0, g1, g2, g3, nI tc, nI oc, nI mc, nI lim, nI nh, hd, kx, sx, ep, mo, mw, md, mh, nx, pv, st, pl, am) x := by
  unfold wpX_isThread
  rcases h with h | ⟨h, h2⟩
  · exact br_t h K
  · exact br_f h (br_t h2 K)
theorem il_yNoT {post : Int32 → Prop} {x : Int32} (h : x < 0 ∨ (¬ x < 0 ∧ nI tc ≤ x)) (K : post 0) : wpY_isThread post (nI tc, nI oc, nI mc, nI lim, nI nh, lN ck, st, pl, am, ar, ow, dp, ho, hs, ky, sy, ba) x := by
  unfold wpY_isThread
  rcases h with h | ⟨h, h2⟩
  · exact br_t h K
  · exact br_f h (br_t h2 K)
theorem il_xNoO {post : Int32 → Prop} {x : Int32} (h : x < 0 ∨ (¬ x < 0 ∧ nI oc ≤ x)) (K : post 0) : wpX_isObject post (g0, g1, g2, g3, nI tc, nI oc, nI mc, nI lim, nI nh, hd, kx, sx, ep, mo, mw, md, mh, nx, pv, st, pl, am) x := by
  unfold wpX_isObject
  rcases h with h | ⟨h, h2⟩
  · exact br_t h K
  · exact br_f h (br_t h2 K)
theorem il_yNoO {post : Int32 → Prop} {x : Int32} (h : x < 0 ∨ (¬ x < 0 ∧ nI oc ≤ x)) (K : post 0) : wpY_isObject post (nI tc, nI oc, nI mc, nI lim, nI nh, lN ck, st, pl, am, ar, ow, dp, ho, hs, ky, sy, ba) x := by
  unfold wpY_isObject
  rcases h with h | ⟨h, h2⟩
  · exact br_t h K
  · exact br_f h (br_t h2 K)
end
end
section
/-! what is owed -/
def i_Rel (k : Nat) (u : SX) (v : SY) : Prop := il_Rel (16 * k) u v
theorem i_up {k : Nat} {u : SX} {v : SY} (h : i_Rel k u v) : i_Rel (k + 4) u v := il_Rel_up (by omega) h
theorem i_vc0 (k0 : Int32) (k1 : Int32) (k2 : Int32) (k3 : Int32) : wpX_init (fun u => wpY_init (fun v => i_Rel 4 u v) k0 k1 k2 k3) k0 k1 k2 k3 := by
  obtain ⟨tc, t1, t2, e0⟩ := il_clp_n k0 2 8 (by decide) (by decide)
  obtain ⟨oc, o1, o2, e1⟩ := il_clp_n k1 2 16 (by decide) (by decide)
  obtain ⟨mc, m1, m2, e2⟩ := il_clp_n k2 1 8 (by decide) (by decide)
  obtain ⟨lim, l1, l2, e3⟩ := il_clp_n k3 1 4 (by decide) (by decide)
  have R := il_R0 (tc := tc) (oc := oc) (mc := mc) (lim := lim) ⟨t1, t2, o1, o2, m1, m2, l1, l2, by decide⟩
  have e0' : il_clp k0 2 8 = nI tc := e0
  have e1' : il_clp k1 2 16 = nI oc := e1
  have e2' : il_clp k2 1 8 = nI mc := e2
  have e3' : il_clp k3 1 4 = nI lim := e3
  unfold wpX_init
  refine il_xClamp _ (il_xClamp _ (il_xClamp _ (il_xClamp _ ?_)))
  rw [e0', e1', e2', e3']
  refine il_x183 (nh := 7) o2 ?_
  unfold wpY_init
  refine il_yClamp _ (il_yClamp _ (il_yClamp _ (il_yClamp _ ?_)))
  rw [e0', e1', e2', e3']
  refine il_y152 (nh := 7) (ck := 0) ?_
  exact il_mk (by omega) R
theorem i_vc_ask {k : Nat} {u : SX} {v : SY} (I : i_Rel k u v) (hk : k + 4 ≤ 2052) (v1 : Int32) (v2 : Int32) (v3 : Int32) : wpX_ask (fun r u' => wpY_ask (fun r' v' => r' = r ∧ i_Rel (k + 4) u' v') v v1 v2 v3) u v1 v2 v3 := by
  refine il_el (P := fun u v => wpX_ask (fun r u' => wpY_ask (fun r' v' => r' = r ∧ i_Rel (k + 4) u' v') v v1 v2 v3) u v1 v2 v3) ?_ I
  intro g0 g1 g2 g3 tc oc mc lim nh ck hd kx sx ep mo mw md mh nx pv st pl am ar ow dp ho hs ky sy ba hb R
  have Rl : i_Rel (k + 4) (g0, g1, g2, g3, nI tc, nI oc, nI mc, nI lim, nI nh, hd, kx, sx, ep, mo, mw, md, mh, nx, pv, st, pl, am) (nI tc, nI oc, nI mc, nI lim, nI nh, lN ck, st, pl, am, ar, ow, dp, ho, hs, ky, sy, ba) := il_mk (by omega) R
  have d2 := R.1.2.1
  have d4 := R.1.2.2.2.1
  unfold wpX_ask wpY_ask
  rcases il_ix v1 (n := tc) (by omega) with b | ⟨t, ht, rfl⟩
  · exact il_xNoT b (br_t rfl (il_yNoT b (br_t rfl ⟨rfl, Rl⟩)))
  · have it : vp_in (nI t) 8 := vp_in_nI (by omega) (by decide)
    have ct : (nI t).toNatClampNeg = t := nI_clamp (by omega)
    refine il_xIsT d2 ht (br_f il_10 ?_)
    by_cases a : v2 < 1
    · exact br_t a (il_yIsT d2 ht (br_f il_10 (br_t a ⟨rfl, Rl⟩)))
    · refine br_f a ?_
      by_cases c : 6 < v2
      · exact br_t c (il_yIsT d2 ht (br_f il_10 (br_f a (br_t c ⟨rfl, Rl⟩))))
      · refine br_f c ?_
        rcases il_ix v3 (n := oc) (by omega) with b | ⟨o, h, rfl⟩
        · exact il_xNoO b (br_t rfl (il_yIsT d2 ht (br_f il_10 (br_f a (br_f c (il_yNoO b (br_t rfl ⟨rfl, Rl⟩)))))))
        · refine il_xIsO d4 h (br_f il_10 (And.intro it ?_))
          rw [ct]
          by_cases s0 : st t = 0
          · refine br_t s0 (il_xSetT (by omega) (il_yIsT d2 ht (br_f il_10 (br_f a (br_f c (il_yIsO d4 h (br_f il_10 (And.intro it ?_))))))))
            refine br_t s0 (And.intro it (fun x ex => And.intro it (fun y ey => And.intro it (fun w ew => ?_))))
            rw [ex, ey, ew]
            refine ⟨rfl, il_mk (by omega) ⟨R.1, R.2.1, il_H_set R.2.2 (fun q => (il_q01 q).1 s0) (fun q => (il_q01 q).2 rfl) (Or.inr ⟨⟨o, h, rfl⟩, Or.inl rfl⟩)⟩⟩
          · refine br_f s0 (il_yIsT d2 ht (br_f il_10 (br_f a (br_f c (il_yIsO d4 h (br_f il_10 (And.intro it ?_)))))))
            exact br_f s0 ⟨rfl, Rl⟩
theorem i_vc_step {k : Nat} {u : SX} {v : SY} (I : i_Rel k u v) (hk : k + 4 ≤ 2052) (v1 : Int32) : wpX_step (fun r u' => wpY_step (fun r' v' => r' = r ∧ i_Rel (k + 4) u' v') v v1) u v1 := by
  refine il_el (P := fun u v => wpX_step (fun r u' => wpY_step (fun r' v' => r' = r ∧ i_Rel (k + 4) u' v') v v1) u v1) ?_ I
  intro g0 g1 g2 g3 tc oc mc lim nh ck hd kx sx ep mo mw md mh nx pv st pl am ar ow dp ho hs ky sy ba hb R
  have Rl : i_Rel (k + 4) (g0, g1, g2, g3, nI tc, nI oc, nI mc, nI lim, nI nh, hd, kx, sx, ep, mo, mw, md, mh, nx, pv, st, pl, am) (nI tc, nI oc, nI mc, nI lim, nI nh, lN ck, st, pl, am, ar, ow, dp, ho, hs, ky, sy, ba) := il_mk (by omega) R
  rcases il_ix v1 (n := tc) (by have := R.1.2.1; omega) with b | ⟨t, ht, rfl⟩
  · unfold wpX_step wpY_step
    exact il_xNoT b (br_t rfl (il_yNoT b (br_t rfl ⟨rfl, Rl⟩)))
  · obtain ⟨r, nh', ck', hd', sx', mo', mw', md', mh', nx', pv', st', pl', am', ar', ow', dp', ho', hs', sy', h2, h3, h4, h5⟩ := il_step (g0 := g0) (g1 := g1) (g2 := g2) (g3 := g3) R (by omega) ht
    exact h4 _ (h5 _ ⟨rfl, il_mk (by omega) h3⟩)
theorem i_vc_round {k : Nat} {u : SX} {v : SY} (I : i_Rel k u v) (hk : k + 4 ≤ 2052) : wpX_round (fun r u' => wpY_round (fun r' v' => r' = r ∧ i_Rel (k + 4) u' v') v) u := by
  refine il_el (P := fun u v => wpX_round (fun r u' => wpY_round (fun r' v' => r' = r ∧ i_Rel (k + 4) u' v') v) u) ?_ I
  intro g0 g1 g2 g3 tc oc mc lim nh ck hd kx sx ep mo mw md mh nx pv st pl am ar ow dp ho hs ky sy ba hb R
  have d2 := R.1.2.1
  obtain ⟨r, nh', ck', hd', sx', mo', mw', md', mh', nx', pv', st', pl', am', ar', ow', dp', ho', hs', sy', h2, h3, h4, h5⟩ := il_round (g0 := g0) (g1 := g1) (g2 := g2) (g3 := g3) tc 0 0 nh ck hd sx mo mw md mh nx pv st pl am ar ow dp ho hs sy (by omega) (by omega) R
  unfold wpX_round wpY_round
  exact Exists.intro (tc + 1) (h4 _ (Exists.intro (tc + 1) (h5 _ ⟨rfl, il_mk (by omega) h3⟩ _ (by omega))) _ (by omega))
theorem i_vc_drop {k : Nat} {u : SX} {v : SY} (I : i_Rel k u v) (hk : k + 4 ≤ 2052) (v1 : Int32) : wpX_drop (fun r u' => wpY_drop (fun r' v' => r' = r ∧ i_Rel (k + 4) u' v') v v1) u v1 := by
  refine il_el (P := fun u v => wpX_drop (fun r u' => wpY_drop (fun r' v' => r' = r ∧ i_Rel (k + 4) u' v') v v1) u v1) ?_ I
  intro g0 g1 g2 g3 tc oc mc lim nh ck hd kx sx ep mo mw md mh nx pv st pl am ar ow dp ho hs ky sy ba hb R
  have Rl : i_Rel (k + 4) (g0, g1, g2, g3, nI tc, nI oc, nI mc, nI lim, nI nh, hd, kx, sx, ep, mo, mw, md, mh, nx, pv, st, pl, am) (nI tc, nI oc, nI mc, nI lim, nI nh, lN ck, st, pl, am, ar, ow, dp, ho, hs, ky, sy, ba) := il_mk (by omega) R
  have d2 := R.1.2.1
  unfold wpX_drop wpY_drop
  rcases il_ix v1 (n := tc) (by omega) with b | ⟨t, ht, rfl⟩
  · exact il_xNoT b (br_t rfl (il_yNoT b (br_t rfl ⟨rfl, Rl⟩)))
  · have it : vp_in (nI t) 8 := vp_in_nI (by omega) (by decide)
    have ct : (nI t).toNatClampNeg = t := nI_clamp (by omega)
    refine il_xIsT d2 ht (br_f il_10 (And.intro it ?_))
    rw [ct]
    by_cases s1 : st t = 1
    · refine br_t s1 (il_xSetT (by omega) (il_yIsT d2 ht (br_f il_10 (And.intro it ?_))))
      exact br_t s1 (il_yIdle (by omega) ⟨rfl, il_mk (by omega) ⟨R.1, R.2.1, il_H_set R.2.2 (il_nq1 s1) (fun q => (il_q01 q).1 rfl) (Or.inl ⟨rfl, rfl⟩)⟩⟩)
    · refine br_f s1 (il_yIsT d2 ht (br_f il_10 (And.intro it ?_)))
      exact br_f s1 ⟨rfl, Rl⟩
theorem i_vc_interrupt {k : Nat} {u : SX} {v : SY} (I : i_Rel k u v) (hk : k + 4 ≤ 2052) (v1 : Int32) : wpX_interrupt (fun r u' => wpY_interrupt (fun r' v' => r' = r ∧ i_Rel (k + 4) u' v') v v1) u v1 := by
  refine il_el (P := fun u v => wpX_interrupt (fun r u' => wpY_interrupt (fun r' v' => r' = r ∧ i_Rel (k + 4) u' v') v v1) u v1) ?_ I
  intro g0 g1 g2 g3 tc oc mc lim nh ck hd kx sx ep mo mw md mh nx pv st pl am ar ow dp ho hs ky sy ba hb R
  have Rl : i_Rel (k + 4) (g0, g1, g2, g3, nI tc, nI oc, nI mc, nI lim, nI nh, hd, kx, sx, ep, mo, mw, md, mh, nx, pv, st, pl, am) (nI tc, nI oc, nI mc, nI lim, nI nh, lN ck, st, pl, am, ar, ow, dp, ho, hs, ky, sy, ba) := il_mk (by omega) R
  have d2 := R.1.2.1
  unfold wpX_interrupt wpY_interrupt
  rcases il_ix v1 (n := tc) (by omega) with b | ⟨t, ht, rfl⟩
  · exact il_xNoT b (br_t rfl (il_yNoT b (br_t rfl ⟨rfl, Rl⟩)))
  · have it : vp_in (nI t) 8 := vp_in_nI (by omega) (by decide)
    have ct : (nI t).toNatClampNeg = t := nI_clamp (by omega)
    refine il_xIsT d2 ht (br_f il_10 (And.intro it ?_))
    rw [ct]
    by_cases s3 : st t = 3
    · obtain ⟨nx1, pv1, R1, wt⟩ := il_trans (g0 := g0) (g1 := g1) (g2 := g2) (g3 := g3) (s := 5) R (by omega) ht s3 (Or.inr rfl)
      refine br_t s3 (wt _ (il_yIsT d2 ht (br_f il_10 (And.intro it ?_))))
      refine br_t s3 (And.intro it (And.intro it (il_yLine (by omega) ?_)))
      rw [il_us, il_us]
      exact ⟨rfl, il_mk (by omega) R1⟩
    · refine br_f s3 (il_yIsT d2 ht (br_f il_10 (And.intro it ?_)))
      exact br_f s3 ⟨rfl, Rl⟩
theorem i_vc_safepoint {k : Nat} {u : SX} {v : SY} (I : i_Rel k u v) (hk : k + 4 ≤ 2052) : wpX_safepoint (fun r u' => wpY_safepoint (fun r' v' => r' = r ∧ i_Rel (k + 4) u' v') v) u := by
  refine il_el (P := fun u v => wpX_safepoint (fun r u' => wpY_safepoint (fun r' v' => r' = r ∧ i_Rel (k + 4) u' v') v) u) ?_ I
  intro g0 g1 g2 g3 tc oc mc lim nh ck hd kx sx ep mo mw md mh nx pv st pl am ar ow dp ho hs ky sy ba hb R
  obtain ⟨r, hd', sx', ep', ho', sy', ba', h3, h4, h5⟩ := il_safe (g0 := g0) (g1 := g1) (g2 := g2) (g3 := g3) 3 0 0 hd sx ep ho sy ba (by omega) R
  unfold wpX_safepoint wpY_safepoint
  exact Exists.intro 4 (h4 _ (Exists.intro 4 (h5 _ ⟨rfl, il_mk (by omega) h3⟩ _ (by omega))) _ (by omega))
theorem i_vc_fresh {k : Nat} {u : SX} {v : SY} (I : i_Rel k u v) (hk : k + 4 ≤ 2052) (v1 : Int32) (v2 : Int32) : wpX_fresh (fun r u' => wpY_fresh (fun r' v' => r' = r ∧ i_Rel (k + 4) u' v') v v1 v2) u v1 v2 := by
  refine il_el (P := fun u v => wpX_fresh (fun r u' => wpY_fresh (fun r' v' => r' = r ∧ i_Rel (k + 4) u' v') v v1 v2) u v1 v2) ?_ I
  intro g0 g1 g2 g3 tc oc mc lim nh ck hd kx sx ep mo mw md mh nx pv st pl am ar ow dp ho hs ky sy ba hb R
  have Rl : i_Rel (k + 4) (g0, g1, g2, g3, nI tc, nI oc, nI mc, nI lim, nI nh, hd, kx, sx, ep, mo, mw, md, mh, nx, pv, st, pl, am) (nI tc, nI oc, nI mc, nI lim, nI nh, lN ck, st, pl, am, ar, ow, dp, ho, hs, ky, sy, ba) := il_mk (by omega) R
  have d4 := R.1.2.2.2.1
  rcases il_ix v1 (n := oc) (by omega) with b | ⟨o, h, rfl⟩
  · unfold wpX_fresh wpY_fresh
    exact il_xNoO b (br_t rfl (il_yNoO b (br_t rfl ⟨rfl, Rl⟩)))
  · rcases il_ix v2 (n := 3) (by omega) with b | ⟨c, hc, rfl⟩
    · unfold wpX_fresh wpY_fresh
      refine il_xIsO d4 h (br_f il_10 ?_)
      rcases b with b | ⟨b, b2⟩
      · exact br_t b (il_yIsO d4 h (br_f il_10 (br_t b ⟨rfl, Rl⟩)))
      · have b3 : ¬ v2 < 3 := Int32.not_lt.mpr b2
        exact br_f b (br_f b3 (il_yIsO d4 h (br_f il_10 (br_f b (br_f b3 ⟨rfl, Rl⟩)))))
    · obtain ⟨r, hd', kx', mo', ho', hs', ky', h3, h4, h5⟩ := il_fresh (g0 := g0) (g1 := g1) (g2 := g2) (g3 := g3) R h hc
      exact h4 _ (h5 _ ⟨rfl, il_mk (by omega) h3⟩)
theorem i_vc_owner {k : Nat} {u : SX} {v : SY} (I : i_Rel k u v) (hk : k + 4 ≤ 2052) (v1 : Int32) : wpX_owner (fun r => wpY_owner (fun r' => r' = r ∧ i_Rel (k + 4) u v) v v1) u v1 := by
  refine il_el (P := fun u v => wpX_owner (fun r => wpY_owner (fun r' => r' = r ∧ i_Rel (k + 4) u v) v v1) u v1) ?_ I
  intro g0 g1 g2 g3 tc oc mc lim nh ck hd kx sx ep mo mw md mh nx pv st pl am ar ow dp ho hs ky sy ba hb R
  have Rl : i_Rel (k + 4) (g0, g1, g2, g3, nI tc, nI oc, nI mc, nI lim, nI nh, hd, kx, sx, ep, mo, mw, md, mh, nx, pv, st, pl, am) (nI tc, nI oc, nI mc, nI lim, nI nh, lN ck, st, pl, am, ar, ow, dp, ho, hs, ky, sy, ba) := il_mk (by omega) R
  have d2 := R.1.2.1
  have d4 := R.1.2.2.2.1
  have d6 := R.1.2.2.2.2.2.1
  unfold wpX_owner wpY_owner
  rcases il_ix v1 (n := oc) (by omega) with b | ⟨o, h, rfl⟩
  · exact il_xNoO b (br_t rfl (il_yNoO b (br_t rfl ⟨rfl, Rl⟩)))
  · have io : vp_in (nI o) 16 := vp_in_nI (by omega) (by decide)
    have co : (nI o).toNatClampNeg = o := nI_clamp (by omega)
    have S := R.2.1.1 o h
    obtain ⟨c, hc, ek, eky⟩ := R.2.1.2.1 o h
    refine il_xIsO d4 h (br_f il_10 (il_xOwner (by omega) d2 d6 S (il_yIsO d4 h (br_f il_10 (And.intro io ?_)))))
    rw [co]
    exact ⟨rfl, Rl⟩
theorem i_vc_depth {k : Nat} {u : SX} {v : SY} (I : i_Rel k u v) (hk : k + 4 ≤ 2052) (v1 : Int32) : wpX_depth (fun r => wpY_depth (fun r' => r' = r ∧ i_Rel (k + 4) u v) v v1) u v1 := by
  refine il_el (P := fun u v => wpX_depth (fun r => wpY_depth (fun r' => r' = r ∧ i_Rel (k + 4) u v) v v1) u v1) ?_ I
  intro g0 g1 g2 g3 tc oc mc lim nh ck hd kx sx ep mo mw md mh nx pv st pl am ar ow dp ho hs ky sy ba hb R
  have Rl : i_Rel (k + 4) (g0, g1, g2, g3, nI tc, nI oc, nI mc, nI lim, nI nh, hd, kx, sx, ep, mo, mw, md, mh, nx, pv, st, pl, am) (nI tc, nI oc, nI mc, nI lim, nI nh, lN ck, st, pl, am, ar, ow, dp, ho, hs, ky, sy, ba) := il_mk (by omega) R
  have d2 := R.1.2.1
  have d4 := R.1.2.2.2.1
  have d6 := R.1.2.2.2.2.2.1
  unfold wpX_depth wpY_depth
  rcases il_ix v1 (n := oc) (by omega) with b | ⟨o, h, rfl⟩
  · exact il_xNoO b (br_t rfl (il_yNoO b (br_t rfl ⟨rfl, Rl⟩)))
  · have io : vp_in (nI o) 16 := vp_in_nI (by omega) (by decide)
    have co : (nI o).toNatClampNeg = o := nI_clamp (by omega)
    have S := R.2.1.1 o h
    obtain ⟨c, hc, ek, eky⟩ := R.2.1.2.1 o h
    refine il_xIsO d4 h (br_f il_10 (il_xDepth (by omega) d2 d6 S (il_yIsO d4 h (br_f il_10 (And.intro io ?_)))))
    rw [co]
    exact ⟨rfl, Rl⟩
theorem i_vc_home {k : Nat} {u : SX} {v : SY} (I : i_Rel k u v) (hk : k + 4 ≤ 2052) (v1 : Int32) : wpX_home (fun r => wpY_home (fun r' => r' = r ∧ i_Rel (k + 4) u v) v v1) u v1 := by
  refine il_el (P := fun u v => wpX_home (fun r => wpY_home (fun r' => r' = r ∧ i_Rel (k + 4) u v) v v1) u v1) ?_ I
  intro g0 g1 g2 g3 tc oc mc lim nh ck hd kx sx ep mo mw md mh nx pv st pl am ar ow dp ho hs ky sy ba hb R
  have Rl : i_Rel (k + 4) (g0, g1, g2, g3, nI tc, nI oc, nI mc, nI lim, nI nh, hd, kx, sx, ep, mo, mw, md, mh, nx, pv, st, pl, am) (nI tc, nI oc, nI mc, nI lim, nI nh, lN ck, st, pl, am, ar, ow, dp, ho, hs, ky, sy, ba) := il_mk (by omega) R
  have d2 := R.1.2.1
  have d4 := R.1.2.2.2.1
  have d6 := R.1.2.2.2.2.2.1
  unfold wpX_home wpY_home
  rcases il_ix v1 (n := oc) (by omega) with b | ⟨o, h, rfl⟩
  · exact il_xNoO b (br_t rfl (il_yNoO b (br_t rfl ⟨rfl, Rl⟩)))
  · have io : vp_in (nI o) 16 := vp_in_nI (by omega) (by decide)
    have co : (nI o).toNatClampNeg = o := nI_clamp (by omega)
    have S := R.2.1.1 o h
    obtain ⟨c, hc, ek, eky⟩ := R.2.1.2.1 o h
    refine il_xIsO d4 h (br_f il_10 (il_xHome (by omega) d2 d6 hc ek S (il_yIsO d4 h (br_f il_10 (And.intro io ?_)))))
    rw [co]
    exact ⟨rfl, Rl⟩
theorem i_vc_hash {k : Nat} {u : SX} {v : SY} (I : i_Rel k u v) (hk : k + 4 ≤ 2052) (v1 : Int32) : wpX_hash (fun r => wpY_hash (fun r' => r' = r ∧ i_Rel (k + 4) u v) v v1) u v1 := by
  refine il_el (P := fun u v => wpX_hash (fun r => wpY_hash (fun r' => r' = r ∧ i_Rel (k + 4) u v) v v1) u v1) ?_ I
  intro g0 g1 g2 g3 tc oc mc lim nh ck hd kx sx ep mo mw md mh nx pv st pl am ar ow dp ho hs ky sy ba hb R
  have Rl : i_Rel (k + 4) (g0, g1, g2, g3, nI tc, nI oc, nI mc, nI lim, nI nh, hd, kx, sx, ep, mo, mw, md, mh, nx, pv, st, pl, am) (nI tc, nI oc, nI mc, nI lim, nI nh, lN ck, st, pl, am, ar, ow, dp, ho, hs, ky, sy, ba) := il_mk (by omega) R
  have d2 := R.1.2.1
  have d4 := R.1.2.2.2.1
  have d6 := R.1.2.2.2.2.2.1
  unfold wpX_hash wpY_hash
  rcases il_ix v1 (n := oc) (by omega) with b | ⟨o, h, rfl⟩
  · exact il_xNoO b (br_t rfl (il_yNoO b (br_t rfl ⟨rfl, Rl⟩)))
  · have io : vp_in (nI o) 16 := vp_in_nI (by omega) (by decide)
    have co : (nI o).toNatClampNeg = o := nI_clamp (by omega)
    have S := R.2.1.1 o h
    obtain ⟨c, hc, ek, eky⟩ := R.2.1.2.1 o h
    refine il_xIsO d4 h (br_f il_10 (il_xHash (by omega) d2 d6 S (il_yIsO d4 h (br_f il_10 (And.intro io ?_)))))
    rw [co]
    exact ⟨rfl, Rl⟩
theorem i_vc_kind {k : Nat} {u : SX} {v : SY} (I : i_Rel k u v) (hk : k + 4 ≤ 2052) (v1 : Int32) : wpX_kind (fun r => wpY_kind (fun r' => r' = r ∧ i_Rel (k + 4) u v) v v1) u v1 := by
  refine il_el (P := fun u v => wpX_kind (fun r => wpY_kind (fun r' => r' = r ∧ i_Rel (k + 4) u v) v v1) u v1) ?_ I
  intro g0 g1 g2 g3 tc oc mc lim nh ck hd kx sx ep mo mw md mh nx pv st pl am ar ow dp ho hs ky sy ba hb R
  have Rl : i_Rel (k + 4) (g0, g1, g2, g3, nI tc, nI oc, nI mc, nI lim, nI nh, hd, kx, sx, ep, mo, mw, md, mh, nx, pv, st, pl, am) (nI tc, nI oc, nI mc, nI lim, nI nh, lN ck, st, pl, am, ar, ow, dp, ho, hs, ky, sy, ba) := il_mk (by omega) R
  have d4 := R.1.2.2.2.1
  unfold wpX_kind wpY_kind
  rcases il_ix v1 (n := oc) (by omega) with b | ⟨o, h, rfl⟩
  · exact il_xNoO b (br_t rfl (il_yNoO b (br_t rfl ⟨rfl, Rl⟩)))
  · have io : vp_in (nI o) 16 := vp_in_nI (by omega) (by decide)
    have co : (nI o).toNatClampNeg = o := nI_clamp (by omega)
    obtain ⟨c, hc, ek, eky⟩ := R.2.1.2.1 o h
    refine il_xIsO d4 h (br_f il_10 (And.intro io (il_yIsO d4 h (br_f il_10 (And.intro io ?_)))))
    rw [co]
    exact ⟨eky.trans ek.symm, Rl⟩
theorem i_vc_strain {k : Nat} {u : SX} {v : SY} (I : i_Rel k u v) (hk : k + 4 ≤ 2052) (v1 : Int32) : wpX_strain (fun r => wpY_strain (fun r' => r' = r ∧ i_Rel (k + 4) u v) v v1) u v1 := by
  refine il_el (P := fun u v => wpX_strain (fun r => wpY_strain (fun r' => r' = r ∧ i_Rel (k + 4) u v) v v1) u v1) ?_ I
  intro g0 g1 g2 g3 tc oc mc lim nh ck hd kx sx ep mo mw md mh nx pv st pl am ar ow dp ho hs ky sy ba hb R
  have Rl : i_Rel (k + 4) (g0, g1, g2, g3, nI tc, nI oc, nI mc, nI lim, nI nh, hd, kx, sx, ep, mo, mw, md, mh, nx, pv, st, pl, am) (nI tc, nI oc, nI mc, nI lim, nI nh, lN ck, st, pl, am, ar, ow, dp, ho, hs, ky, sy, ba) := il_mk (by omega) R
  unfold wpX_strain wpY_strain
  rcases il_ix v1 (n := 3) (by omega) with b | ⟨c, hc, rfl⟩
  · rcases b with b | ⟨b, b2⟩
    · exact br_t b (br_t b ⟨rfl, Rl⟩)
    · exact br_f b (br_t b2 (br_f b (br_f (Int32.not_lt.mpr b2) ⟨rfl, Rl⟩)))
  · have ic : vp_in (nI c) 3 := vp_in_nI hc (by decide)
    have cc : (nI c).toNatClampNeg = c := nI_clamp (by omega)
    have n0 : ¬ nI c < 0 := nI_pos (by omega)
    have n3 : nI c < 3 := nI_lt (b := 3) hc (by decide)
    obtain ⟨s, e, x1, x2, x3, x4, x5⟩ := R.2.1.2.2.1 c hc
    refine br_f n0 (br_f (nI_ge (b := 3) hc (by decide)) (And.intro ic (br_f n0 (br_t n3 (And.intro ic ?_)))))
    rw [cc]
    rcases x5 with ⟨x5, x6⟩ | ⟨x5, x6, x7⟩
    · exact br_t x5 (And.intro ic ⟨x3.trans x6.symm, Rl⟩)
    · exact br_f (by rw [x5]; exact il_10) ⟨x6.symm, Rl⟩
theorem i_vc_state {k : Nat} {u : SX} {v : SY} (I : i_Rel k u v) (hk : k + 4 ≤ 2052) (v1 : Int32) : wpX_state (fun r => wpY_state (fun r' => r' = r ∧ i_Rel (k + 4) u v) v v1) u v1 := by
  refine il_el (P := fun u v => wpX_state (fun r => wpY_state (fun r' => r' = r ∧ i_Rel (k + 4) u v) v v1) u v1) ?_ I
  intro g0 g1 g2 g3 tc oc mc lim nh ck hd kx sx ep mo mw md mh nx pv st pl am ar ow dp ho hs ky sy ba hb R
  have Rl : i_Rel (k + 4) (g0, g1, g2, g3, nI tc, nI oc, nI mc, nI lim, nI nh, hd, kx, sx, ep, mo, mw, md, mh, nx, pv, st, pl, am) (nI tc, nI oc, nI mc, nI lim, nI nh, lN ck, st, pl, am, ar, ow, dp, ho, hs, ky, sy, ba) := il_mk (by omega) R
  have d2 := R.1.2.1
  unfold wpX_state wpY_state
  rcases il_ix v1 (n := tc) (by omega) with b | ⟨t, ht, rfl⟩
  · exact il_xNoT b (br_t rfl (il_yNoT b (br_t rfl ⟨rfl, Rl⟩)))
  · have it : vp_in (nI t) 8 := vp_in_nI (by omega) (by decide)
    exact il_xIsT d2 ht (br_f il_10 (And.intro it (il_yIsT d2 ht (br_f il_10 (And.intro it ⟨rfl, Rl⟩)))))
theorem i_vc_about {k : Nat} {u : SX} {v : SY} (I : i_Rel k u v) (hk : k + 4 ≤ 2052) (v1 : Int32) (v2 : Int32) : wpX_about (fun r => wpY_about (fun r' => r' = r ∧ i_Rel (k + 4) u v) v v1 v2) u v1 v2 := by
  refine il_el (P := fun u v => wpX_about (fun r => wpY_about (fun r' => r' = r ∧ i_Rel (k + 4) u v) v v1 v2) u v1 v2) ?_ I
  intro g0 g1 g2 g3 tc oc mc lim nh ck hd kx sx ep mo mw md mh nx pv st pl am ar ow dp ho hs ky sy ba hb R
  have Rl : i_Rel (k + 4) (g0, g1, g2, g3, nI tc, nI oc, nI mc, nI lim, nI nh, hd, kx, sx, ep, mo, mw, md, mh, nx, pv, st, pl, am) (nI tc, nI oc, nI mc, nI lim, nI nh, lN ck, st, pl, am, ar, ow, dp, ho, hs, ky, sy, ba) := il_mk (by omega) R
  have d2 := R.1.2.1
  have d6 := R.1.2.2.2.2.2.1
  unfold wpX_about wpY_about
  rcases il_ix v1 (n := tc) (by omega) with b | ⟨t, ht, rfl⟩
  · exact il_xNoT b (br_t rfl (il_yNoT b (br_t rfl ⟨rfl, Rl⟩)))
  · have it : vp_in (nI t) 8 := vp_in_nI (by omega) (by decide)
    have ct : (nI t).toNatClampNeg = t := nI_clamp (by omega)
    refine il_xIsT d2 ht (br_f il_10 ?_)
    by_cases a : v2 < 0
    · exact br_t a (il_yIsT d2 ht (br_f il_10 (br_t a ⟨rfl, Rl⟩)))
    · refine br_f a ?_
      by_cases c : v2 ≤ 2
      · refine br_t c ?_
        by_cases p0 : v2 = 0
        · exact br_t p0 (And.intro it (il_yIsT d2 ht (br_f il_10 (br_f a (br_t c (br_t p0 (And.intro it ⟨rfl, Rl⟩)))))))
        · refine br_f p0 ?_
          by_cases p1 : v2 = 1
          · exact br_t p1 (And.intro it (il_yIsT d2 ht (br_f il_10 (br_f a (br_t c (br_f p0 (br_t p1 (And.intro it ⟨rfl, Rl⟩))))))))
          · refine br_f p1 (And.intro it ?_)
            rw [ct]
            by_cases s0 : st t = 0
            · refine br_t s0 (il_yIsT d2 ht (br_f il_10 (br_f a (br_t c (br_f p0 (br_f p1 (And.intro it ?_)))))))
              exact br_t s0 ⟨rfl, Rl⟩
            · refine br_f s0 (And.intro it ?_)
              by_cases s1 : st t = 1
              · refine br_t s1 (il_yIsT d2 ht (br_f il_10 (br_f a (br_t c (br_f p0 (br_f p1 (And.intro it ?_)))))))
                exact br_f s0 (And.intro it (br_t s1 ⟨rfl, Rl⟩))
              · refine br_f s1 (il_xAhead d2 d6 R.2.2 ht (il_T_q (R.2.2.1 t ht) s0 s1) (il_yIsT d2 ht (br_f il_10 (br_f a (br_t c (br_f p0 (br_f p1 (And.intro it ?_))))))))
                exact br_f s0 (And.intro it (br_f s1 (il_yBefore d2 (by omega) ⟨rfl, Rl⟩)))
      · exact br_f c (il_yIsT d2 ht (br_f il_10 (br_f a (br_f c ⟨rfl, Rl⟩))))
theorem i_vc_total {k : Nat} {u : SX} {v : SY} (I : i_Rel k u v) (hk : k + 4 ≤ 2052) (v1 : Int32) : wpX_total (fun r => wpY_total (fun r' => r' = r ∧ i_Rel (k + 4) u v) v v1) u v1 := by
  refine il_el (P := fun u v => wpX_total (fun r => wpY_total (fun r' => r' = r ∧ i_Rel (k + 4) u v) v v1) u v1) ?_ I
  intro g0 g1 g2 g3 tc oc mc lim nh ck hd kx sx ep mo mw md mh nx pv st pl am ar ow dp ho hs ky sy ba hb R
  have Rl : i_Rel (k + 4) (g0, g1, g2, g3, nI tc, nI oc, nI mc, nI lim, nI nh, hd, kx, sx, ep, mo, mw, md, mh, nx, pv, st, pl, am) (nI tc, nI oc, nI mc, nI lim, nI nh, lN ck, st, pl, am, ar, ow, dp, ho, hs, ky, sy, ba) := il_mk (by omega) R
  have d2 := R.1.2.1
  have d4 := R.1.2.2.2.1
  have ce := il_cnt_eq R
  unfold wpX_total wpY_total
  by_cases a : v1 = 0
  · refine br_t a (il_xUsed R (br_t a (il_yCount d2 d4 ?_)))
    rw [ce]
    exact ⟨rfl, Rl⟩
  · refine br_f a ?_
    by_cases b : v1 = 1
    · exact br_t b (br_f a (br_t b ⟨rfl, Rl⟩))
    · exact br_f b (br_f a (br_f b ⟨rfl, Rl⟩))
end
