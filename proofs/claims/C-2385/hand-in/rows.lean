section
/-! pure rows to paste: stores, nI and lN arithmetic, masks, shifts, narrowing, branches by naturals (pk_le, pk_lt, pk_eq), loops (lp1 .. lp16: the measure of the state; rp1 ..: recursion), negatives. Take what you need -/
theorem pk_us {f : Nat → Int32} {k : Nat} {x : Int32} : upd f k x k = x := if_pos rfl
theorem pk_un {f : Nat → Int32} {k j : Nat} {x : Int32} (h : j ≠ k) : upd f k x j = f j := if_neg h
theorem pk_uLs {f : Nat → Int64} {k : Nat} {x : Int64} : vp_updL f k x k = x := if_pos rfl
theorem pk_uLn {f : Nat → Int64} {k j : Nat} {x : Int64} (h : j ≠ k) : vp_updL f k x j = f j := if_neg h
theorem pk_sub {a b : Nat} (h : b ≤ a) : nI a - nI b = nI (a - b) := by
  obtain ⟨c, rfl⟩ : ∃ c, a = c + b := ⟨a - b, by omega⟩
  rw [← nI_add, Int32.add_sub_cancel, Nat.add_sub_cancel]
theorem pk_m1 (n : Nat) : nI (n + 1) + (-1) = nI n := by
  rw [← nI_1, Int32.add_assoc, show (1 : Int32) + (-1) = 0 from rfl, Int32.add_zero]
theorem pk_mul (a b : Nat) : nI a * nI b = nI (a * b) := (Int32.ofNat_mul a b).symm
theorem pk_div {a d : Nat} (ha : a < 2 ^ 31) (h0 : 0 < d) (hd : d < 2 ^ 31) : nI a / nI d = nI (a / d) := by
  apply Int32.toInt_inj.mp
  rw [lg_idiv_nonneg (by rw [nI_toInt ha]; omega) (by rw [nI_toInt hd]; omega), nI_toInt ha, nI_toInt hd, nI_toInt (Nat.lt_of_le_of_lt (Nat.div_le_self a d) ha)]
  first | rfl | exact (Int.natCast_ediv _ _).symm
theorem pk_rem {a d : Nat} (ha : a < 2 ^ 31) (h0 : 0 < d) (hd : d < 2 ^ 31) : nI a - nI a / nI d * nI d = nI (a % d) := by
  rw [pk_div ha h0 hd, pk_mul, pk_sub (Nat.div_mul_le_self a d)]
  exact congrArg nI (by have := Nat.div_add_mod' a d; omega)
theorem pk_sub_toInt {a b : Nat} (ha : a < 2 ^ 30) (hb : b < 2 ^ 30) : (nI a - nI b).toInt = (a : Int) - b := by
  rw [Int32.toInt_sub, nI_toInt (by omega), nI_toInt (by omega)]
  exact Int.bmod_eq_of_le (by omega) (by omega)
theorem pk_sneg {a b : Nat} (hb : b < 2 ^ 30) (h : a < b) : nI a - nI b < 0 := by
  rw [Int32.lt_iff_toInt_lt, pk_sub_toInt (by omega) hb, show (0 : Int32).toInt = 0 from by decide]
  omega
theorem pk_ix (x : Int32) {n : Nat} (hn : n < 2 ^ 31) : x < 0 ∨ nI n ≤ x ∨ ∃ j : Nat, j < n ∧ x = nI j := by
  by_cases h : x < 0
  · exact Or.inl h
  · obtain ⟨j, hj, rfl⟩ := nI_of h
    by_cases h2 : j < n
    · exact Or.inr (Or.inr ⟨j, h2, rfl⟩)
    · exact Or.inr (Or.inl (nI_le (by omega) hj))
theorem pk_le {x y : Int32} {A B : Prop} (a b : Nat) (f : a ≤ b → A) (g : b < a → B) (hx : x = nI a := by rfl) (hy : y = nI b := by rfl) (ha : a < 2 ^ 31 := by omega) (hb : b < 2 ^ 31 := by omega) : (x ≤ y → A) ∧ (¬ x ≤ y → B) := by
  subst hx hy
  rw [nI_leI ha hb]
  exact ⟨f, fun z => g (by omega)⟩
theorem pk_lt {x y : Int32} {A B : Prop} (a b : Nat) (f : a < b → A) (g : b ≤ a → B) (hx : x = nI a := by rfl) (hy : y = nI b := by rfl) (ha : a < 2 ^ 31 := by omega) (hb : b < 2 ^ 31 := by omega) : (x < y → A) ∧ (¬ x < y → B) := by
  subst hx hy
  rw [nI_ltI ha hb]
  exact ⟨f, fun z => g (by omega)⟩
theorem pk_eq {x y : Int32} {A B : Prop} (a b : Nat) (f : a = b → A) (g : a ≠ b → B) (hx : x = nI a := by rfl) (hy : y = nI b := by rfl) (ha : a < 2 ^ 31 := by omega) (hb : b < 2 ^ 31 := by omega) : (x = y → A) ∧ (¬ x = y → B) := by
  subst hx hy
  rw [nI_eq ha hb]
  exact ⟨f, g⟩
theorem pk_in {x : Int32} (n N : Nat) (h : n < N) (hx : x = nI n := by rfl) (hN : N < 2 ^ 31 := by omega) : vp_in x N := by
  subst hx
  exact vp_in_nI h hN
theorem pk_cl {x : Int32} (n : Nat) (hx : x = nI n := by rfl) (h : n < 2 ^ 31 := by omega) : x.toNatClampNeg = n := by
  subst hx
  exact nI_clamp h
theorem pk_tn {n : Nat} (h : n < 2 ^ 32) : (nI n).toBitVec.toNat = n := Nat.mod_eq_of_lt h
theorem pk_and (x : Int32) {m : Int32} (k : Nat) (hm : m.toBitVec.toNat = 2 ^ k - 1) : x &&& m = nI (x.toBitVec.toNat % 2 ^ k) := by
  apply Int32.toBitVec_inj.mp
  apply BitVec.eq_of_toNat_eq
  rw [Int32.toBitVec_and, BitVec.toNat_and, hm, Nat.and_two_pow_sub_one_eq_mod]
  show _ = (BitVec.ofNat 32 _).toNat
  rw [BitVec.toNat_ofNat]
  exact (Nat.mod_eq_of_lt (Nat.lt_of_le_of_lt (Nat.mod_le _ _) x.toBitVec.isLt)).symm
theorem pk_andN {n : Nat} (h : n < 2 ^ 32) {m : Int32} (k : Nat) (hm : m.toBitVec.toNat = 2 ^ k - 1) : nI n &&& m = nI (n % 2 ^ k) := by
  rw [pk_and _ k hm, pk_tn h]
theorem pk_andE (x : Int32) {m : Int32} (k : Nat) (hm : m.toBitVec.toNat = 2 ^ k - 1) : ∃ j : Nat, j < 2 ^ k ∧ x &&& m = nI j := ⟨_, Nat.mod_lt _ (Nat.two_pow_pos k), pk_and x k hm⟩
theorem pk_andIn (x : Int32) {m : Int32} (k : Nat) (hm : m.toBitVec.toNat = 2 ^ k - 1) (hk : k ≤ 30) : vp_in (x &&& m) (2 ^ k) := by
  obtain ⟨j, hj, e⟩ := pk_andE x k hm
  rw [e]
  exact vp_in_nI hj (Nat.lt_of_le_of_lt (Nat.pow_le_pow_right (by decide) hk) (by decide))
theorem pk_shl (a s : Int32) (k : Nat) (hs : (s.toBitVec.smod 32).toNat = k) : (a <<< s).toBitVec.toNat = a.toBitVec.toNat * 2 ^ k % 2 ^ 32 := by
  show (a.toBitVec <<< (s.toBitVec.smod 32).toNat).toNat = _
  rw [hs, BitVec.toNat_shiftLeft, Nat.shiftLeft_eq]
theorem pk_shlN {n : Nat} (s : Int32) (k : Nat) (hs : (s.toBitVec.smod 32).toNat = k) (h : n * 2 ^ k < 2 ^ 32) : nI n <<< s = nI (n * 2 ^ k) := by
  apply Int32.toBitVec_inj.mp
  apply BitVec.eq_of_toNat_eq
  have hn : n < 2 ^ 32 := Nat.lt_of_le_of_lt (Nat.le_mul_of_pos_right n (Nat.two_pow_pos k)) h
  rw [pk_shl _ _ k hs, pk_tn hn, pk_tn h, Nat.mod_eq_of_lt h]
theorem pk_shr (a s : Int32) (k : Nat) (hs : (s.toBitVec.smod 32).toNat = k) : (a >>> s).toInt = a.toInt >>> k := by
  show (a.toBitVec.sshiftRight (s.toBitVec.smod 32).toNat).toInt = _
  rw [hs, BitVec.toInt_sshiftRight]
  rfl
theorem pk_shrN {n : Nat} (h : n < 2 ^ 31) (s : Int32) (k : Nat) (hs : (s.toBitVec.smod 32).toNat = k) : nI n >>> s = nI (n / 2 ^ k) := by
  apply Int32.toInt_inj.mp
  have h2 : n / 2 ^ k ≤ n := Nat.div_le_self _ _
  rw [pk_shr _ _ k hs, nI_toInt h, nI_toInt (by omega), Int.shiftRight_eq_div_pow]
  rfl
theorem pk_ushr (x s : Int32) (k : Nat) (hs : ((s.toUInt32 &&& Int32.toUInt32 31).toBitVec % 32).toNat = k) : (x.toUInt32 >>> (s.toUInt32 &&& Int32.toUInt32 31)).toInt32.toBitVec.toNat = x.toBitVec.toNat / 2 ^ k := by
  have e : (x.toUInt32 >>> (s.toUInt32 &&& Int32.toUInt32 31)).toInt32.toBitVec = x.toBitVec >>> k := by
    rw [← hs]
    exact UInt32.toBitVec_shiftRight _ _
  rw [e, BitVec.toNat_ushiftRight, Nat.shiftRight_eq_div_pow]
theorem pk_ushrN {n : Nat} (hn : n < 2 ^ 32) (s : Int32) (k : Nat) (hs : ((s.toUInt32 &&& Int32.toUInt32 31).toBitVec % 32).toNat = k) : ((nI n).toUInt32 >>> (s.toUInt32 &&& Int32.toUInt32 31)).toInt32 = nI (n / 2 ^ k) := by
  apply Int32.toBitVec_inj.mp
  apply BitVec.eq_of_toNat_eq
  rw [pk_ushr _ s k hs, pk_tn hn, pk_tn (Nat.lt_of_le_of_lt (Nat.div_le_self _ _) hn)]
theorem pk_nb (z : Int32) : narrow .byte (.int z.toInt8.toInt32) = .int z.toInt8.toInt32 := congrArg Value.int (by simp)
theorem pk_ns (z : Int32) : narrow .short (.int z.toInt16.toInt32) = .int z.toInt16.toInt32 := congrArg Value.int (by simp)
theorem pk_fb (r : Int32) : fits .byte (.int r.toInt8.toInt32) = true := by
  have ⟨a, b⟩ := lg_i2b_range r
  have h1 : (-128 : Int32).toInt = -128 := by decide
  have h2 : (127 : Int32).toInt = 127 := by decide
  simp only [fits, Bool.and_eq_true, decide_eq_true_eq, Int32.le_iff_toInt_le, h1, h2]
  omega
theorem pk_fs (r : Int32) : fits .short (.int r.toInt16.toInt32) = true := by
  have ⟨a, b⟩ := lg_i2s_range r
  have h1 : (-32768 : Int32).toInt = -32768 := by decide
  have h2 : (32767 : Int32).toInt = 32767 := by decide
  simp only [fits, Bool.and_eq_true, decide_eq_true_eq, Int32.le_iff_toInt_le, h1, h2]
  omega
theorem pk_charN {q : Nat} (hq : q < 65536) : narrow .char (.int (nI q)) = .int (nI q) ∧ fits .char (.int (nI q)) = true := by
  constructor
  · have e : (nI q).toUInt32.toUInt16.toUInt32.toInt32 = nI q := by
      apply Int32.toBitVec_inj.mp
      apply BitVec.eq_of_toNat_eq
      show (nI q).toUInt32.toUInt16.toUInt32.toNat = q % 2 ^ 32
      rw [UInt16.toNat_toUInt32, UInt32.toNat_toUInt16, show (nI q).toUInt32.toNat = q % 2 ^ 32 from rfl]
      omega
    exact congrArg Value.int e
  · have a : (0 : Int32) ≤ nI q := nI_pos' (by omega)
    have b : nI q ≤ 65535 := nI_le (b := 65535) (by omega) (by decide)
    show (decide ((0 : Int32) ≤ nI q) && decide (nI q ≤ 65535)) = true
    rw [decide_eq_true a, decide_eq_true b]
    rfl
theorem pk_char (x : Int32) : (x.toUInt32 % 65536).toInt32 = nI (x.toBitVec.toNat % 65536) := by
  apply Int32.toBitVec_inj.mp
  apply BitVec.eq_of_toNat_eq
  rw [pk_tn (by omega)]
  show (x.toUInt32 % 65536).toNat = _
  rw [UInt32.toNat_mod]
  rfl
theorem pk_nc (x : Int32) : narrow .char (.int (x.toUInt32 % 65536).toInt32) = .int (x.toUInt32 % 65536).toInt32 := by
  rw [pk_char]
  exact (pk_charN (Nat.mod_lt _ (by decide))).1
theorem pk_fc (x : Int32) : fits .char (.int (x.toUInt32 % 65536).toInt32) = true := by
  rw [pk_char]
  exact (pk_charN (Nat.mod_lt _ (by decide))).2
theorem pk_vb (z : Int32) : vp_nar .byte z.toInt8.toInt32 = z.toInt8.toInt32 := by rw [vp_nar_byte]; simp
theorem pk_vs (z : Int32) : vp_nar .short z.toInt16.toInt32 = z.toInt16.toInt32 := by rw [vp_nar_short]; simp
theorem pk_vc (z : Int32) : vp_nar .char (z.toUInt32 % 65536).toInt32 = (z.toUInt32 % 65536).toInt32 := Value.int.inj (pk_nc z)
theorem pk_lT {n : Nat} (h : n < 2 ^ 63) : (lN n).toInt = (n : Int) := lg_ofNat_toInt h
theorem pk_lLT {a b : Nat} (ha : a < 2 ^ 63) (hb : b < 2 ^ 63) : lN a < lN b ↔ a < b := by
  rw [Int64.lt_iff_toInt_lt, pk_lT ha, pk_lT hb]; omega
theorem pk_lLE {a b : Nat} (ha : a < 2 ^ 63) (hb : b < 2 ^ 63) : lN a ≤ lN b ↔ a ≤ b := by
  rw [Int64.le_iff_toInt_le, pk_lT ha, pk_lT hb]; omega
theorem pk_lEQ {a b : Nat} (ha : a < 2 ^ 63) (hb : b < 2 ^ 63) : lN a = lN b ↔ a = b := by
  rw [← Int64.toInt_inj, pk_lT ha, pk_lT hb]; omega
theorem pk_lOf {x : Int64} (h : ¬ x < 0) : ∃ k : Nat, k < 2 ^ 63 ∧ x = lN k := by
  rw [Int64.lt_iff_toInt_lt] at h
  have h0 : (0 : Int64).toInt = 0 := by decide
  have hx := Int64.toInt_lt x
  refine ⟨x.toInt.toNat, by omega, Int64.toInt_inj.mp ?_⟩
  rw [pk_lT (by omega)]
  omega
theorem pk_lDiv {a b : Nat} (ha : a < 2 ^ 63) (h0 : 0 < b) (hb : b < 2 ^ 63) : lN a / lN b = lN (a / b) := by
  apply Int64.toInt_inj.mp
  rw [lg_ldiv_nonneg (by rw [pk_lT ha]; omega) (by rw [pk_lT hb]; omega), pk_lT ha, pk_lT hb, pk_lT (Nat.lt_of_le_of_lt (Nat.div_le_self a b) ha)]
  rfl
theorem pk_lRem {a b : Nat} (ha : a < 2 ^ 63) (h0 : 0 < b) (hb : b < 2 ^ 63) : lN a - lN a / lN b * lN b = lN (a % b) := by
  rw [pk_lDiv ha h0 hb, lN_mul, lN_sub (Nat.div_mul_le_self a b)]
  exact congrArg lN (by have := Nat.div_add_mod' a b; omega)
theorem pk_loop {σ : Type} (W : Nat → Nat → σ → Prop) (I : Nat → σ → Prop) (e i0 : Nat) (s : σ) (hi : i0 ≤ e) (h0 : I i0 s) (hx : ∀ n s, I e s → W (n + 1) e s)
    (hs : ∀ n i s, i < e → I i s → (∀ s', I (i + 1) s' → W n (i + 1) s') → W (n + 1) i s) : ∃ n, W n i0 s :=
  ⟨e + 1, loop_i W I e hx hs (e + 1) i0 s hi (by omega) h0⟩
theorem pk_loopD {σ : Type} (W : Nat → Nat → σ → Prop) (I : Nat → σ → Prop) (hx : ∀ n s, I 0 s → W (n + 1) 0 s)
    (hs : ∀ n i s, I (i + 1) s → (∀ s', I i s' → W n i s') → W (n + 1) (i + 1) s) : ∀ (e : Nat) (s : σ), I e s → W (e + 1) e s := by
  intro e
  induction e with
  | zero => exact fun s h => hx 0 s h
  | succ e ih => exact fun s h => hs (e + 1) e s h (fun s' h' => ih s' h')
theorem lp1 {A1 : Type} (W : Nat → A1 → Prop) (I : A1 → Prop) (μ : A1 → Nat) (hs : ∀ (n : Nat) (a1 : A1), I a1 → (∀ (b1 : A1), I b1 → μ b1 < μ a1 → W n b1) → W (n + 1) a1) (a1 : A1) (h : I a1) : ∃ n, W n a1 :=
  loop_m (σ := A1) (fun n s => W n s) (fun s => I s) (fun s => μ s) (fun n s hI hk => hs n s hI (fun b1 h9 hm => hk b1 h9 hm)) a1 h
theorem lp2 {A1 A2 : Type} (W : Nat → A1 → A2 → Prop) (I : A1 → A2 → Prop) (μ : A1 → A2 → Nat) (hs : ∀ (n : Nat) (a1 : A1) (a2 : A2), I a1 a2 → (∀ (b1 : A1) (b2 : A2), I b1 b2 → μ b1 b2 < μ a1 a2 → W n b1 b2) → W (n + 1) a1 a2) (a1 : A1) (a2 : A2) (h : I a1 a2) : ∃ n, W n a1 a2 :=
  loop_m (σ := A1 × A2) (fun n s => W n s.1 s.2) (fun s => I s.1 s.2) (fun s => μ s.1 s.2) (fun n s hI hk => hs n s.1 s.2 hI (fun b1 b2 h9 hm => hk (b1, b2) h9 hm)) (a1, a2) h
theorem lp3 {A1 A2 A3 : Type} (W : Nat → A1 → A2 → A3 → Prop) (I : A1 → A2 → A3 → Prop) (μ : A1 → A2 → A3 → Nat) (hs : ∀ (n : Nat) (a1 : A1) (a2 : A2) (a3 : A3), I a1 a2 a3 → (∀ (b1 : A1) (b2 : A2) (b3 : A3), I b1 b2 b3 → μ b1 b2 b3 < μ a1 a2 a3 → W n b1 b2 b3) → W (n + 1) a1 a2 a3) (a1 : A1) (a2 : A2) (a3 : A3) (h : I a1 a2 a3) : ∃ n, W n a1 a2 a3 :=
  loop_m (σ := A1 × A2 × A3) (fun n s => W n s.1 s.2.1 s.2.2) (fun s => I s.1 s.2.1 s.2.2) (fun s => μ s.1 s.2.1 s.2.2) (fun n s hI hk => hs n s.1 s.2.1 s.2.2 hI (fun b1 b2 b3 h9 hm => hk (b1, b2, b3) h9 hm)) (a1, a2, a3) h
theorem lp4 {A1 A2 A3 A4 : Type} (W : Nat → A1 → A2 → A3 → A4 → Prop) (I : A1 → A2 → A3 → A4 → Prop) (μ : A1 → A2 → A3 → A4 → Nat) (hs : ∀ (n : Nat) (a1 : A1) (a2 : A2) (a3 : A3) (a4 : A4), I a1 a2 a3 a4 → (∀ (b1 : A1) (b2 : A2) (b3 : A3) (b4 : A4), I b1 b2 b3 b4 → μ b1 b2 b3 b4 < μ a1 a2 a3 a4 → W n b1 b2 b3 b4) → W (n + 1) a1 a2 a3 a4) (a1 : A1) (a2 : A2) (a3 : A3) (a4 : A4) (h : I a1 a2 a3 a4) : ∃ n, W n a1 a2 a3 a4 :=
  loop_m (σ := A1 × A2 × A3 × A4) (fun n s => W n s.1 s.2.1 s.2.2.1 s.2.2.2) (fun s => I s.1 s.2.1 s.2.2.1 s.2.2.2) (fun s => μ s.1 s.2.1 s.2.2.1 s.2.2.2) (fun n s hI hk => hs n s.1 s.2.1 s.2.2.1 s.2.2.2 hI (fun b1 b2 b3 b4 h9 hm => hk (b1, b2, b3, b4) h9 hm)) (a1, a2, a3, a4) h
theorem lp5 {A1 A2 A3 A4 A5 : Type} (W : Nat → A1 → A2 → A3 → A4 → A5 → Prop) (I : A1 → A2 → A3 → A4 → A5 → Prop) (μ : A1 → A2 → A3 → A4 → A5 → Nat) (hs : ∀ (n : Nat) (a1 : A1) (a2 : A2) (a3 : A3) (a4 : A4) (a5 : A5), I a1 a2 a3 a4 a5 → (∀ (b1 : A1) (b2 : A2) (b3 : A3) (b4 : A4) (b5 : A5), I b1 b2 b3 b4 b5 → μ b1 b2 b3 b4 b5 < μ a1 a2 a3 a4 a5 → W n b1 b2 b3 b4 b5) → W (n + 1) a1 a2 a3 a4 a5) (a1 : A1) (a2 : A2) (a3 : A3) (a4 : A4) (a5 : A5) (h : I a1 a2 a3 a4 a5) : ∃ n, W n a1 a2 a3 a4 a5 :=
  loop_m (σ := A1 × A2 × A3 × A4 × A5) (fun n s => W n s.1 s.2.1 s.2.2.1 s.2.2.2.1 s.2.2.2.2) (fun s => I s.1 s.2.1 s.2.2.1 s.2.2.2.1 s.2.2.2.2) (fun s => μ s.1 s.2.1 s.2.2.1 s.2.2.2.1 s.2.2.2.2) (fun n s hI hk => hs n s.1 s.2.1 s.2.2.1 s.2.2.2.1 s.2.2.2.2 hI (fun b1 b2 b3 b4 b5 h9 hm => hk (b1, b2, b3, b4, b5) h9 hm)) (a1, a2, a3, a4, a5) h
theorem lp6 {A1 A2 A3 A4 A5 A6 : Type} (W : Nat → A1 → A2 → A3 → A4 → A5 → A6 → Prop) (I : A1 → A2 → A3 → A4 → A5 → A6 → Prop) (μ : A1 → A2 → A3 → A4 → A5 → A6 → Nat) (hs : ∀ (n : Nat) (a1 : A1) (a2 : A2) (a3 : A3) (a4 : A4) (a5 : A5) (a6 : A6), I a1 a2 a3 a4 a5 a6 → (∀ (b1 : A1) (b2 : A2) (b3 : A3) (b4 : A4) (b5 : A5) (b6 : A6), I b1 b2 b3 b4 b5 b6 → μ b1 b2 b3 b4 b5 b6 < μ a1 a2 a3 a4 a5 a6 → W n b1 b2 b3 b4 b5 b6) → W (n + 1) a1 a2 a3 a4 a5 a6) (a1 : A1) (a2 : A2) (a3 : A3) (a4 : A4) (a5 : A5) (a6 : A6) (h : I a1 a2 a3 a4 a5 a6) : ∃ n, W n a1 a2 a3 a4 a5 a6 :=
  loop_m (σ := A1 × A2 × A3 × A4 × A5 × A6) (fun n s => W n s.1 s.2.1 s.2.2.1 s.2.2.2.1 s.2.2.2.2.1 s.2.2.2.2.2) (fun s => I s.1 s.2.1 s.2.2.1 s.2.2.2.1 s.2.2.2.2.1 s.2.2.2.2.2) (fun s => μ s.1 s.2.1 s.2.2.1 s.2.2.2.1 s.2.2.2.2.1 s.2.2.2.2.2) (fun n s hI hk => hs n s.1 s.2.1 s.2.2.1 s.2.2.2.1 s.2.2.2.2.1 s.2.2.2.2.2 hI (fun b1 b2 b3 b4 b5 b6 h9 hm => hk (b1, b2, b3, b4, b5, b6) h9 hm)) (a1, a2, a3, a4, a5, a6) h
theorem lp7 {A1 A2 A3 A4 A5 A6 A7 : Type} (W : Nat → A1 → A2 → A3 → A4 → A5 → A6 → A7 → Prop) (I : A1 → A2 → A3 → A4 → A5 → A6 → A7 → Prop) (μ : A1 → A2 → A3 → A4 → A5 → A6 → A7 → Nat) (hs : ∀ (n : Nat) (a1 : A1) (a2 : A2) (a3 : A3) (a4 : A4) (a5 : A5) (a6 : A6) (a7 : A7), I a1 a2 a3 a4 a5 a6 a7 → (∀ (b1 : A1) (b2 : A2) (b3 : A3) (b4 : A4) (b5 : A5) (b6 : A6) (b7 : A7), I b1 b2 b3 b4 b5 b6 b7 → μ b1 b2 b3 b4 b5 b6 b7 < μ a1 a2 a3 a4 a5 a6 a7 → W n b1 b2 b3 b4 b5 b6 b7) → W (n + 1) a1 a2 a3 a4 a5 a6 a7) (a1 : A1) (a2 : A2) (a3 : A3) (a4 : A4) (a5 : A5) (a6 : A6) (a7 : A7) (h : I a1 a2 a3 a4 a5 a6 a7) : ∃ n, W n a1 a2 a3 a4 a5 a6 a7 :=
  loop_m (σ := A1 × A2 × A3 × A4 × A5 × A6 × A7) (fun n s => W n s.1 s.2.1 s.2.2.1 s.2.2.2.1 s.2.2.2.2.1 s.2.2.2.2.2.1 s.2.2.2.2.2.2) (fun s => I s.1 s.2.1 s.2.2.1 s.2.2.2.1 s.2.2.2.2.1 s.2.2.2.2.2.1 s.2.2.2.2.2.2) (fun s => μ s.1 s.2.1 s.2.2.1 s.2.2.2.1 s.2.2.2.2.1 s.2.2.2.2.2.1 s.2.2.2.2.2.2) (fun n s hI hk => hs n s.1 s.2.1 s.2.2.1 s.2.2.2.1 s.2.2.2.2.1 s.2.2.2.2.2.1 s.2.2.2.2.2.2 hI (fun b1 b2 b3 b4 b5 b6 b7 h9 hm => hk (b1, b2, b3, b4, b5, b6, b7) h9 hm)) (a1, a2, a3, a4, a5, a6, a7) h
theorem lp8 {A1 A2 A3 A4 A5 A6 A7 A8 : Type} (W : Nat → A1 → A2 → A3 → A4 → A5 → A6 → A7 → A8 → Prop) (I : A1 → A2 → A3 → A4 → A5 → A6 → A7 → A8 → Prop) (μ : A1 → A2 → A3 → A4 → A5 → A6 → A7 → A8 → Nat) (hs : ∀ (n : Nat) (a1 : A1) (a2 : A2) (a3 : A3) (a4 : A4) (a5 : A5) (a6 : A6) (a7 : A7) (a8 : A8), I a1 a2 a3 a4 a5 a6 a7 a8 → (∀ (b1 : A1) (b2 : A2) (b3 : A3) (b4 : A4) (b5 : A5) (b6 : A6) (b7 : A7) (b8 : A8), I b1 b2 b3 b4 b5 b6 b7 b8 → μ b1 b2 b3 b4 b5 b6 b7 b8 < μ a1 a2 a3 a4 a5 a6 a7 a8 → W n b1 b2 b3 b4 b5 b6 b7 b8) → W (n + 1) a1 a2 a3 a4 a5 a6 a7 a8) (a1 : A1) (a2 : A2) (a3 : A3) (a4 : A4) (a5 : A5) (a6 : A6) (a7 : A7) (a8 : A8) (h : I a1 a2 a3 a4 a5 a6 a7 a8) : ∃ n, W n a1 a2 a3 a4 a5 a6 a7 a8 :=
  loop_m (σ := A1 × A2 × A3 × A4 × A5 × A6 × A7 × A8) (fun n s => W n s.1 s.2.1 s.2.2.1 s.2.2.2.1 s.2.2.2.2.1 s.2.2.2.2.2.1 s.2.2.2.2.2.2.1 s.2.2.2.2.2.2.2) (fun s => I s.1 s.2.1 s.2.2.1 s.2.2.2.1 s.2.2.2.2.1 s.2.2.2.2.2.1 s.2.2.2.2.2.2.1 s.2.2.2.2.2.2.2) (fun s => μ s.1 s.2.1 s.2.2.1 s.2.2.2.1 s.2.2.2.2.1 s.2.2.2.2.2.1 s.2.2.2.2.2.2.1 s.2.2.2.2.2.2.2) (fun n s hI hk => hs n s.1 s.2.1 s.2.2.1 s.2.2.2.1 s.2.2.2.2.1 s.2.2.2.2.2.1 s.2.2.2.2.2.2.1 s.2.2.2.2.2.2.2 hI (fun b1 b2 b3 b4 b5 b6 b7 b8 h9 hm => hk (b1, b2, b3, b4, b5, b6, b7, b8) h9 hm)) (a1, a2, a3, a4, a5, a6, a7, a8) h
theorem lp9 {A1 A2 A3 A4 A5 A6 A7 A8 A9 : Type} (W : Nat → A1 → A2 → A3 → A4 → A5 → A6 → A7 → A8 → A9 → Prop) (I : A1 → A2 → A3 → A4 → A5 → A6 → A7 → A8 → A9 → Prop) (μ : A1 → A2 → A3 → A4 → A5 → A6 → A7 → A8 → A9 → Nat) (hs : ∀ (n : Nat) (a1 : A1) (a2 : A2) (a3 : A3) (a4 : A4) (a5 : A5) (a6 : A6) (a7 : A7) (a8 : A8) (a9 : A9), I a1 a2 a3 a4 a5 a6 a7 a8 a9 → (∀ (b1 : A1) (b2 : A2) (b3 : A3) (b4 : A4) (b5 : A5) (b6 : A6) (b7 : A7) (b8 : A8) (b9 : A9), I b1 b2 b3 b4 b5 b6 b7 b8 b9 → μ b1 b2 b3 b4 b5 b6 b7 b8 b9 < μ a1 a2 a3 a4 a5 a6 a7 a8 a9 → W n b1 b2 b3 b4 b5 b6 b7 b8 b9) → W (n + 1) a1 a2 a3 a4 a5 a6 a7 a8 a9) (a1 : A1) (a2 : A2) (a3 : A3) (a4 : A4) (a5 : A5) (a6 : A6) (a7 : A7) (a8 : A8) (a9 : A9) (h : I a1 a2 a3 a4 a5 a6 a7 a8 a9) : ∃ n, W n a1 a2 a3 a4 a5 a6 a7 a8 a9 :=
  loop_m (σ := A1 × A2 × A3 × A4 × A5 × A6 × A7 × A8 × A9) (fun n s => W n s.1 s.2.1 s.2.2.1 s.2.2.2.1 s.2.2.2.2.1 s.2.2.2.2.2.1 s.2.2.2.2.2.2.1 s.2.2.2.2.2.2.2.1 s.2.2.2.2.2.2.2.2) (fun s => I s.1 s.2.1 s.2.2.1 s.2.2.2.1 s.2.2.2.2.1 s.2.2.2.2.2.1 s.2.2.2.2.2.2.1 s.2.2.2.2.2.2.2.1 s.2.2.2.2.2.2.2.2) (fun s => μ s.1 s.2.1 s.2.2.1 s.2.2.2.1 s.2.2.2.2.1 s.2.2.2.2.2.1 s.2.2.2.2.2.2.1 s.2.2.2.2.2.2.2.1 s.2.2.2.2.2.2.2.2) (fun n s hI hk => hs n s.1 s.2.1 s.2.2.1 s.2.2.2.1 s.2.2.2.2.1 s.2.2.2.2.2.1 s.2.2.2.2.2.2.1 s.2.2.2.2.2.2.2.1 s.2.2.2.2.2.2.2.2 hI (fun b1 b2 b3 b4 b5 b6 b7 b8 b9 h9 hm => hk (b1, b2, b3, b4, b5, b6, b7, b8, b9) h9 hm)) (a1, a2, a3, a4, a5, a6, a7, a8, a9) h
theorem lp10 {A1 A2 A3 A4 A5 A6 A7 A8 A9 A10 : Type} (W : Nat → A1 → A2 → A3 → A4 → A5 → A6 → A7 → A8 → A9 → A10 → Prop) (I : A1 → A2 → A3 → A4 → A5 → A6 → A7 → A8 → A9 → A10 → Prop) (μ : A1 → A2 → A3 → A4 → A5 → A6 → A7 → A8 → A9 → A10 → Nat) (hs : ∀ (n : Nat) (a1 : A1) (a2 : A2) (a3 : A3) (a4 : A4) (a5 : A5) (a6 : A6) (a7 : A7) (a8 : A8) (a9 : A9) (a10 : A10), I a1 a2 a3 a4 a5 a6 a7 a8 a9 a10 → (∀ (b1 : A1) (b2 : A2) (b3 : A3) (b4 : A4) (b5 : A5) (b6 : A6) (b7 : A7) (b8 : A8) (b9 : A9) (b10 : A10), I b1 b2 b3 b4 b5 b6 b7 b8 b9 b10 → μ b1 b2 b3 b4 b5 b6 b7 b8 b9 b10 < μ a1 a2 a3 a4 a5 a6 a7 a8 a9 a10 → W n b1 b2 b3 b4 b5 b6 b7 b8 b9 b10) → W (n + 1) a1 a2 a3 a4 a5 a6 a7 a8 a9 a10) (a1 : A1) (a2 : A2) (a3 : A3) (a4 : A4) (a5 : A5) (a6 : A6) (a7 : A7) (a8 : A8) (a9 : A9) (a10 : A10) (h : I a1 a2 a3 a4 a5 a6 a7 a8 a9 a10) : ∃ n, W n a1 a2 a3 a4 a5 a6 a7 a8 a9 a10 :=
  loop_m (σ := A1 × A2 × A3 × A4 × A5 × A6 × A7 × A8 × A9 × A10) (fun n s => W n s.1 s.2.1 s.2.2.1 s.2.2.2.1 s.2.2.2.2.1 s.2.2.2.2.2.1 s.2.2.2.2.2.2.1 s.2.2.2.2.2.2.2.1 s.2.2.2.2.2.2.2.2.1 s.2.2.2.2.2.2.2.2.2) (fun s => I s.1 s.2.1 s.2.2.1 s.2.2.2.1 s.2.2.2.2.1 s.2.2.2.2.2.1 s.2.2.2.2.2.2.1 s.2.2.2.2.2.2.2.1 s.2.2.2.2.2.2.2.2.1 s.2.2.2.2.2.2.2.2.2) (fun s => μ s.1 s.2.1 s.2.2.1 s.2.2.2.1 s.2.2.2.2.1 s.2.2.2.2.2.1 s.2.2.2.2.2.2.1 s.2.2.2.2.2.2.2.1 s.2.2.2.2.2.2.2.2.1 s.2.2.2.2.2.2.2.2.2) (fun n s hI hk => hs n s.1 s.2.1 s.2.2.1 s.2.2.2.1 s.2.2.2.2.1 s.2.2.2.2.2.1 s.2.2.2.2.2.2.1 s.2.2.2.2.2.2.2.1 s.2.2.2.2.2.2.2.2.1 s.2.2.2.2.2.2.2.2.2 hI (fun b1 b2 b3 b4 b5 b6 b7 b8 b9 b10 h9 hm => hk (b1, b2, b3, b4, b5, b6, b7, b8, b9, b10) h9 hm)) (a1, a2, a3, a4, a5, a6, a7, a8, a9, a10) h
theorem lp11 {A1 A2 A3 A4 A5 A6 A7 A8 A9 A10 A11 : Type} (W : Nat → A1 → A2 → A3 → A4 → A5 → A6 → A7 → A8 → A9 → A10 → A11 → Prop) (I : A1 → A2 → A3 → A4 → A5 → A6 → A7 → A8 → A9 → A10 → A11 → Prop) (μ : A1 → A2 → A3 → A4 → A5 → A6 → A7 → A8 → A9 → A10 → A11 → Nat) (hs : ∀ (n : Nat) (a1 : A1) (a2 : A2) (a3 : A3) (a4 : A4) (a5 : A5) (a6 : A6) (a7 : A7) (a8 : A8) (a9 : A9) (a10 : A10) (a11 : A11), I a1 a2 a3 a4 a5 a6 a7 a8 a9 a10 a11 → (∀ (b1 : A1) (b2 : A2) (b3 : A3) (b4 : A4) (b5 : A5) (b6 : A6) (b7 : A7) (b8 : A8) (b9 : A9) (b10 : A10) (b11 : A11), I b1 b2 b3 b4 b5 b6 b7 b8 b9 b10 b11 → μ b1 b2 b3 b4 b5 b6 b7 b8 b9 b10 b11 < μ a1 a2 a3 a4 a5 a6 a7 a8 a9 a10 a11 → W n b1 b2 b3 b4 b5 b6 b7 b8 b9 b10 b11) → W (n + 1) a1 a2 a3 a4 a5 a6 a7 a8 a9 a10 a11) (a1 : A1) (a2 : A2) (a3 : A3) (a4 : A4) (a5 : A5) (a6 : A6) (a7 : A7) (a8 : A8) (a9 : A9) (a10 : A10) (a11 : A11) (h : I a1 a2 a3 a4 a5 a6 a7 a8 a9 a10 a11) : ∃ n, W n a1 a2 a3 a4 a5 a6 a7 a8 a9 a10 a11 :=
  loop_m (σ := A1 × A2 × A3 × A4 × A5 × A6 × A7 × A8 × A9 × A10 × A11) (fun n s => W n s.1 s.2.1 s.2.2.1 s.2.2.2.1 s.2.2.2.2.1 s.2.2.2.2.2.1 s.2.2.2.2.2.2.1 s.2.2.2.2.2.2.2.1 s.2.2.2.2.2.2.2.2.1 s.2.2.2.2.2.2.2.2.2.1 s.2.2.2.2.2.2.2.2.2.2) (fun s => I s.1 s.2.1 s.2.2.1 s.2.2.2.1 s.2.2.2.2.1 s.2.2.2.2.2.1 s.2.2.2.2.2.2.1 s.2.2.2.2.2.2.2.1 s.2.2.2.2.2.2.2.2.1 s.2.2.2.2.2.2.2.2.2.1 s.2.2.2.2.2.2.2.2.2.2) (fun s => μ s.1 s.2.1 s.2.2.1 s.2.2.2.1 s.2.2.2.2.1 s.2.2.2.2.2.1 s.2.2.2.2.2.2.1 s.2.2.2.2.2.2.2.1 s.2.2.2.2.2.2.2.2.1 s.2.2.2.2.2.2.2.2.2.1 s.2.2.2.2.2.2.2.2.2.2) (fun n s hI hk => hs n s.1 s.2.1 s.2.2.1 s.2.2.2.1 s.2.2.2.2.1 s.2.2.2.2.2.1 s.2.2.2.2.2.2.1 s.2.2.2.2.2.2.2.1 s.2.2.2.2.2.2.2.2.1 s.2.2.2.2.2.2.2.2.2.1 s.2.2.2.2.2.2.2.2.2.2 hI (fun b1 b2 b3 b4 b5 b6 b7 b8 b9 b10 b11 h9 hm => hk (b1, b2, b3, b4, b5, b6, b7, b8, b9, b10, b11) h9 hm)) (a1, a2, a3, a4, a5, a6, a7, a8, a9, a10, a11) h
theorem lp12 {A1 A2 A3 A4 A5 A6 A7 A8 A9 A10 A11 A12 : Type} (W : Nat → A1 → A2 → A3 → A4 → A5 → A6 → A7 → A8 → A9 → A10 → A11 → A12 → Prop) (I : A1 → A2 → A3 → A4 → A5 → A6 → A7 → A8 → A9 → A10 → A11 → A12 → Prop) (μ : A1 → A2 → A3 → A4 → A5 → A6 → A7 → A8 → A9 → A10 → A11 → A12 → Nat) (hs : ∀ (n : Nat) (a1 : A1) (a2 : A2) (a3 : A3) (a4 : A4) (a5 : A5) (a6 : A6) (a7 : A7) (a8 : A8) (a9 : A9) (a10 : A10) (a11 : A11) (a12 : A12), I a1 a2 a3 a4 a5 a6 a7 a8 a9 a10 a11 a12 → (∀ (b1 : A1) (b2 : A2) (b3 : A3) (b4 : A4) (b5 : A5) (b6 : A6) (b7 : A7) (b8 : A8) (b9 : A9) (b10 : A10) (b11 : A11) (b12 : A12), I b1 b2 b3 b4 b5 b6 b7 b8 b9 b10 b11 b12 → μ b1 b2 b3 b4 b5 b6 b7 b8 b9 b10 b11 b12 < μ a1 a2 a3 a4 a5 a6 a7 a8 a9 a10 a11 a12 → W n b1 b2 b3 b4 b5 b6 b7 b8 b9 b10 b11 b12) → W (n + 1) a1 a2 a3 a4 a5 a6 a7 a8 a9 a10 a11 a12) (a1 : A1) (a2 : A2) (a3 : A3) (a4 : A4) (a5 : A5) (a6 : A6) (a7 : A7) (a8 : A8) (a9 : A9) (a10 : A10) (a11 : A11) (a12 : A12) (h : I a1 a2 a3 a4 a5 a6 a7 a8 a9 a10 a11 a12) : ∃ n, W n a1 a2 a3 a4 a5 a6 a7 a8 a9 a10 a11 a12 :=
  loop_m (σ := A1 × A2 × A3 × A4 × A5 × A6 × A7 × A8 × A9 × A10 × A11 × A12) (fun n s => W n s.1 s.2.1 s.2.2.1 s.2.2.2.1 s.2.2.2.2.1 s.2.2.2.2.2.1 s.2.2.2.2.2.2.1 s.2.2.2.2.2.2.2.1 s.2.2.2.2.2.2.2.2.1 s.2.2.2.2.2.2.2.2.2.1 s.2.2.2.2.2.2.2.2.2.2.1 s.2.2.2.2.2.2.2.2.2.2.2) (fun s => I s.1 s.2.1 s.2.2.1 s.2.2.2.1 s.2.2.2.2.1 s.2.2.2.2.2.1 s.2.2.2.2.2.2.1 s.2.2.2.2.2.2.2.1 s.2.2.2.2.2.2.2.2.1 s.2.2.2.2.2.2.2.2.2.1 s.2.2.2.2.2.2.2.2.2.2.1 s.2.2.2.2.2.2.2.2.2.2.2) (fun s => μ s.1 s.2.1 s.2.2.1 s.2.2.2.1 s.2.2.2.2.1 s.2.2.2.2.2.1 s.2.2.2.2.2.2.1 s.2.2.2.2.2.2.2.1 s.2.2.2.2.2.2.2.2.1 s.2.2.2.2.2.2.2.2.2.1 s.2.2.2.2.2.2.2.2.2.2.1 s.2.2.2.2.2.2.2.2.2.2.2) (fun n s hI hk => hs n s.1 s.2.1 s.2.2.1 s.2.2.2.1 s.2.2.2.2.1 s.2.2.2.2.2.1 s.2.2.2.2.2.2.1 s.2.2.2.2.2.2.2.1 s.2.2.2.2.2.2.2.2.1 s.2.2.2.2.2.2.2.2.2.1 s.2.2.2.2.2.2.2.2.2.2.1 s.2.2.2.2.2.2.2.2.2.2.2 hI (fun b1 b2 b3 b4 b5 b6 b7 b8 b9 b10 b11 b12 h9 hm => hk (b1, b2, b3, b4, b5, b6, b7, b8, b9, b10, b11, b12) h9 hm)) (a1, a2, a3, a4, a5, a6, a7, a8, a9, a10, a11, a12) h
theorem lp13 {A1 A2 A3 A4 A5 A6 A7 A8 A9 A10 A11 A12 A13 : Type} (W : Nat → A1 → A2 → A3 → A4 → A5 → A6 → A7 → A8 → A9 → A10 → A11 → A12 → A13 → Prop) (I : A1 → A2 → A3 → A4 → A5 → A6 → A7 → A8 → A9 → A10 → A11 → A12 → A13 → Prop) (μ : A1 → A2 → A3 → A4 → A5 → A6 → A7 → A8 → A9 → A10 → A11 → A12 → A13 → Nat) (hs : ∀ (n : Nat) (a1 : A1) (a2 : A2) (a3 : A3) (a4 : A4) (a5 : A5) (a6 : A6) (a7 : A7) (a8 : A8) (a9 : A9) (a10 : A10) (a11 : A11) (a12 : A12) (a13 : A13), I a1 a2 a3 a4 a5 a6 a7 a8 a9 a10 a11 a12 a13 → (∀ (b1 : A1) (b2 : A2) (b3 : A3) (b4 : A4) (b5 : A5) (b6 : A6) (b7 : A7) (b8 : A8) (b9 : A9) (b10 : A10) (b11 : A11) (b12 : A12) (b13 : A13), I b1 b2 b3 b4 b5 b6 b7 b8 b9 b10 b11 b12 b13 → μ b1 b2 b3 b4 b5 b6 b7 b8 b9 b10 b11 b12 b13 < μ a1 a2 a3 a4 a5 a6 a7 a8 a9 a10 a11 a12 a13 → W n b1 b2 b3 b4 b5 b6 b7 b8 b9 b10 b11 b12 b13) → W (n + 1) a1 a2 a3 a4 a5 a6 a7 a8 a9 a10 a11 a12 a13) (a1 : A1) (a2 : A2) (a3 : A3) (a4 : A4) (a5 : A5) (a6 : A6) (a7 : A7) (a8 : A8) (a9 : A9) (a10 : A10) (a11 : A11) (a12 : A12) (a13 : A13) (h : I a1 a2 a3 a4 a5 a6 a7 a8 a9 a10 a11 a12 a13) : ∃ n, W n a1 a2 a3 a4 a5 a6 a7 a8 a9 a10 a11 a12 a13 :=
  loop_m (σ := A1 × A2 × A3 × A4 × A5 × A6 × A7 × A8 × A9 × A10 × A11 × A12 × A13) (fun n s => W n s.1 s.2.1 s.2.2.1 s.2.2.2.1 s.2.2.2.2.1 s.2.2.2.2.2.1 s.2.2.2.2.2.2.1 s.2.2.2.2.2.2.2.1 s.2.2.2.2.2.2.2.2.1 s.2.2.2.2.2.2.2.2.2.1 s.2.2.2.2.2.2.2.2.2.2.1 s.2.2.2.2.2.2.2.2.2.2.2.1 s.2.2.2.2.2.2.2.2.2.2.2.2) (fun s => I s.1 s.2.1 s.2.2.1 s.2.2.2.1 s.2.2.2.2.1 s.2.2.2.2.2.1 s.2.2.2.2.2.2.1 s.2.2.2.2.2.2.2.1 s.2.2.2.2.2.2.2.2.1 s.2.2.2.2.2.2.2.2.2.1 s.2.2.2.2.2.2.2.2.2.2.1 s.2.2.2.2.2.2.2.2.2.2.2.1 s.2.2.2.2.2.2.2.2.2.2.2.2) (fun s => μ s.1 s.2.1 s.2.2.1 s.2.2.2.1 s.2.2.2.2.1 s.2.2.2.2.2.1 s.2.2.2.2.2.2.1 s.2.2.2.2.2.2.2.1 s.2.2.2.2.2.2.2.2.1 s.2.2.2.2.2.2.2.2.2.1 s.2.2.2.2.2.2.2.2.2.2.1 s.2.2.2.2.2.2.2.2.2.2.2.1 s.2.2.2.2.2.2.2.2.2.2.2.2) (fun n s hI hk => hs n s.1 s.2.1 s.2.2.1 s.2.2.2.1 s.2.2.2.2.1 s.2.2.2.2.2.1 s.2.2.2.2.2.2.1 s.2.2.2.2.2.2.2.1 s.2.2.2.2.2.2.2.2.1 s.2.2.2.2.2.2.2.2.2.1 s.2.2.2.2.2.2.2.2.2.2.1 s.2.2.2.2.2.2.2.2.2.2.2.1 s.2.2.2.2.2.2.2.2.2.2.2.2 hI (fun b1 b2 b3 b4 b5 b6 b7 b8 b9 b10 b11 b12 b13 h9 hm => hk (b1, b2, b3, b4, b5, b6, b7, b8, b9, b10, b11, b12, b13) h9 hm)) (a1, a2, a3, a4, a5, a6, a7, a8, a9, a10, a11, a12, a13) h
theorem lp14 {A1 A2 A3 A4 A5 A6 A7 A8 A9 A10 A11 A12 A13 A14 : Type} (W : Nat → A1 → A2 → A3 → A4 → A5 → A6 → A7 → A8 → A9 → A10 → A11 → A12 → A13 → A14 → Prop) (I : A1 → A2 → A3 → A4 → A5 → A6 → A7 → A8 → A9 → A10 → A11 → A12 → A13 → A14 → Prop) (μ : A1 → A2 → A3 → A4 → A5 → A6 → A7 → A8 → A9 → A10 → A11 → A12 → A13 → A14 → Nat) (hs : ∀ (n : Nat) (a1 : A1) (a2 : A2) (a3 : A3) (a4 : A4) (a5 : A5) (a6 : A6) (a7 : A7) (a8 : A8) (a9 : A9) (a10 : A10) (a11 : A11) (a12 : A12) (a13 : A13) (a14 : A14), I a1 a2 a3 a4 a5 a6 a7 a8 a9 a10 a11 a12 a13 a14 → (∀ (b1 : A1) (b2 : A2) (b3 : A3) (b4 : A4) (b5 : A5) (b6 : A6) (b7 : A7) (b8 : A8) (b9 : A9) (b10 : A10) (b11 : A11) (b12 : A12) (b13 : A13) (b14 : A14), I b1 b2 b3 b4 b5 b6 b7 b8 b9 b10 b11 b12 b13 b14 → μ b1 b2 b3 b4 b5 b6 b7 b8 b9 b10 b11 b12 b13 b14 < μ a1 a2 a3 a4 a5 a6 a7 a8 a9 a10 a11 a12 a13 a14 → W n b1 b2 b3 b4 b5 b6 b7 b8 b9 b10 b11 b12 b13 b14) → W (n + 1) a1 a2 a3 a4 a5 a6 a7 a8 a9 a10 a11 a12 a13 a14) (a1 : A1) (a2 : A2) (a3 : A3) (a4 : A4) (a5 : A5) (a6 : A6) (a7 : A7) (a8 : A8) (a9 : A9) (a10 : A10) (a11 : A11) (a12 : A12) (a13 : A13) (a14 : A14) (h : I a1 a2 a3 a4 a5 a6 a7 a8 a9 a10 a11 a12 a13 a14) : ∃ n, W n a1 a2 a3 a4 a5 a6 a7 a8 a9 a10 a11 a12 a13 a14 :=
  loop_m (σ := A1 × A2 × A3 × A4 × A5 × A6 × A7 × A8 × A9 × A10 × A11 × A12 × A13 × A14) (fun n s => W n s.1 s.2.1 s.2.2.1 s.2.2.2.1 s.2.2.2.2.1 s.2.2.2.2.2.1 s.2.2.2.2.2.2.1 s.2.2.2.2.2.2.2.1 s.2.2.2.2.2.2.2.2.1 s.2.2.2.2.2.2.2.2.2.1 s.2.2.2.2.2.2.2.2.2.2.1 s.2.2.2.2.2.2.2.2.2.2.2.1 s.2.2.2.2.2.2.2.2.2.2.2.2.1 s.2.2.2.2.2.2.2.2.2.2.2.2.2) (fun s => I s.1 s.2.1 s.2.2.1 s.2.2.2.1 s.2.2.2.2.1 s.2.2.2.2.2.1 s.2.2.2.2.2.2.1 s.2.2.2.2.2.2.2.1 s.2.2.2.2.2.2.2.2.1 s.2.2.2.2.2.2.2.2.2.1 s.2.2.2.2.2.2.2.2.2.2.1 s.2.2.2.2.2.2.2.2.2.2.2.1 s.2.2.2.2.2.2.2.2.2.2.2.2.1 s.2.2.2.2.2.2.2.2.2.2.2.2.2) (fun s => μ s.1 s.2.1 s.2.2.1 s.2.2.2.1 s.2.2.2.2.1 s.2.2.2.2.2.1 s.2.2.2.2.2.2.1 s.2.2.2.2.2.2.2.1 s.2.2.2.2.2.2.2.2.1 s.2.2.2.2.2.2.2.2.2.1 s.2.2.2.2.2.2.2.2.2.2.1 s.2.2.2.2.2.2.2.2.2.2.2.1 s.2.2.2.2.2.2.2.2.2.2.2.2.1 s.2.2.2.2.2.2.2.2.2.2.2.2.2) (fun n s hI hk => hs n s.1 s.2.1 s.2.2.1 s.2.2.2.1 s.2.2.2.2.1 s.2.2.2.2.2.1 s.2.2.2.2.2.2.1 s.2.2.2.2.2.2.2.1 s.2.2.2.2.2.2.2.2.1 s.2.2.2.2.2.2.2.2.2.1 s.2.2.2.2.2.2.2.2.2.2.1 s.2.2.2.2.2.2.2.2.2.2.2.1 s.2.2.2.2.2.2.2.2.2.2.2.2.1 s.2.2.2.2.2.2.2.2.2.2.2.2.2 hI (fun b1 b2 b3 b4 b5 b6 b7 b8 b9 b10 b11 b12 b13 b14 h9 hm => hk (b1, b2, b3, b4, b5, b6, b7, b8, b9, b10, b11, b12, b13, b14) h9 hm)) (a1, a2, a3, a4, a5, a6, a7, a8, a9, a10, a11, a12, a13, a14) h
theorem lp15 {A1 A2 A3 A4 A5 A6 A7 A8 A9 A10 A11 A12 A13 A14 A15 : Type} (W : Nat → A1 → A2 → A3 → A4 → A5 → A6 → A7 → A8 → A9 → A10 → A11 → A12 → A13 → A14 → A15 → Prop) (I : A1 → A2 → A3 → A4 → A5 → A6 → A7 → A8 → A9 → A10 → A11 → A12 → A13 → A14 → A15 → Prop) (μ : A1 → A2 → A3 → A4 → A5 → A6 → A7 → A8 → A9 → A10 → A11 → A12 → A13 → A14 → A15 → Nat) (hs : ∀ (n : Nat) (a1 : A1) (a2 : A2) (a3 : A3) (a4 : A4) (a5 : A5) (a6 : A6) (a7 : A7) (a8 : A8) (a9 : A9) (a10 : A10) (a11 : A11) (a12 : A12) (a13 : A13) (a14 : A14) (a15 : A15), I a1 a2 a3 a4 a5 a6 a7 a8 a9 a10 a11 a12 a13 a14 a15 → (∀ (b1 : A1) (b2 : A2) (b3 : A3) (b4 : A4) (b5 : A5) (b6 : A6) (b7 : A7) (b8 : A8) (b9 : A9) (b10 : A10) (b11 : A11) (b12 : A12) (b13 : A13) (b14 : A14) (b15 : A15), I b1 b2 b3 b4 b5 b6 b7 b8 b9 b10 b11 b12 b13 b14 b15 → μ b1 b2 b3 b4 b5 b6 b7 b8 b9 b10 b11 b12 b13 b14 b15 < μ a1 a2 a3 a4 a5 a6 a7 a8 a9 a10 a11 a12 a13 a14 a15 → W n b1 b2 b3 b4 b5 b6 b7 b8 b9 b10 b11 b12 b13 b14 b15) → W (n + 1) a1 a2 a3 a4 a5 a6 a7 a8 a9 a10 a11 a12 a13 a14 a15) (a1 : A1) (a2 : A2) (a3 : A3) (a4 : A4) (a5 : A5) (a6 : A6) (a7 : A7) (a8 : A8) (a9 : A9) (a10 : A10) (a11 : A11) (a12 : A12) (a13 : A13) (a14 : A14) (a15 : A15) (h : I a1 a2 a3 a4 a5 a6 a7 a8 a9 a10 a11 a12 a13 a14 a15) : ∃ n, W n a1 a2 a3 a4 a5 a6 a7 a8 a9 a10 a11 a12 a13 a14 a15 :=
  loop_m (σ := A1 × A2 × A3 × A4 × A5 × A6 × A7 × A8 × A9 × A10 × A11 × A12 × A13 × A14 × A15) (fun n s => W n s.1 s.2.1 s.2.2.1 s.2.2.2.1 s.2.2.2.2.1 s.2.2.2.2.2.1 s.2.2.2.2.2.2.1 s.2.2.2.2.2.2.2.1 s.2.2.2.2.2.2.2.2.1 s.2.2.2.2.2.2.2.2.2.1 s.2.2.2.2.2.2.2.2.2.2.1 s.2.2.2.2.2.2.2.2.2.2.2.1 s.2.2.2.2.2.2.2.2.2.2.2.2.1 s.2.2.2.2.2.2.2.2.2.2.2.2.2.1 s.2.2.2.2.2.2.2.2.2.2.2.2.2.2) (fun s => I s.1 s.2.1 s.2.2.1 s.2.2.2.1 s.2.2.2.2.1 s.2.2.2.2.2.1 s.2.2.2.2.2.2.1 s.2.2.2.2.2.2.2.1 s.2.2.2.2.2.2.2.2.1 s.2.2.2.2.2.2.2.2.2.1 s.2.2.2.2.2.2.2.2.2.2.1 s.2.2.2.2.2.2.2.2.2.2.2.1 s.2.2.2.2.2.2.2.2.2.2.2.2.1 s.2.2.2.2.2.2.2.2.2.2.2.2.2.1 s.2.2.2.2.2.2.2.2.2.2.2.2.2.2) (fun s => μ s.1 s.2.1 s.2.2.1 s.2.2.2.1 s.2.2.2.2.1 s.2.2.2.2.2.1 s.2.2.2.2.2.2.1 s.2.2.2.2.2.2.2.1 s.2.2.2.2.2.2.2.2.1 s.2.2.2.2.2.2.2.2.2.1 s.2.2.2.2.2.2.2.2.2.2.1 s.2.2.2.2.2.2.2.2.2.2.2.1 s.2.2.2.2.2.2.2.2.2.2.2.2.1 s.2.2.2.2.2.2.2.2.2.2.2.2.2.1 s.2.2.2.2.2.2.2.2.2.2.2.2.2.2) (fun n s hI hk => hs n s.1 s.2.1 s.2.2.1 s.2.2.2.1 s.2.2.2.2.1 s.2.2.2.2.2.1 s.2.2.2.2.2.2.1 s.2.2.2.2.2.2.2.1 s.2.2.2.2.2.2.2.2.1 s.2.2.2.2.2.2.2.2.2.1 s.2.2.2.2.2.2.2.2.2.2.1 s.2.2.2.2.2.2.2.2.2.2.2.1 s.2.2.2.2.2.2.2.2.2.2.2.2.1 s.2.2.2.2.2.2.2.2.2.2.2.2.2.1 s.2.2.2.2.2.2.2.2.2.2.2.2.2.2 hI (fun b1 b2 b3 b4 b5 b6 b7 b8 b9 b10 b11 b12 b13 b14 b15 h9 hm => hk (b1, b2, b3, b4, b5, b6, b7, b8, b9, b10, b11, b12, b13, b14, b15) h9 hm)) (a1, a2, a3, a4, a5, a6, a7, a8, a9, a10, a11, a12, a13, a14, a15) h
theorem lp16 {A1 A2 A3 A4 A5 A6 A7 A8 A9 A10 A11 A12 A13 A14 A15 A16 : Type} (W : Nat → A1 → A2 → A3 → A4 → A5 → A6 → A7 → A8 → A9 → A10 → A11 → A12 → A13 → A14 → A15 → A16 → Prop) (I : A1 → A2 → A3 → A4 → A5 → A6 → A7 → A8 → A9 → A10 → A11 → A12 → A13 → A14 → A15 → A16 → Prop) (μ : A1 → A2 → A3 → A4 → A5 → A6 → A7 → A8 → A9 → A10 → A11 → A12 → A13 → A14 → A15 → A16 → Nat) (hs : ∀ (n : Nat) (a1 : A1) (a2 : A2) (a3 : A3) (a4 : A4) (a5 : A5) (a6 : A6) (a7 : A7) (a8 : A8) (a9 : A9) (a10 : A10) (a11 : A11) (a12 : A12) (a13 : A13) (a14 : A14) (a15 : A15) (a16 : A16), I a1 a2 a3 a4 a5 a6 a7 a8 a9 a10 a11 a12 a13 a14 a15 a16 → (∀ (b1 : A1) (b2 : A2) (b3 : A3) (b4 : A4) (b5 : A5) (b6 : A6) (b7 : A7) (b8 : A8) (b9 : A9) (b10 : A10) (b11 : A11) (b12 : A12) (b13 : A13) (b14 : A14) (b15 : A15) (b16 : A16), I b1 b2 b3 b4 b5 b6 b7 b8 b9 b10 b11 b12 b13 b14 b15 b16 → μ b1 b2 b3 b4 b5 b6 b7 b8 b9 b10 b11 b12 b13 b14 b15 b16 < μ a1 a2 a3 a4 a5 a6 a7 a8 a9 a10 a11 a12 a13 a14 a15 a16 → W n b1 b2 b3 b4 b5 b6 b7 b8 b9 b10 b11 b12 b13 b14 b15 b16) → W (n + 1) a1 a2 a3 a4 a5 a6 a7 a8 a9 a10 a11 a12 a13 a14 a15 a16) (a1 : A1) (a2 : A2) (a3 : A3) (a4 : A4) (a5 : A5) (a6 : A6) (a7 : A7) (a8 : A8) (a9 : A9) (a10 : A10) (a11 : A11) (a12 : A12) (a13 : A13) (a14 : A14) (a15 : A15) (a16 : A16) (h : I a1 a2 a3 a4 a5 a6 a7 a8 a9 a10 a11 a12 a13 a14 a15 a16) : ∃ n, W n a1 a2 a3 a4 a5 a6 a7 a8 a9 a10 a11 a12 a13 a14 a15 a16 :=
  loop_m (σ := A1 × A2 × A3 × A4 × A5 × A6 × A7 × A8 × A9 × A10 × A11 × A12 × A13 × A14 × A15 × A16) (fun n s => W n s.1 s.2.1 s.2.2.1 s.2.2.2.1 s.2.2.2.2.1 s.2.2.2.2.2.1 s.2.2.2.2.2.2.1 s.2.2.2.2.2.2.2.1 s.2.2.2.2.2.2.2.2.1 s.2.2.2.2.2.2.2.2.2.1 s.2.2.2.2.2.2.2.2.2.2.1 s.2.2.2.2.2.2.2.2.2.2.2.1 s.2.2.2.2.2.2.2.2.2.2.2.2.1 s.2.2.2.2.2.2.2.2.2.2.2.2.2.1 s.2.2.2.2.2.2.2.2.2.2.2.2.2.2.1 s.2.2.2.2.2.2.2.2.2.2.2.2.2.2.2) (fun s => I s.1 s.2.1 s.2.2.1 s.2.2.2.1 s.2.2.2.2.1 s.2.2.2.2.2.1 s.2.2.2.2.2.2.1 s.2.2.2.2.2.2.2.1 s.2.2.2.2.2.2.2.2.1 s.2.2.2.2.2.2.2.2.2.1 s.2.2.2.2.2.2.2.2.2.2.1 s.2.2.2.2.2.2.2.2.2.2.2.1 s.2.2.2.2.2.2.2.2.2.2.2.2.1 s.2.2.2.2.2.2.2.2.2.2.2.2.2.1 s.2.2.2.2.2.2.2.2.2.2.2.2.2.2.1 s.2.2.2.2.2.2.2.2.2.2.2.2.2.2.2) (fun s => μ s.1 s.2.1 s.2.2.1 s.2.2.2.1 s.2.2.2.2.1 s.2.2.2.2.2.1 s.2.2.2.2.2.2.1 s.2.2.2.2.2.2.2.1 s.2.2.2.2.2.2.2.2.1 s.2.2.2.2.2.2.2.2.2.1 s.2.2.2.2.2.2.2.2.2.2.1 s.2.2.2.2.2.2.2.2.2.2.2.1 s.2.2.2.2.2.2.2.2.2.2.2.2.1 s.2.2.2.2.2.2.2.2.2.2.2.2.2.1 s.2.2.2.2.2.2.2.2.2.2.2.2.2.2.1 s.2.2.2.2.2.2.2.2.2.2.2.2.2.2.2) (fun n s hI hk => hs n s.1 s.2.1 s.2.2.1 s.2.2.2.1 s.2.2.2.2.1 s.2.2.2.2.2.1 s.2.2.2.2.2.2.1 s.2.2.2.2.2.2.2.1 s.2.2.2.2.2.2.2.2.1 s.2.2.2.2.2.2.2.2.2.1 s.2.2.2.2.2.2.2.2.2.2.1 s.2.2.2.2.2.2.2.2.2.2.2.1 s.2.2.2.2.2.2.2.2.2.2.2.2.1 s.2.2.2.2.2.2.2.2.2.2.2.2.2.1 s.2.2.2.2.2.2.2.2.2.2.2.2.2.2.1 s.2.2.2.2.2.2.2.2.2.2.2.2.2.2.2 hI (fun b1 b2 b3 b4 b5 b6 b7 b8 b9 b10 b11 b12 b13 b14 b15 b16 h9 hm => hk (b1, b2, b3, b4, b5, b6, b7, b8, b9, b10, b11, b12, b13, b14, b15, b16) h9 hm)) (a1, a2, a3, a4, a5, a6, a7, a8, a9, a10, a11, a12, a13, a14, a15, a16) h
theorem pk_least (P : Nat → Prop) (h : ∃ k, P k) : ∃ k, P k ∧ ∀ j, j < k → ¬ P j := by
  obtain ⟨k, hk⟩ := h
  induction k using Nat.strongRecOn with
  | ind k ih =>
    by_cases e : ∃ j, j < k ∧ P j
    · obtain ⟨j, hj, pj⟩ := e
      exact ih j hj pj
    · exact ⟨k, hk, fun j hj pj => e ⟨j, hj, pj⟩⟩
theorem rp1 {ρ A1 : Type} (W : Nat → (ρ → Prop) → A1 → Prop) (ok : A1 → Prop) (μ : A1 → Nat) (val : A1 → ρ)
    (hs : ∀ (d : Nat) (post : ρ → Prop) (a1 : A1), ok a1 → post (val a1) → (∀ (post' : ρ → Prop) (b1 : A1), ok b1 → μ b1 < μ a1 → post' (val b1) → W d post' b1) → W (d + 1) post a1) :
    ∀ (d : Nat) (post : ρ → Prop) (a1 : A1), ok a1 → μ a1 < d → post (val a1) → W d post a1 := by
  intro d
  induction d with
  | zero => intro post a1 _ h; omega
  | succ d ih =>
    intro post a1 ho hm hp
    exact hs d post a1 ho hp (fun post' b1 ho' hm' hp' => ih post' b1 ho' (by omega) hp')
theorem rp2 {ρ A1 A2 : Type} (W : Nat → (ρ → Prop) → A1 → A2 → Prop) (ok : A1 → A2 → Prop) (μ : A1 → A2 → Nat) (val : A1 → A2 → ρ)
    (hs : ∀ (d : Nat) (post : ρ → Prop) (a1 : A1) (a2 : A2), ok a1 a2 → post (val a1 a2) → (∀ (post' : ρ → Prop) (b1 : A1) (b2 : A2), ok b1 b2 → μ b1 b2 < μ a1 a2 → post' (val b1 b2) → W d post' b1 b2) → W (d + 1) post a1 a2) :
    ∀ (d : Nat) (post : ρ → Prop) (a1 : A1) (a2 : A2), ok a1 a2 → μ a1 a2 < d → post (val a1 a2) → W d post a1 a2 := by
  intro d
  induction d with
  | zero => intro post a1 a2 _ h; omega
  | succ d ih =>
    intro post a1 a2 ho hm hp
    exact hs d post a1 a2 ho hp (fun post' b1 b2 ho' hm' hp' => ih post' b1 b2 ho' (by omega) hp')
theorem rp3 {ρ A1 A2 A3 : Type} (W : Nat → (ρ → Prop) → A1 → A2 → A3 → Prop) (ok : A1 → A2 → A3 → Prop) (μ : A1 → A2 → A3 → Nat) (val : A1 → A2 → A3 → ρ)
    (hs : ∀ (d : Nat) (post : ρ → Prop) (a1 : A1) (a2 : A2) (a3 : A3), ok a1 a2 a3 → post (val a1 a2 a3) → (∀ (post' : ρ → Prop) (b1 : A1) (b2 : A2) (b3 : A3), ok b1 b2 b3 → μ b1 b2 b3 < μ a1 a2 a3 → post' (val b1 b2 b3) → W d post' b1 b2 b3) → W (d + 1) post a1 a2 a3) :
    ∀ (d : Nat) (post : ρ → Prop) (a1 : A1) (a2 : A2) (a3 : A3), ok a1 a2 a3 → μ a1 a2 a3 < d → post (val a1 a2 a3) → W d post a1 a2 a3 := by
  intro d
  induction d with
  | zero => intro post a1 a2 a3 _ h; omega
  | succ d ih =>
    intro post a1 a2 a3 ho hm hp
    exact hs d post a1 a2 a3 ho hp (fun post' b1 b2 b3 ho' hm' hp' => ih post' b1 b2 b3 ho' (by omega) hp')
theorem rp4 {ρ A1 A2 A3 A4 : Type} (W : Nat → (ρ → Prop) → A1 → A2 → A3 → A4 → Prop) (ok : A1 → A2 → A3 → A4 → Prop) (μ : A1 → A2 → A3 → A4 → Nat) (val : A1 → A2 → A3 → A4 → ρ)
    (hs : ∀ (d : Nat) (post : ρ → Prop) (a1 : A1) (a2 : A2) (a3 : A3) (a4 : A4), ok a1 a2 a3 a4 → post (val a1 a2 a3 a4) → (∀ (post' : ρ → Prop) (b1 : A1) (b2 : A2) (b3 : A3) (b4 : A4), ok b1 b2 b3 b4 → μ b1 b2 b3 b4 < μ a1 a2 a3 a4 → post' (val b1 b2 b3 b4) → W d post' b1 b2 b3 b4) → W (d + 1) post a1 a2 a3 a4) :
    ∀ (d : Nat) (post : ρ → Prop) (a1 : A1) (a2 : A2) (a3 : A3) (a4 : A4), ok a1 a2 a3 a4 → μ a1 a2 a3 a4 < d → post (val a1 a2 a3 a4) → W d post a1 a2 a3 a4 := by
  intro d
  induction d with
  | zero => intro post a1 a2 a3 a4 _ h; omega
  | succ d ih =>
    intro post a1 a2 a3 a4 ho hm hp
    exact hs d post a1 a2 a3 a4 ho hp (fun post' b1 b2 b3 b4 ho' hm' hp' => ih post' b1 b2 b3 b4 ho' (by omega) hp')
theorem rp5 {ρ A1 A2 A3 A4 A5 : Type} (W : Nat → (ρ → Prop) → A1 → A2 → A3 → A4 → A5 → Prop) (ok : A1 → A2 → A3 → A4 → A5 → Prop) (μ : A1 → A2 → A3 → A4 → A5 → Nat) (val : A1 → A2 → A3 → A4 → A5 → ρ)
    (hs : ∀ (d : Nat) (post : ρ → Prop) (a1 : A1) (a2 : A2) (a3 : A3) (a4 : A4) (a5 : A5), ok a1 a2 a3 a4 a5 → post (val a1 a2 a3 a4 a5) → (∀ (post' : ρ → Prop) (b1 : A1) (b2 : A2) (b3 : A3) (b4 : A4) (b5 : A5), ok b1 b2 b3 b4 b5 → μ b1 b2 b3 b4 b5 < μ a1 a2 a3 a4 a5 → post' (val b1 b2 b3 b4 b5) → W d post' b1 b2 b3 b4 b5) → W (d + 1) post a1 a2 a3 a4 a5) :
    ∀ (d : Nat) (post : ρ → Prop) (a1 : A1) (a2 : A2) (a3 : A3) (a4 : A4) (a5 : A5), ok a1 a2 a3 a4 a5 → μ a1 a2 a3 a4 a5 < d → post (val a1 a2 a3 a4 a5) → W d post a1 a2 a3 a4 a5 := by
  intro d
  induction d with
  | zero => intro post a1 a2 a3 a4 a5 _ h; omega
  | succ d ih =>
    intro post a1 a2 a3 a4 a5 ho hm hp
    exact hs d post a1 a2 a3 a4 a5 ho hp (fun post' b1 b2 b3 b4 b5 ho' hm' hp' => ih post' b1 b2 b3 b4 b5 ho' (by omega) hp')
theorem rp6 {ρ A1 A2 A3 A4 A5 A6 : Type} (W : Nat → (ρ → Prop) → A1 → A2 → A3 → A4 → A5 → A6 → Prop) (ok : A1 → A2 → A3 → A4 → A5 → A6 → Prop) (μ : A1 → A2 → A3 → A4 → A5 → A6 → Nat) (val : A1 → A2 → A3 → A4 → A5 → A6 → ρ)
    (hs : ∀ (d : Nat) (post : ρ → Prop) (a1 : A1) (a2 : A2) (a3 : A3) (a4 : A4) (a5 : A5) (a6 : A6), ok a1 a2 a3 a4 a5 a6 → post (val a1 a2 a3 a4 a5 a6) → (∀ (post' : ρ → Prop) (b1 : A1) (b2 : A2) (b3 : A3) (b4 : A4) (b5 : A5) (b6 : A6), ok b1 b2 b3 b4 b5 b6 → μ b1 b2 b3 b4 b5 b6 < μ a1 a2 a3 a4 a5 a6 → post' (val b1 b2 b3 b4 b5 b6) → W d post' b1 b2 b3 b4 b5 b6) → W (d + 1) post a1 a2 a3 a4 a5 a6) :
    ∀ (d : Nat) (post : ρ → Prop) (a1 : A1) (a2 : A2) (a3 : A3) (a4 : A4) (a5 : A5) (a6 : A6), ok a1 a2 a3 a4 a5 a6 → μ a1 a2 a3 a4 a5 a6 < d → post (val a1 a2 a3 a4 a5 a6) → W d post a1 a2 a3 a4 a5 a6 := by
  intro d
  induction d with
  | zero => intro post a1 a2 a3 a4 a5 a6 _ h; omega
  | succ d ih =>
    intro post a1 a2 a3 a4 a5 a6 ho hm hp
    exact hs d post a1 a2 a3 a4 a5 a6 ho hp (fun post' b1 b2 b3 b4 b5 b6 ho' hm' hp' => ih post' b1 b2 b3 b4 b5 b6 ho' (by omega) hp')
theorem rec_p {σ ρ : Type} (W : Nat → (ρ → Prop) → σ → Prop) (ok : σ → Prop) (μ : σ → Nat) (val : σ → ρ)
    (hs : ∀ d s post, ok s → post (val s) → (∀ s' post', ok s' → μ s' < μ s → post' (val s') → W d post' s') → W (d + 1) post s) :
    ∀ d s post, ok s → μ s < d → post (val s) → W d post s := by
  intro d
  induction d with
  | zero => intro s post _ h; omega
  | succ d ih =>
    intro s post ho hm hp
    exact hs d s post ho hp (fun s' post' ho' hm' hp' => ih s' post' ho' (by omega) hp')
theorem rec_q {σ ρ : Type} (W : Nat → (ρ → Prop) → σ → Prop) (ok : σ → Prop) (μ : σ → Nat) (Q : σ → ρ → Prop)
    (hs : ∀ d s post, ok s → (∀ r, Q s r → post r) → (∀ s' post', ok s' → μ s' < μ s → (∀ r, Q s' r → post' r) → W d post' s') → W (d + 1) post s) :
    ∀ d s post, ok s → μ s < d → (∀ r, Q s r → post r) → W d post s := by
  intro d
  induction d with
  | zero => intro s post _ h; omega
  | succ d ih =>
    intro s post ho hm hp
    exact hs d s post ho hp (fun s' post' ho' hm' hp' => ih s' post' ho' (by omega) hp')
def bx_sum (f : Nat → Int32) : Nat → Int32
  | 0 => 0
  | n + 1 => bx_sum f n + f n
theorem ek_u {A : Prop} {B : Nat → Prop} {k N : Nat} (hk : k < N) (h : B k) : (some k = none → A) ∧ (∀ y : Nat, some k = some y → (y < N ∧ B y)) :=
  ⟨fun z => absurd z (Option.some_ne_none k), fun _ e => (by cases e; exact ⟨hk, h⟩)⟩
theorem ek_nu {A : Prop} {B : Nat → Prop} (h : A) : ((none : Option Nat) = none → A) ∧ (∀ y : Nat, (none : Option Nat) = some y → B y) :=
  ⟨fun _ => h, fun _ e => (by cases e)⟩
theorem ek_if {c d A B : Prop} (e : c ↔ d) (f : d → A) (g : ¬ d → B) : (c → A) ∧ (¬ c → B) :=
  ⟨fun z => f (e.mp z), fun z => g (fun y => z (e.mpr y))⟩
theorem ek_v {α : Sort _} {P : α → Prop} {a b : α} (e : a = b) (h : P b) : P a := e ▸ h
theorem co_some {x : Option Nat} {A : Prop} {B : Nat → Prop} (i : Nat) (h : B i) (hx : x = some i := by rfl) : (x = none → A) ∧ (∀ y : Nat, x = some y → B y) := by
  subst hx
  exact ⟨fun e => (nomatch e), fun y e => Option.some.inj e ▸ h⟩
theorem co_none {x : Option Nat} {A : Prop} {B : Nat → Prop} (h : A) (hx : x = none := by rfl) : (x = none → A) ∧ (∀ y : Nat, x = some y → B y) := by
  subst hx
  exact ⟨fun _ => h, fun y e => (nomatch e)⟩
theorem co_any {x : Option Nat} {A : Prop} {B : Nat → Prop} (hn : x = none → A) (hs : ∀ i : Nat, x = some i → B i) : (x = none → A) ∧ (∀ y : Nat, x = some y → B y) := ⟨hn, hs⟩
theorem co_2 {P : Nat → Prop} (h0 : P 0) (h1 : P 1) {i : Nat} (hi : i < 2) : P i :=
  match i, hi with
  | 0, _ => h0
  | 1, _ => h1
theorem co_3 {P : Nat → Prop} (h0 : P 0) (h1 : P 1) (h2 : P 2) {i : Nat} (hi : i < 3) : P i :=
  match i, hi with
  | 0, _ => h0
  | 1, _ => h1
  | 2, _ => h2
theorem co_4 {P : Nat → Prop} (h0 : P 0) (h1 : P 1) (h2 : P 2) (h3 : P 3) {i : Nat} (hi : i < 4) : P i :=
  match i, hi with
  | 0, _ => h0
  | 1, _ => h1
  | 2, _ => h2
  | 3, _ => h3
theorem co_dec {N : Nat} {P : Nat → Prop} [DecidablePred P] (h : (List.range N).all (fun i => decide (P i)) = true) {i : Nat} (hi : i < N) : P i := by
  have := List.all_eq_true.mp h i (List.mem_range.mpr hi)
  exact of_decide_eq_true this
theorem co_tab {α : Type} {l : List α} {d : α} {P : α → Prop} (h : ∀ a, a ∈ l → P a) {i : Nat} (hi : i < l.length) : P (l.getD i d) := by
  rw [List.getD_eq_getElem?_getD, List.getElem?_eq_getElem hi]
  exact h _ (List.getElem_mem hi)
theorem pk_mu {x : Int32} {L : Nat} (h0 : ¬ x < 0) (h : ¬ nI L ≤ x) (hL : L < 2 ^ 31) : ∃ j : Nat, j < L ∧ x = nI j ∧ x + 1 = nI (j + 1) ∧ x.toNatClampNeg = j ∧ L - (x + 1).toNatClampNeg < L - x.toNatClampNeg := by
  obtain ⟨j, hj, rfl⟩ := nI_of h0
  have hl : j < L := Nat.not_le.mp fun q => h (nI_le q hj)
  refine ⟨j, hl, rfl, nI_1 j, nI_clamp hj, ?_⟩
  rw [nI_1, nI_clamp (by omega), nI_clamp hj]
  omega
theorem op_s {α : Type} {r : Option α} {A : Prop} {B : α → Prop} {y : α} (h : r = some y) (b : B y) : (r = none → A) ∧ ∀ z, r = some z → B z :=
  ⟨fun e => (by rw [h] at e; cases e), fun z e => (by rw [h] at e; cases e; exact b)⟩
def l_holds {α : Type} (a : Nat → Option Nat) (LP : List Nat) (p : Nat → α) (c : Nat) (b : Nat → α) : Prop :=
  ∀ j, j < c → ∃ y, a j = some y ∧ y ∈ LP ∧ p y = b j
theorem l_holds_0 {α : Type} {a : Nat → Option Nat} {LP : List Nat} {p b : Nat → α} : l_holds a LP p 0 b := fun j h => absurd h (Nat.not_lt_zero j)
theorem l_in_new (LP : List Nat) (q : Nat) : q ∈ LP ++ [q] := List.mem_append.mpr (Or.inr (List.mem_singleton.mpr rfl))
def l_sum (b : Nat → Int32) : Nat → Int32
  | 0 => 0
  | k + 1 => l_sum b k + b k
theorem sb_shr0 (x : Int32) : x >>> ((0 : Int32) &&& 31) = x := by
  rw [show ((0 : Int32) &&& 31) = 0 by decide]
  simp
theorem sb_shl0 (x : Int32) : x <<< ((0 : Int32) &&& 31) = x := by
  rw [show ((0 : Int32) &&& 31) = 0 by decide]
  simp
theorem sb_cl0 : (0 : Int32).toNatClampNeg = 0 := by decide
theorem sb_m1 {p : Nat} (h : 0 < p) : nI p + (-1) = nI (p - 1) := by
  obtain ⟨q, rfl⟩ : ∃ q, p = q + 1 := ⟨p - 1, by omega⟩
  exact pk_m1 q
def sb_b (c : Nat) : Int32 := (nI c).toInt8.toInt32
theorem sb_byte : ∀ c, c < 256 → sb_b c &&& 255 = nI c ∧ ((nI c).toUInt32 % 65536).toInt32 = nI c ∧ nI c ≤ 255 := by decide +kernel
def sb_Fit (a : Nat → Int32) : Prop := ∀ j, fits .byte (.int (a j)) = true
def sb_Lat (t : Nat → Nat) (n : Nat) (a : Nat → Int32) : Prop := ∀ j, j < n → t j < 256 ∧ a j = sb_b (t j)
theorem sb_fitB (c : Nat) : fits .byte (.int (sb_b c)) = true := pk_fb _
theorem sb_fit0 : sb_Fit (fun _ => 0) := fun _ => by
  show fits .byte (.int 0) = true
  decide
theorem sb_fitU {a : Nat → Int32} {k : Nat} {x : Int32} (h : sb_Fit a) (hx : fits .byte (.int x) = true) : sb_Fit (upd a k x) := by
  intro j
  by_cases e : j = k
  · subst e
    rw [pk_us]
    exact hx
  · rw [pk_un e]
    exact h j
def sb_cat (t : Nat → Nat) (n : Nat) (s : Nat → Nat) : Nat → Nat := fun j => if j < n then t j else s (j - n)
theorem sb_cat_lo {t s : Nat → Nat} {n j : Nat} (h : j < n) : sb_cat t n s j = t j := if_pos h
theorem sb_cat_hi {t s : Nat → Nat} {n j : Nat} : sb_cat t n s (n + j) = s j := by
  show (if n + j < n then t (n + j) else s (n + j - n)) = s j
  rw [if_neg (by omega), Nat.add_sub_cancel_left]
theorem sb_latPut {t s : Nat → Nat} {n w : Nat} {a a' : Nat → Int32} (h : sb_Lat t n a) (hk : ∀ j, j < n → a' j = a j) (hs : ∀ i, i < w → s i < 256 ∧ a' (n + i) = sb_b (s i)) : sb_Lat (sb_cat t n s) (n + w) a' := by
  intro j hj
  by_cases e : j < n
  · rw [sb_cat_lo e, hk j e]
    exact h j e
  · obtain ⟨i, rfl⟩ : ∃ i, j = n + i := ⟨j - n, by omega⟩
    rw [sb_cat_hi]
    exact hs i (by omega)
theorem sb_latKeep {t : Nat → Nat} {n : Nat} {a a' : Nat → Int32} (h : sb_Lat t n a) (hk : ∀ j, j < n → a' j = a j) : sb_Lat t n a' := fun j hj => by
  rw [hk j hj]
  exact h j hj
def sb_cap (q m : Nat) : Nat := if q ≤ m then m else if 2 * m + 2 < q then q else 2 * m + 2
def sb_Room (q m mc ms : Nat) : Prop := q ≤ m ∨ (1 ≤ mc ∧ sb_cap q m ≤ ms ∧ sb_cap q m ≤ 65536)
theorem sb_cap_ge (q m : Nat) : q ≤ sb_cap q m := by
  unfold sb_cap
  split
  · omega
  · split <;> omega
theorem sb_cap_gem (q m : Nat) : m ≤ sb_cap q m := by
  unfold sb_cap
  split
  · omega
  · split <;> omega
theorem sb_cap_le {q m mc ms : Nat} (hm : m ≤ 65536) (hr : sb_Room q m mc ms) : sb_cap q m ≤ 65536 := by
  rcases hr with h | h
  · rw [sb_cap, if_pos h]
    exact hm
  · exact h.2.2
theorem sb_at {P : Int32 → Prop} {x y : Int32} (e : x = y) (h : P y) : P x := e ▸ h
def sb_dg (w : Nat) : Nat := if w < 10 then 1 else if w < 100 then 2 else if w < 1000 then 3 else if w < 10000 then 4 else if w < 100000 then 5 else if w < 1000000 then 6 else if w < 10000000 then 7 else if w < 100000000 then 8 else if w < 1000000000 then 9 else 10
def sb_dec (v : Nat) : Nat → Nat := fun i => 48 + v / 10 ^ (sb_dg v - 1 - i) % 10
theorem sb_dg_in (w : Nat) : 1 ≤ sb_dg w ∧ sb_dg w ≤ 10 := by
  unfold sb_dg
  constructor <;> (repeat' split) <;> omega
theorem sb_dg100 {w : Nat} (h : 100 ≤ w) (hw : w < 2 ^ 31) : sb_dg w = sb_dg (w / 100) + 2 := by
  rw [sb_dg, sb_dg, if_neg (show ¬ w < 10 by omega), if_neg (show ¬ w < 100 by omega)]
  by_cases h3 : w < 1000
  · rw [if_pos h3, if_pos (show w / 100 < 10 by omega)]
  rw [if_neg h3, if_neg (show ¬ w / 100 < 10 by omega)]
  by_cases h4 : w < 10000
  · rw [if_pos h4, if_pos (show w / 100 < 100 by omega)]
  rw [if_neg h4, if_neg (show ¬ w / 100 < 100 by omega)]
  by_cases h5 : w < 100000
  · rw [if_pos h5, if_pos (show w / 100 < 1000 by omega)]
  rw [if_neg h5, if_neg (show ¬ w / 100 < 1000 by omega)]
  by_cases h6 : w < 1000000
  · rw [if_pos h6, if_pos (show w / 100 < 10000 by omega)]
  rw [if_neg h6, if_neg (show ¬ w / 100 < 10000 by omega)]
  by_cases h7 : w < 10000000
  · rw [if_pos h7, if_pos (show w / 100 < 100000 by omega)]
  rw [if_neg h7, if_neg (show ¬ w / 100 < 100000 by omega)]
  by_cases h8 : w < 100000000
  · rw [if_pos h8, if_pos (show w / 100 < 1000000 by omega)]
  rw [if_neg h8, if_neg (show ¬ w / 100 < 1000000 by omega)]
  by_cases h9 : w < 1000000000
  · rw [if_pos h9, if_pos (show w / 100 < 10000000 by omega)]
  rw [if_neg h9, if_neg (show ¬ w / 100 < 10000000 by omega)]
  rw [if_pos (show w / 100 < 100000000 by omega)]
theorem sb_negT {w : Nat} (h : w < 2 ^ 31) : (-nI w).toInt = -(w : Int) := by
  rw [Int32.toInt_neg, nI_toInt h]
  exact Int.bmod_eq_of_le (by omega) (by omega)
theorem sb_nle {a b : Nat} (ha : a < 2 ^ 31) (hb : b < 2 ^ 31) : -nI a ≤ -nI b ↔ b ≤ a := by
  rw [Int32.le_iff_toInt_le, sb_negT ha, sb_negT hb]
  omega
theorem sb_nlt {a b : Nat} (ha : a < 2 ^ 31) (hb : b < 2 ^ 31) : -nI a < -nI b ↔ b < a := by
  rw [Int32.lt_iff_toInt_lt, sb_negT ha, sb_negT hb]
  omega
theorem sb_cmp {A B : Prop} {x : Int32} (v c : Nat) (f : c ≤ v → A) (g : v < c → B) (hv : v < 2 ^ 31) (hx : x = -nI c := by rfl) (hc : c < 2 ^ 31 := by omega) : (-nI v ≤ x → A) ∧ (¬ -nI v ≤ x → B) := by
  subst hx
  rw [sb_nle hv hc]
  exact ⟨f, fun z => g (by omega)⟩
theorem sb_ndiv {w : Nat} (hw : w < 2 ^ 31) : (-nI w) / 100 = -nI (w / 100) := by
  apply Int32.toInt_inj.mp
  have h100 : (100 : Int32).toInt = 100 := by decide
  rw [Int32.toInt_div, sb_negT hw, h100, sb_negT (by omega), Int.neg_tdiv, Int.tdiv_eq_ediv_of_nonneg (by omega), Int.bmod_eq_of_le (by omega) (by omega)]
  omega
theorem sb_nrem {w : Nat} (hw : w < 2 ^ 31) : (-nI (w / 100)) * 100 - (-nI w) = nI (w % 100) := by
  have h := pk_rem (a := w) (d := 100) hw (by decide) (by decide)
  rw [pk_div hw (by decide) (by decide)] at h
  rw [← h]
  show (-nI (w / 100)) * nI 100 - (-nI w) = nI w - nI (w / 100) * nI 100
  rw [Int32.neg_mul, Int32.sub_neg, Int32.add_comm, ← Int32.sub_eq_add_neg]
end
section
/-! rows on bits, shifts and unsigned numbers, to paste: each family out of a closed proof of our own, whole with what it rests on; each by itself clean at Lean in its own claim (generation 39, form 5). Take a family whole -/
/-! ===== Int32 by its bits: bt x i ===== -/
def bt (x : Int32) (i : Nat) : Bool := x.toBitVec.getLsbD i
theorem b_ext {x y : Int32} (h : ∀ i, i < 32 → bt x i = bt y i) : x = y := Int32.toBitVec_inj.mp (BitVec.eq_of_getLsbD_eq (fun i hi => h i hi))
theorem b_or (x y : Int32) (i : Nat) : bt (x ||| y) i = (bt x i || bt y i) := by unfold bt; rw [Int32.toBitVec_or, BitVec.getLsbD_or]
theorem b_and (x y : Int32) (i : Nat) : bt (x &&& y) i = (bt x i && bt y i) := by unfold bt; rw [Int32.toBitVec_and, BitVec.getLsbD_and]
theorem b_xor (x y : Int32) (i : Nat) : bt (x ^^^ y) i = (bt x i ^^ bt y i) := by unfold bt; rw [Int32.toBitVec_xor, BitVec.getLsbD_xor]
theorem b_big {x : Int32} {i : Nat} (h : 32 ≤ i) : bt x i = false := BitVec.getLsbD_of_ge _ _ h
theorem b_255 (i : Nat) : bt 255 i = decide (i < 8) := by
  rcases Nat.lt_or_ge i 32 with h | h
  · exact (by decide +kernel : ∀ i, i < 32 → bt 255 i = decide (i < 8)) i h
  · rw [b_big h, decide_eq_false (by omega)]
theorem b_65535 (i : Nat) : bt 65535 i = decide (i < 16) := by
  rcases Nat.lt_or_ge i 32 with h | h
  · exact (by decide +kernel : ∀ i, i < 32 → bt 65535 i = decide (i < 16)) i h
  · rw [b_big h, decide_eq_false (by omega)]
theorem b_m1 : ∀ i, i < 32 → bt (-1) i = true := by decide +kernel
theorem b_0 (i : Nat) : bt 0 i = false := BitVec.getLsbD_zero
theorem s_l : ∀ n, n < 32 → ((nI n &&& 31).toBitVec.smod 32).toNat = n := by decide +kernel
theorem s_u : ∀ n, n < 32 → (((nI n).toUInt32 &&& Int32.toUInt32 31).toBitVec % 32).toNat = n := by decide +kernel
theorem b_shl (n : Nat) (hn : n < 32) (x : Int32) {i : Nat} (hi : i < 32) : bt (x <<< (nI n &&& 31)) i = (decide (n ≤ i) && bt x (i - n)) := by
  unfold bt
  rw [Int32.toBitVec_shiftLeft]
  show (x.toBitVec <<< ((nI n &&& 31).toBitVec.smod 32).toNat).getLsbD i = _
  rw [s_l n hn, BitVec.getLsbD_shiftLeft]
  rcases Nat.lt_or_ge i n with h | h
  · simp [h, Nat.not_le.mpr h]
  · simp [hi, h, Nat.not_lt.mpr h]
theorem b_ushr (n : Nat) (hn : n < 32) (x : Int32) (i : Nat) : bt ((x.toUInt32 >>> ((nI n).toUInt32 &&& Int32.toUInt32 31)).toInt32) i = bt x (n + i) := by
  show (x.toUInt32 >>> ((nI n).toUInt32 &&& Int32.toUInt32 31)).toBitVec.getLsbD i = x.toUInt32.toBitVec.getLsbD (n + i)
  rw [UInt32.toBitVec_shiftRight]
  show (x.toUInt32.toBitVec >>> (((nI n).toUInt32 &&& Int32.toUInt32 31).toBitVec % 32).toNat).getLsbD i = _
  rw [s_u n hn, BitVec.getLsbD_ushiftRight]
theorem b_sshr (n : Nat) (hn : n < 32) (x : Int32) {i : Nat} (hi : i < 32) : bt (x >>> (nI n &&& 31)) i = if n + i < 32 then bt x (n + i) else bt x 31 := by
  unfold bt
  rw [Int32.toBitVec_shiftRight]
  show (x.toBitVec.sshiftRight ((nI n &&& 31).toBitVec.smod 32).toNat).getLsbD i = _
  rw [s_l n hn, BitVec.getLsbD_sshiftRight, BitVec.msb_eq_getLsbD_last]
  simp [hi]
theorem b_shl8 (x : Int32) {i : Nat} (hi : i < 32) : bt (x <<< ((8 : Int32) &&& 31)) i = (decide (8 ≤ i) && bt x (i - 8)) := b_shl 8 (by omega) x hi
theorem b_shl16 (x : Int32) {i : Nat} (hi : i < 32) : bt (x <<< ((16 : Int32) &&& 31)) i = (decide (16 ≤ i) && bt x (i - 16)) := b_shl 16 (by omega) x hi
theorem b_shl24 (x : Int32) {i : Nat} (hi : i < 32) : bt (x <<< ((24 : Int32) &&& 31)) i = (decide (24 ≤ i) && bt x (i - 24)) := b_shl 24 (by omega) x hi
theorem b_sshr8 (x : Int32) {i : Nat} (hi : i < 32) : bt (x >>> ((8 : Int32) &&& 31)) i = if 8 + i < 32 then bt x (8 + i) else bt x 31 := b_sshr 8 (by omega) x hi
end
section
/-! bits of the word array, numbers in bits, the code of a block (pure) -/
theorem ba_s {x : Int32} (h1 : -32768 ≤ x.toInt) (h2 : x.toInt < 32768) : vp_nar .short x.toInt16.toInt32 = x := by
  rw [vp_nar_short, lg_i2s_small h1 h2, lg_i2s_small h1 h2]
theorem ba_s0 {x : Int32} (h1 : -32768 ≤ x.toInt) (h2 : x.toInt < 32768) : vp_nar .short x = x := by
  rw [vp_nar_short, lg_i2s_small h1 h2]
theorem ba_b {x : Int32} (h1 : -128 ≤ x.toInt) (h2 : x.toInt < 128) : vp_nar .byte x.toInt8.toInt32 = x := by
  rw [vp_nar_byte, lg_i2b_small h1 h2, lg_i2b_small h1 h2]
theorem ba_b0 {x : Int32} (h1 : -128 ≤ x.toInt) (h2 : x.toInt < 128) : vp_nar .byte x = x := by
  rw [vp_nar_byte, lg_i2b_small h1 h2]
theorem ba_sn {n : Nat} (h : n < 32768) : vp_nar .short (nI n).toInt16.toInt32 = nI n :=
  ba_s (by rw [nI_toInt (by omega)]; omega) (by rw [nI_toInt (by omega)]; omega)
theorem ba_sn0 {n : Nat} (h : n < 32768) : vp_nar .short (nI n) = nI n :=
  ba_s0 (by rw [nI_toInt (by omega)]; omega) (by rw [nI_toInt (by omega)]; omega)
theorem ba_bn {n : Nat} (h : n < 128) : vp_nar .byte (nI n).toInt8.toInt32 = nI n :=
  ba_b (by rw [nI_toInt (by omega)]; omega) (by rw [nI_toInt (by omega)]; omega)
theorem ba_bn0 {n : Nat} (h : n < 128) : vp_nar .byte (nI n) = nI n :=
  ba_b0 (by rw [nI_toInt (by omega)]; omega) (by rw [nI_toInt (by omega)]; omega)
/-- Int32 back from its number -/
theorem ba_of {x : Int32} (h : 0 ≤ x.toInt) : x = nI x.toInt.toNat := by
  apply Int32.toInt_inj.mp
  have h2 := x.toInt_lt
  rw [nI_toInt (by omega)]; omega
theorem ba_add {x y : Int32} (h1 : -2147483648 ≤ x.toInt + y.toInt) (h2 : x.toInt + y.toInt < 2147483648) : (x + y).toInt = x.toInt + y.toInt := by
  rw [Int32.toInt_add]; exact Int.bmod_eq_of_le (by omega) (by omega)
theorem ba_sub {x y : Int32} (h1 : -2147483648 ≤ x.toInt - y.toInt) (h2 : x.toInt - y.toInt < 2147483648) : (x - y).toInt = x.toInt - y.toInt := by
  rw [Int32.toInt_sub]; exact Int.bmod_eq_of_le (by omega) (by omega)
theorem ba_le {x y : Int32} : x ≤ y ↔ x.toInt ≤ y.toInt := Int32.le_iff_toInt_le
theorem ba_lt {x y : Int32} : x < y ↔ x.toInt < y.toInt := Int32.lt_iff_toInt_lt
theorem ba_in {x : Int32} {n N : Nat} (h : x = nI n) (hn : n < N) (hN : N < 2 ^ 31) : vp_in x N := by rw [h]; exact vp_in_nI hn hN

/-! ===== single bits ===== -/
def bi_at (a : Nat → Int32) (p : Nat) : Bool := bt (a (p / 32)) (p % 32)
theorem bi_shr5 {p : Nat} (h : p < 2 ^ 31) : nI p >>> ((5 : Int32) &&& 31) = nI (p / 32) := pk_shrN h _ 5 (by decide)
theorem bi_and31 {p : Nat} (h : p < 2 ^ 31) : nI p &&& 31 = nI (p % 32) := pk_andN (by omega) 5 (by decide)
theorem bi_cl {p : Nat} (h : p < 2 ^ 31) : (nI p >>> ((5 : Int32) &&& 31)).toNatClampNeg = p / 32 := by
  rw [bi_shr5 h]; exact nI_clamp (by omega)
theorem bi_in {p : Nat} (h : p < 20992) : vp_in (nI p >>> ((5 : Int32) &&& 31)) 656 := by
  rw [bi_shr5 (by omega)]; exact vp_in_nI (by omega) (by omega)
theorem bi_1 : ∀ i, i < 32 → bt 1 i = decide (i = 0) := by decide +kernel
theorem bi_mask {n : Nat} (hn : n < 32) {i : Nat} (hi : i < 32) : bt ((1 : Int32) <<< (nI n &&& 31)) i = decide (i = n) := by
  rw [b_shl n hn 1 hi]
  rcases Nat.lt_or_ge i n with h | h
  · rw [decide_eq_false (by omega), decide_eq_false (by omega)]; rfl
  · rw [bi_1 (i - n) (by omega), decide_eq_true h, Bool.true_and]
    by_cases e : i = n
    · rw [decide_eq_true e, decide_eq_true (by omega)]
    · rw [decide_eq_false e, decide_eq_false (by omega)]
theorem bi_or (a : Nat → Int32) (p q : Nat) : bi_at (upd a (p / 32) (a (p / 32) ||| ((1 : Int32) <<< (nI (p % 32) &&& 31)))) q = if q = p then true else bi_at a q := by
  unfold bi_at
  by_cases h : q / 32 = p / 32
  · rw [h, pk_us, b_or, bi_mask (Nat.mod_lt _ (by omega)) (Nat.mod_lt _ (by omega))]
    by_cases e : q = p
    · rw [if_pos e, decide_eq_true (by omega), Bool.or_true]
    · rw [if_neg e, decide_eq_false (by omega), Bool.or_false]
  · rw [pk_un h, if_neg (by intro e; exact h (by rw [e]))]
theorem bi_an (a : Nat → Int32) (p q : Nat) : bi_at (upd a (p / 32) (a (p / 32) &&& (((1 : Int32) <<< (nI (p % 32) &&& 31)) ^^^ (-1)))) q = if q = p then false else bi_at a q := by
  unfold bi_at
  by_cases h : q / 32 = p / 32
  · rw [h, pk_us, b_and, b_xor, bi_mask (Nat.mod_lt _ (by omega)) (Nat.mod_lt _ (by omega)), b_m1 _ (Nat.mod_lt _ (by omega))]
    by_cases e : q = p
    · rw [if_pos e, decide_eq_true (by omega)]; simp
    · rw [if_neg e, decide_eq_false (by omega)]; simp
  · rw [pk_un h, if_neg (by intro e; exact h (by rw [e]))]
theorem bi_and1 (x : Int32) : x &&& 1 = nI (bt x 0).toNat := by
  rw [pk_and x 1 (by decide)]
  unfold bt
  show nI (x.toBitVec.toNat % 2) = nI (x.toBitVec.toNat.testBit 0).toNat
  rw [Nat.testBit_zero]
  rcases Nat.mod_two_eq_zero_or_one x.toBitVec.toNat with h | h <;> rw [h] <;> rfl
theorem bi_get (a : Nat → Int32) {p : Nat} (h : p < 20992) : (((a (nI p >>> ((5 : Int32) &&& 31)).toNatClampNeg).toUInt32 >>> ((nI p &&& 31).toUInt32 &&& Int32.toUInt32 31)).toInt32) &&& 1 = nI (bi_at a p).toNat := by
  rw [bi_and1, bi_and31 (by omega), b_ushr _ (Nat.mod_lt _ (by omega)), bi_cl (by omega)]
  rfl
theorem bi_step (a : Nat → Int32) {p : Nat} (h : p < 20992) (x : Nat) : (2 * nI x) + ((((a (nI p >>> ((5 : Int32) &&& 31)).toNatClampNeg).toUInt32 >>> ((nI p &&& 31).toUInt32 &&& Int32.toUInt32 31)).toInt32) &&& 1) = nI (2 * x + (bi_at a p).toNat) := by
  rw [bi_get a h, show (2 : Int32) = nI 2 from rfl, pk_mul, nI_add]
/-- the bit that putBits asks for -/
theorem bi_ask {v c k : Nat} (hv : v < 2 ^ 31) (hk : k < c) (hc : c ≤ 31) : ((nI v >>> (((nI c - 1) - nI k) &&& 31)) &&& 1) = nI (v / 2 ^ (c - 1 - k) % 2) := by
  have e : (nI c - 1) - nI k = nI (c - 1 - k) := by
    rw [show (1 : Int32) = nI 1 from rfl, pk_sub (by omega), pk_sub (by omega)]
  rw [e, pk_shrN hv _ (c - 1 - k) (s_l _ (by omega)), pk_andN (Nat.lt_of_le_of_lt (Nat.div_le_self _ _) (by omega)) 1 (by decide)]

/-! ===== numbers in bits ===== -/
def bi_val (S : Nat → Bool) (p : Nat) : Nat → Nat
  | 0 => 0
  | w + 1 => 2 * bi_val S p w + (S (p + w)).toNat
theorem bi_val_congr {S S' : Nat → Bool} {p p' : Nat} : ∀ w, (∀ i, i < w → S' (p' + i) = S (p + i)) → bi_val S' p' w = bi_val S p w
  | 0, _ => rfl
  | w + 1, h => by
    simp only [bi_val]
    rw [bi_val_congr w (fun i hi => h i (by omega)), h w (by omega)]
theorem bi_val_lt (S : Nat → Bool) (p : Nat) : ∀ w, bi_val S p w < 2 ^ w
  | 0 => by simp [bi_val]
  | w + 1 => by
    have := bi_val_lt S p w
    have h2 : (S (p + w)).toNat ≤ 1 := Bool.toNat_le _
    simp only [bi_val]
    rw [Nat.pow_succ]; omega
theorem bi_dec (x : Nat) : (decide (x % 2 = 1)).toNat = x % 2 := by
  rcases Nat.mod_two_eq_zero_or_one x with h | h <;> rw [h] <;> rfl
/-- what putBits wrote, read back -/
theorem bi_put {S : Nat → Bool} {q w v : Nat} (h : ∀ i, i < w → S (q + i) = decide (v / 2 ^ (w - 1 - i) % 2 = 1)) (i0 : Nat) : ∀ j, i0 + j ≤ w → bi_val S (q + i0) j = v / 2 ^ (w - i0 - j) % 2 ^ j
  | 0, _ => by simp [bi_val, Nat.mod_one]
  | j + 1, hj => by
    have ih := bi_put h i0 j (by omega)
    simp only [bi_val]
    rw [ih, Nat.add_assoc, h (i0 + j) (by omega), bi_dec]
    have e1 : w - i0 - j = (w - i0 - (j + 1)) + 1 := by omega
    have e2 : w - 1 - (i0 + j) = w - i0 - (j + 1) := by omega
    rw [e1, e2, Nat.pow_succ, ← Nat.div_div_eq_div_mul]
    generalize v / 2 ^ (w - i0 - (j + 1)) = X
    rw [Nat.pow_succ, Nat.mul_comm (2 ^ j) 2, Nat.mod_mul]
    omega

/-! ===== signed numbers ===== -/
def en_unf (x : Nat) : Int32 := if x % 2 = 0 then nI (x / 2) else -(nI ((x + 1) / 2))
def en_fd (d : Int32) : Nat := if d.toInt < 0 then (-2 * d.toInt - 1).toNat else (2 * d.toInt).toNat
theorem en_unf_fd {d : Int32} (h1 : -4096 ≤ d.toInt) (h2 : d.toInt ≤ 4096) : en_unf (en_fd d) = d := by
  unfold en_unf en_fd
  apply Int32.toInt_inj.mp
  by_cases h : d.toInt < 0
  · rw [if_pos h, if_neg (by omega), sb_negT (by omega)]; omega
  · rw [if_neg h, if_pos (by omega), nI_toInt (by omega)]; omega
theorem en_fd_le {d : Int32} {B : Nat} (h1 : -(B : Int) ≤ d.toInt) (h2 : d.toInt ≤ B) : en_fd d ≤ 2 * B := by
  unfold en_fd
  by_cases h : d.toInt < 0
  · rw [if_pos h]; omega
  · rw [if_neg h]; omega
theorem en_ndiv {w : Nat} (hw : w < 2 ^ 31) : (-nI w) / 2 = -nI (w / 2) := by
  apply Int32.toInt_inj.mp
  have h100 : (2 : Int32).toInt = 2 := by decide
  rw [Int32.toInt_div, sb_negT hw, h100, sb_negT (by omega), Int.neg_tdiv, Int.tdiv_eq_ediv_of_nonneg (by omega), Int.bmod_eq_of_le (by omega) (by omega)]
  omega

/-! ===== a coded number: 0; 10 and few bits; 11 and many bits ===== -/
def en_num (S : Nat → Bool) (q few many : Nat) : Int32 × Nat :=
  if S q = false then (0, 1) else if S (q + 1) = false then (en_unf (bi_val S (q + 2) few), 2 + few) else (en_unf (bi_val S (q + 2) many), 2 + many)
theorem en_num_1 {S : Nat → Bool} {q few many : Nat} (h : S q = false) : en_num S q few many = (0, 1) := by unfold en_num; rw [if_pos h]
theorem en_num_2 {S : Nat → Bool} {q few many : Nat} (h : S q = true) (h2 : S (q + 1) = false) : en_num S q few many = (en_unf (bi_val S (q + 2) few), 2 + few) := by
  unfold en_num; rw [if_neg (by rw [h]; decide), if_pos h2]
theorem en_num_3 {S : Nat → Bool} {q few many : Nat} (h : S q = true) (h2 : S (q + 1) = true) : en_num S q few many = (en_unf (bi_val S (q + 2) many), 2 + many) := by
  unfold en_num; rw [if_neg (by rw [h]; decide), if_neg (by rw [h2]; decide)]
theorem en_num_congr {S S' : Nat → Bool} {q q' few many : Nat} (h : ∀ i, i < (en_num S q few many).2 → S' (q' + i) = S (q + i)) : en_num S' q' few many = en_num S q few many := by
  cases h1 : S q with
  | false =>
    rw [en_num_1 h1] at h ⊢
    exact en_num_1 ((h 0 (by decide)).trans h1)
  | true =>
    cases h2 : S (q + 1) with
    | false =>
      rw [en_num_2 h1 h2] at h ⊢
      dsimp only at h
      rw [en_num_2 (q := q') ((h 0 (by omega)).trans h1) ((h 1 (by omega)).trans h2)]
      rw [bi_val_congr (S := S) (p := q + 2) few (fun i hi => by rw [Nat.add_assoc, Nat.add_assoc]; exact h (2 + i) (by omega))]
    | true =>
      rw [en_num_3 h1 h2] at h ⊢
      dsimp only at h
      rw [en_num_3 (q := q') ((h 0 (by omega)).trans h1) ((h 1 (by omega)).trans h2)]
      rw [bi_val_congr (S := S) (p := q + 2) many (fun i hi => by rw [Nat.add_assoc, Nat.add_assoc]; exact h (2 + i) (by omega))]
theorem en_num_len (S : Nat → Bool) (q few many : Nat) (h : few ≤ many) : 1 ≤ (en_num S q few many).2 ∧ (en_num S q few many).2 ≤ 2 + many := by
  unfold en_num
  split
  · exact ⟨by show 1 ≤ 1; omega, by show 1 ≤ _; omega⟩
  · split
    · exact ⟨by show 1 ≤ 2 + few; omega, by show 2 + few ≤ _; omega⟩
    · exact ⟨by show 1 ≤ 2 + many; omega, by show 2 + many ≤ _; omega⟩

/-! ===== the samples of a block out of its bits: time, value, step, bits read ===== -/
def en_st (S : Nat → Bool) : Nat → Int32 × Int32 × Int32 × Nat
  | 0 => (nI (bi_val S 0 10), en_unf (bi_val S 10 11), 0, 21)
  | k + 1 => ((en_st S k).1 + ((en_st S k).2.2.1 + (en_num S (en_st S k).2.2.2 5 11).1), (en_st S k).2.1 + (en_num S ((en_st S k).2.2.2 + (en_num S (en_st S k).2.2.2 5 11).2) 6 12).1, (en_st S k).2.2.1 + (en_num S (en_st S k).2.2.2 5 11).1, (en_st S k).2.2.2 + (en_num S (en_st S k).2.2.2 5 11).2 + (en_num S ((en_st S k).2.2.2 + (en_num S (en_st S k).2.2.2 5 11).2) 6 12).2)
def en_t (S : Nat → Bool) (k : Nat) : Int32 := (en_st S k).1
def en_v (S : Nat → Bool) (k : Nat) : Int32 := (en_st S k).2.1
def en_s (S : Nat → Bool) (k : Nat) : Int32 := (en_st S k).2.2.1
def en_o (S : Nat → Bool) (k : Nat) : Nat := (en_st S k).2.2.2
theorem en_t_s (S : Nat → Bool) (k : Nat) : en_t S (k + 1) = en_t S k + en_s S (k + 1) := rfl
theorem en_s_s (S : Nat → Bool) (k : Nat) : en_s S (k + 1) = en_s S k + (en_num S (en_o S k) 5 11).1 := rfl
theorem en_v_s (S : Nat → Bool) (k : Nat) : en_v S (k + 1) = en_v S k + (en_num S (en_o S k + (en_num S (en_o S k) 5 11).2) 6 12).1 := rfl
theorem en_o_s (S : Nat → Bool) (k : Nat) : en_o S (k + 1) = en_o S k + (en_num S (en_o S k) 5 11).2 + (en_num S (en_o S k + (en_num S (en_o S k) 5 11).2) 6 12).2 := rfl
theorem en_o_b (S : Nat → Bool) (k : Nat) : en_o S k + 2 ≤ en_o S (k + 1) ∧ en_o S (k + 1) ≤ en_o S k + 27 := by
  rw [en_o_s]
  have h1 := en_num_len S (en_o S k) 5 11 (by omega)
  have h2 := en_num_len S (en_o S k + (en_num S (en_o S k) 5 11).2) 6 12 (by omega)
  omega
theorem en_o_r (S : Nat → Bool) : ∀ k, 21 ≤ en_o S k ∧ en_o S k ≤ 21 + 27 * k
  | 0 => ⟨Nat.le_refl 21, Nat.le_refl 21⟩
  | k + 1 => by have := en_o_r S k; have := en_o_b S k; omega
theorem en_o_m (S : Nat → Bool) {i : Nat} : ∀ {j}, i ≤ j → en_o S i ≤ en_o S j
  | 0, h => by have : i = 0 := by omega
               subst this; exact Nat.le_refl _
  | j + 1, h => by
    rcases Nat.eq_or_lt_of_le h with e | e
    · rw [e]; exact Nat.le_refl _
    · have := en_o_m S (i := i) (j := j) (by omega); have := en_o_b S j; omega
theorem en_st_congr {S S' : Nat → Bool} : ∀ k, (∀ i, i < en_o S k → S' i = S i) → en_st S' k = en_st S k
  | 0, h => by
    have h' : ∀ i, i < 21 → S' i = S i := h
    simp only [en_st]
    rw [bi_val_congr (S := S) (S' := S') (p := 0) (p' := 0) 10 (fun i hi => h' _ (by omega)), bi_val_congr (S := S) (S' := S') (p := 10) (p' := 10) 11 (fun i hi => h' _ (by omega))]
  | k + 1, h => by
    rw [en_o_s] at h
    have h1 := en_num_len S (en_o S k) 5 11 (by omega)
    have ih := en_st_congr k (fun i hi => h i (by omega))
    have e1 : en_num S' (en_o S k) 5 11 = en_num S (en_o S k) 5 11 := en_num_congr (fun i hi => h _ (by omega))
    have e2 : en_num S' (en_o S k + (en_num S (en_o S k) 5 11).2) 6 12 = en_num S (en_o S k + (en_num S (en_o S k) 5 11).2) 6 12 := en_num_congr (fun i hi => h _ (by omega))
    unfold en_o at e1 e2
    simp only [en_st]
    rw [ih, e1, e2]

/-- the bits S hold c samples (f, g) in bc bits -/
def en_ok (S : Nat → Bool) (f g : Nat → Int32) (c bc : Nat) : Prop :=
  1 ≤ c ∧ (∀ k, k < c → en_t S k = f k ∧ en_v S k = g k) ∧ en_o S (c - 1) = bc
theorem en_ok_bc {S : Nat → Bool} {f g : Nat → Int32} {c bc : Nat} (h : en_ok S f g c bc) : 21 ≤ bc ∧ bc ≤ 27 * c - 6 := by
  obtain ⟨h1, _, h3⟩ := h
  have := en_o_r S (c - 1)
  omega
theorem en_ok_congr {S S' : Nat → Bool} {f g f' g' : Nat → Int32} {c bc : Nat} (h : en_ok S f g c bc) (hS : ∀ i, i < bc → S' i = S i) (hf : ∀ k, k < c → f' k = f k ∧ g' k = g k) : en_ok S' f' g' c bc ∧ ∀ k, k < c → en_s S' k = en_s S k := by
  obtain ⟨h1, h2, h3⟩ := h
  have e : ∀ k, k < c → en_st S' k = en_st S k := fun k hk => en_st_congr k (fun i hi => hS i (by have := en_o_m S (i := k) (j := c - 1) (by omega); omega))
  refine ⟨⟨h1, fun k hk => ?_, ?_⟩, fun k hk => ?_⟩
  · have := h2 k hk
    unfold en_t en_v at this ⊢
    rw [e k hk, (hf k hk).1, (hf k hk).2]; exact this
  · unfold en_o at h3 ⊢
    rw [e _ (by omega)]; exact h3
  · unfold en_s
    rw [e k hk]
/-- the step that the code holds is the difference of the last two times -/
theorem en_ok_step {S : Nat → Bool} {f g : Nat → Int32} {c bc : Nat} (h : en_ok S f g c bc) : en_s S 0 = 0 ∧ ∀ k, k + 1 < c → en_s S (k + 1) = f (k + 1) - f k := by
  refine ⟨rfl, fun k hk => ?_⟩
  have h1 := (h.2.1 (k + 1) hk).1
  have h0 := (h.2.1 k (by omega)).1
  rw [en_t_s, h0] at h1
  rw [← h1]; grind
theorem en_ok_one {S : Nat → Bool} {f g : Nat → Int32} {t : Nat} (h1 : bi_val S 0 10 = t) (h2 : en_unf (bi_val S 10 11) = g 0) (hf : f 0 = nI t) : en_ok S f g 1 21 := by
  refine ⟨Nat.le_refl 1, fun k hk => ?_, rfl⟩
  have e : k = 0 := by omega
  subst e
  exact ⟨by rw [hf, ← h1]; rfl, by rw [← h2]; rfl⟩
theorem en_ok_snoc {S S' : Nat → Bool} {f g : Nat → Int32} {c bc l1 l2 : Nat} {d e : Int32} (h : en_ok S f g c bc) (hS : ∀ i, i < bc → S' i = S i)
    (h1 : en_num S' bc 5 11 = (d, l1)) (h2 : en_num S' (bc + l1) 6 12 = (e, l2)) (hf : f c = f (c - 1) + (en_s S (c - 1) + d)) (hg : g c = g (c - 1) + e) :
    en_ok S' f g (c + 1) (bc + l1 + l2) ∧ en_s S' c = en_s S (c - 1) + d := by
  obtain ⟨⟨k1, k2, k3⟩, k4⟩ := en_ok_congr h hS (fun k _ => ⟨rfl, rfl⟩)
  obtain ⟨m, rfl⟩ : ∃ m, c = m + 1 := ⟨c - 1, by omega⟩
  have k3' : en_o S' m = bc := k3
  have k4' : en_s S' m = en_s S m := k4 m (by omega)
  have hs : en_s S' (m + 1) = en_s S m + d := by rw [en_s_s, k3', h1, k4']
  refine ⟨⟨by omega, fun k hk => ?_, ?_⟩, hs⟩
  · rcases Nat.lt_or_ge k (m + 1) with z | z
    · exact k2 k z
    · have ek : k = m + 1 := by omega
      subst ek
      have := k2 m (by omega)
      refine ⟨?_, ?_⟩
      · rw [en_t_s, hs, this.1, hf]; rfl
      · rw [en_v_s, k3', h1, this.2, hg]
        show g m + (en_num S' (bc + l1) 6 12).1 = _
        rw [h2]; rfl
  · show en_o S' (m + 1) = _
    rw [en_o_s, k3', h1]
    show bc + l1 + (en_num S' (bc + l1) 6 12).2 = _
    rw [h2]
end
section
/-! the component's walks over bits: putBits, takeBits, folded, unfolded, takeNumber, packStep, packChange, moveBits -/
theorem ba_mul {x y : Int32} (h1 : -2147483648 ≤ x.toInt * y.toInt) (h2 : x.toInt * y.toInt < 2147483648) : (x * y).toInt = x.toInt * y.toInt := by
  rw [Int32.toInt_mul]; exact Int.bmod_eq_of_le (by omega) (by omega)
def bi_wr (B B' : Nat → Bool) (p c v : Nat) : Prop := ∀ q, B' q = if p ≤ q ∧ q < p + c then decide (v / 2 ^ (c - 1 - (q - p)) % 2 = 1) else B q
theorem bi_wr_in {B B' : Nat → Bool} {p c v : Nat} (h : bi_wr B B' p c v) : ∀ i, i < c → B' (p + i) = decide (v / 2 ^ (c - 1 - i) % 2 = 1) := by
  intro i hi
  rw [h (p + i), if_pos (by omega), Nat.add_sub_cancel_left]
theorem bi_wr_out {B B' : Nat → Bool} {p c v : Nat} (h : bi_wr B B' p c v) {q : Nat} (hq : q < p ∨ p + c ≤ q) : B' q = B q := by
  rw [h q, if_neg (by omega)]
theorem bi_val1 (B : Nat → Bool) (p : Nat) : bi_val B p 1 = (B p).toNat := by
  show 2 * 0 + (B (p + 0)).toNat = _
  rw [Nat.add_zero]; omega
theorem wx_put_l (f_seriesCount f_safeCount f_arenaEnd f_position f_foundCount f_foundSum f_foundLeast f_foundMost f_foundGrowth f_before f_hasBefore f_levelNow : Int32) (a_labelsOf a_first a_end a_safeFirst a_safeEnd a_lastTime a_safeLast a_having a_blockCount a_startBit a_bitCount a_sampleCount a_firstNumber a_fromTime a_toTime a_fromValue a_toValue a_total a_smallest a_greatest a_grown a_bits a_lastStep a_times a_values : Nat → Int32) {p c v : Nat} (hp : p + c ≤ 20992) (hc : c ≤ 31) (hv : v < 2 ^ 31) : ∀ (d k : Nat) (a : Nat → Int32), k + d = c → ∃ b' : Nat → Int32, (∀ q, bi_at b' q = if p + k ≤ q ∧ q < p + c then decide (v / 2 ^ (c - 1 - (q - p)) % 2 = 1) else bi_at a q) ∧ ∀ post : SX → Prop, post (f_seriesCount, f_safeCount, f_arenaEnd, f_position, f_foundCount, f_foundSum, f_foundLeast, f_foundMost, f_foundGrowth, f_before, f_hasBefore, f_levelNow, a_labelsOf, a_first, a_end, a_safeFirst, a_safeEnd, a_lastTime, a_safeLast, a_having, a_blockCount, a_startBit, a_bitCount, a_sampleCount, a_firstNumber, a_fromTime, a_toTime, a_fromValue, a_toValue, a_total, a_smallest, a_greatest, a_grown, b', a_lastStep, a_times, a_values) → wX_putBits_3 post (nI p) (nI c) (nI v) f_seriesCount f_safeCount f_arenaEnd f_position f_foundCount f_foundSum f_foundLeast f_foundMost f_foundGrowth f_before f_hasBefore f_levelNow (d + 1) (nI k) a_labelsOf a_first a_end a_safeFirst a_safeEnd a_lastTime a_safeLast a_having a_blockCount a_startBit a_bitCount a_sampleCount a_firstNumber a_fromTime a_toTime a_fromValue a_toValue a_total a_smallest a_greatest a_grown a a_lastStep a_times a_values := by
  intro d
  induction d with
  | zero =>
    intro k a hk
    exact ⟨a, fun q => by rw [if_neg (by omega)], fun post hq => br_t (nI_le (by omega) (by omega)) hq⟩
  | succ d ih =>
    intro k a hk
    have hin : vp_in (nI (p + k) >>> ((5 : Int32) &&& 31)) 656 := bi_in (by omega)
    have hcl := bi_cl (p := p + k) (by omega)
    have hask := bi_ask (k := k) hv (by omega) hc
    have hlt : ¬ nI c ≤ nI k := nI_ge (by omega) (by omega)
    have hm := congrArg (fun z : Int32 => (1 : Int32) <<< (z &&& 31)) (bi_and31 (p := p + k) (by omega))
    by_cases z : v / 2 ^ (c - 1 - k) % 2 = 0
    · obtain ⟨b', hb, W⟩ := ih (k + 1) (upd a ((p + k) / 32) (a ((p + k) / 32) &&& (((1 : Int32) <<< (nI ((p + k) % 32) &&& 31)) ^^^ (-1)))) (by omega)
      refine ⟨b', fun q => ?_, fun post hq => br_f hlt (nm_r (nI_add p k) (nm_r hm (br_t (hask.trans (by rw [z]; rfl)) ⟨hin, hin, nm_r (by rw [hcl]) (nm_r (nI_1 k) (W post hq))⟩)))⟩
      rw [hb q, bi_an]
      by_cases e : q = p + k
      · rw [if_neg (by omega), if_pos e, if_pos (by omega), e, Nat.add_sub_cancel_left, z]; rfl
      · rw [if_neg e]
        by_cases e2 : p + k ≤ q ∧ q < p + c
        · rw [if_pos e2, if_pos (by omega)]
        · rw [if_neg e2, if_neg (by omega)]
    · obtain ⟨b', hb, W⟩ := ih (k + 1) (upd a ((p + k) / 32) (a ((p + k) / 32) ||| ((1 : Int32) <<< (nI ((p + k) % 32) &&& 31)))) (by omega)
      have z1 : v / 2 ^ (c - 1 - k) % 2 = 1 := by omega
      refine ⟨b', fun q => ?_, fun post hq => br_f hlt (nm_r (nI_add p k) (nm_r hm (br_f (by rw [hask, z1]; decide) ⟨hin, hin, nm_r (by rw [hcl]) (nm_r (nI_1 k) (W post hq))⟩)))⟩
      rw [hb q, bi_or]
      by_cases e : q = p + k
      · rw [if_neg (by omega), if_pos e, if_pos (by omega), e, Nat.add_sub_cancel_left, z1]; rfl
      · rw [if_neg e]
        by_cases e2 : p + k ≤ q ∧ q < p + c
        · rw [if_pos e2, if_pos (by omega)]
        · rw [if_neg e2, if_neg (by omega)]
theorem wx_put (f_seriesCount f_safeCount f_arenaEnd f_position f_foundCount f_foundSum f_foundLeast f_foundMost f_foundGrowth f_before f_hasBefore f_levelNow : Int32) (a_labelsOf a_first a_end a_safeFirst a_safeEnd a_lastTime a_safeLast a_having a_blockCount a_startBit a_bitCount a_sampleCount a_firstNumber a_fromTime a_toTime a_fromValue a_toValue a_total a_smallest a_greatest a_grown a_bits a_lastStep a_times a_values : Nat → Int32) {P C V : Int32} (p c v : Nat) (hP : P = nI p) (hC : C = nI c) (hV : V = nI v) (hp : p + c ≤ 20992) (hc : c ≤ 31) (hv : v < 2 ^ 31) : ∃ b' : Nat → Int32, bi_wr (bi_at a_bits) (bi_at b') p c v ∧ ∀ post : SX → Prop, post (f_seriesCount, f_safeCount, f_arenaEnd, f_position, f_foundCount, f_foundSum, f_foundLeast, f_foundMost, f_foundGrowth, f_before, f_hasBefore, f_levelNow, a_labelsOf, a_first, a_end, a_safeFirst, a_safeEnd, a_lastTime, a_safeLast, a_having, a_blockCount, a_startBit, a_bitCount, a_sampleCount, a_firstNumber, a_fromTime, a_toTime, a_fromValue, a_toValue, a_total, a_smallest, a_greatest, a_grown, b', a_lastStep, a_times, a_values) → wpX_putBits post (f_seriesCount, f_safeCount, f_arenaEnd, f_position, f_foundCount, f_foundSum, f_foundLeast, f_foundMost, f_foundGrowth, f_before, f_hasBefore, f_levelNow, a_labelsOf, a_first, a_end, a_safeFirst, a_safeEnd, a_lastTime, a_safeLast, a_having, a_blockCount, a_startBit, a_bitCount, a_sampleCount, a_firstNumber, a_fromTime, a_toTime, a_fromValue, a_toValue, a_total, a_smallest, a_greatest, a_grown, a_bits, a_lastStep, a_times, a_values) P C V := by
  subst hP hC hV
  obtain ⟨b', hb, W⟩ := wx_put_l f_seriesCount f_safeCount f_arenaEnd f_position f_foundCount f_foundSum f_foundLeast f_foundMost f_foundGrowth f_before f_hasBefore f_levelNow a_labelsOf a_first a_end a_safeFirst a_safeEnd a_lastTime a_safeLast a_having a_blockCount a_startBit a_bitCount a_sampleCount a_firstNumber a_fromTime a_toTime a_fromValue a_toValue a_total a_smallest a_greatest a_grown a_bits a_lastStep a_times a_values hp hc hv c 0 a_bits (by omega)
  exact ⟨b', hb, fun post hq => ⟨c + 1, W post hq⟩⟩
section
variable {f_seriesCount f_safeCount f_arenaEnd f_position f_foundCount f_foundSum f_foundLeast f_foundMost f_foundGrowth f_before f_hasBefore f_levelNow : Int32} {a_labelsOf a_first a_end a_safeFirst a_safeEnd a_lastTime a_safeLast a_having a_blockCount a_startBit a_bitCount a_sampleCount a_firstNumber a_fromTime a_toTime a_fromValue a_toValue a_total a_smallest a_greatest a_grown a_bits a_lastStep a_times a_values : Nat → Int32}
theorem wx_take_l {post : Int32 → SX → Prop} {p w : Nat} (h : p + w ≤ 20992) (hw : w ≤ 31) (H : post (nI (bi_val (bi_at a_bits) p w)) (f_seriesCount, f_safeCount, f_arenaEnd, nI (p + w), f_foundCount, f_foundSum, f_foundLeast, f_foundMost, f_foundGrowth, f_before, f_hasBefore, f_levelNow, a_labelsOf, a_first, a_end, a_safeFirst, a_safeEnd, a_lastTime, a_safeLast, a_having, a_blockCount, a_startBit, a_bitCount, a_sampleCount, a_firstNumber, a_fromTime, a_toTime, a_fromValue, a_toValue, a_total, a_smallest, a_greatest, a_grown, a_bits, a_lastStep, a_times, a_values)) : ∀ d k : Nat, k + d = w → wX_takeBits_4 post (nI w) f_seriesCount f_safeCount f_arenaEnd f_foundCount f_foundSum f_foundLeast f_foundMost f_foundGrowth f_before f_hasBefore f_levelNow a_labelsOf a_first a_end a_safeFirst a_safeEnd a_lastTime a_safeLast a_having a_blockCount a_startBit a_bitCount a_sampleCount a_firstNumber a_fromTime a_toTime a_fromValue a_toValue a_total a_smallest a_greatest a_grown a_bits a_lastStep a_times a_values (d + 1) (nI (bi_val (bi_at a_bits) p k)) (nI k) (nI (p + k)) := by
  intro d
  induction d with
  | zero =>
    intro k hk
    have e : k = w := by omega
    subst e
    exact br_t (nI_le (by omega) (by omega)) H
  | succ d ih =>
    intro k hk
    exact br_f (nI_ge (by omega) (by omega)) ⟨bi_in (by omega), nm_r (bi_step a_bits (by omega) _) (nm_r (nI_1 (p + k)) (nm_r (nI_1 k) (ih (k + 1) (by omega))))⟩
theorem wx_take {post : Int32 → SX → Prop} {W : Int32} (p w : Nat) (hp : f_position = nI p) (hW : W = nI w) (h : p + w ≤ 20992) (hw : w ≤ 31) (H : post (nI (bi_val (bi_at a_bits) p w)) (f_seriesCount, f_safeCount, f_arenaEnd, nI (p + w), f_foundCount, f_foundSum, f_foundLeast, f_foundMost, f_foundGrowth, f_before, f_hasBefore, f_levelNow, a_labelsOf, a_first, a_end, a_safeFirst, a_safeEnd, a_lastTime, a_safeLast, a_having, a_blockCount, a_startBit, a_bitCount, a_sampleCount, a_firstNumber, a_fromTime, a_toTime, a_fromValue, a_toValue, a_total, a_smallest, a_greatest, a_grown, a_bits, a_lastStep, a_times, a_values)) : wpX_takeBits post (f_seriesCount, f_safeCount, f_arenaEnd, f_position, f_foundCount, f_foundSum, f_foundLeast, f_foundMost, f_foundGrowth, f_before, f_hasBefore, f_levelNow, a_labelsOf, a_first, a_end, a_safeFirst, a_safeEnd, a_lastTime, a_safeLast, a_having, a_blockCount, a_startBit, a_bitCount, a_sampleCount, a_firstNumber, a_fromTime, a_toTime, a_fromValue, a_toValue, a_total, a_smallest, a_greatest, a_grown, a_bits, a_lastStep, a_times, a_values) W := by
  subst hp hW
  exact ⟨w + 1, wx_take_l h hw H w 0 (by omega)⟩
theorem wx_folded {post : Int32 → Prop} {d : Int32} (h1 : -4096 ≤ d.toInt) (h2 : d.toInt ≤ 4096) (H : post (nI (en_fd d))) : wpX_folded post (f_seriesCount, f_safeCount, f_arenaEnd, f_position, f_foundCount, f_foundSum, f_foundLeast, f_foundMost, f_foundGrowth, f_before, f_hasBefore, f_levelNow, a_labelsOf, a_first, a_end, a_safeFirst, a_safeEnd, a_lastTime, a_safeLast, a_having, a_blockCount, a_startBit, a_bitCount, a_sampleCount, a_firstNumber, a_fromTime, a_toTime, a_fromValue, a_toValue, a_total, a_smallest, a_greatest, a_grown, a_bits, a_lastStep, a_times, a_values) d := by
  have z0 : (0 : Int32).toInt = 0 := by decide
  have zm : (-2 : Int32).toInt = -2 := by decide
  have z2 : (2 : Int32).toInt = 2 := by decide
  have z1 : (1 : Int32).toInt = 1 := by decide
  by_cases h : d < 0
  · have e : (-2) * d - 1 = nI (en_fd d) := by
      rw [ba_lt, z0] at h
      have em : ((-2 : Int32) * d).toInt = -2 * d.toInt := by rw [ba_mul (by rw [zm]; omega) (by rw [zm]; omega), zm]
      apply Int32.toInt_inj.mp
      rw [ba_sub (by rw [em, z1]; omega) (by rw [em, z1]; omega), em, z1]
      unfold en_fd
      rw [if_pos h, nI_toInt (by omega)]; omega
    exact br_t h (by rw [e]; exact H)
  · have e : 2 * d = nI (en_fd d) := by
      rw [ba_lt, z0] at h
      apply Int32.toInt_inj.mp
      rw [ba_mul (by rw [z2]; omega) (by rw [z2]; omega), z2]
      unfold en_fd
      rw [if_neg h, nI_toInt (by omega)]; omega
    exact br_f h (by rw [e]; exact H)
theorem wx_unfolded {post : Int32 → Prop} {X : Int32} (x : Nat) (hX : X = nI x) (hx : x < 65536) (H : post (en_unf x)) : wpX_unfolded post (f_seriesCount, f_safeCount, f_arenaEnd, f_position, f_foundCount, f_foundSum, f_foundLeast, f_foundMost, f_foundGrowth, f_before, f_hasBefore, f_levelNow, a_labelsOf, a_first, a_end, a_safeFirst, a_safeEnd, a_lastTime, a_safeLast, a_having, a_blockCount, a_startBit, a_bitCount, a_sampleCount, a_firstNumber, a_fromTime, a_toTime, a_fromValue, a_toValue, a_total, a_smallest, a_greatest, a_grown, a_bits, a_lastStep, a_times, a_values) X := by
  subst hX
  have e1 : nI x &&& 1 = nI (x % 2) := pk_andN (by omega) 1 (by decide)
  unfold en_unf at H
  by_cases h : x % 2 = 0
  · rw [if_pos h] at H
    refine br_t (e1.trans (by rw [h]; rfl)) ⟨by decide, ?_⟩
    rw [show (2 : Int32) = nI 2 from rfl, pk_div (by omega) (by omega) (by omega)]
    exact H
  · rw [if_neg h] at H
    have h1 : x % 2 = 1 := by omega
    refine br_f (by rw [e1, h1]; decide) ⟨by decide, ?_⟩
    rw [nI_1, en_ndiv (by omega)]
    exact H
theorem wx_num {post : Int32 → SX → Prop} {P Q : Int32} (p few many : Nat) (hp : f_position = nI p) (hP : P = nI few) (hQ : Q = nI many) (hf : few ≤ many) (hm : many ≤ 12) (h : p + (en_num (bi_at a_bits) p few many).2 ≤ 20992)
    (H : post (en_num (bi_at a_bits) p few many).1 (f_seriesCount, f_safeCount, f_arenaEnd, nI (p + (en_num (bi_at a_bits) p few many).2), f_foundCount, f_foundSum, f_foundLeast, f_foundMost, f_foundGrowth, f_before, f_hasBefore, f_levelNow, a_labelsOf, a_first, a_end, a_safeFirst, a_safeEnd, a_lastTime, a_safeLast, a_having, a_blockCount, a_startBit, a_bitCount, a_sampleCount, a_firstNumber, a_fromTime, a_toTime, a_fromValue, a_toValue, a_total, a_smallest, a_greatest, a_grown, a_bits, a_lastStep, a_times, a_values)) : wpX_takeNumber post (f_seriesCount, f_safeCount, f_arenaEnd, f_position, f_foundCount, f_foundSum, f_foundLeast, f_foundMost, f_foundGrowth, f_before, f_hasBefore, f_levelNow, a_labelsOf, a_first, a_end, a_safeFirst, a_safeEnd, a_lastTime, a_safeLast, a_having, a_blockCount, a_startBit, a_bitCount, a_sampleCount, a_firstNumber, a_fromTime, a_toTime, a_fromValue, a_toValue, a_total, a_smallest, a_greatest, a_grown, a_bits, a_lastStep, a_times, a_values) P Q := by
  have hl := en_num_len (bi_at a_bits) p few many hf
  have hv : ∀ q w : Nat, w ≤ 12 → bi_val (bi_at a_bits) q w < 65536 := fun q w hw => Nat.lt_of_lt_of_le (bi_val_lt _ q w) (Nat.le_trans (Nat.pow_le_pow_right (by decide) hw) (by decide))
  cases h1 : bi_at a_bits p with
  | false =>
    rw [en_num_1 h1] at H
    refine wx_take p 1 hp rfl (by omega) (by omega) (br_t ?_ H)
    rw [bi_val1, h1]; rfl
  | true =>
    refine wx_take p 1 hp rfl (by omega) (by omega) (br_f ?_ ?_)
    · rw [bi_val1, h1]; decide
    cases h2 : bi_at a_bits (p + 1) with
    | false =>
      rw [en_num_2 h1 h2] at H h
      dsimp only at H h
      rw [← Nat.add_assoc] at H h
      refine wx_take (p + 1) 1 rfl rfl (by omega) (by omega) (br_t ?_ ?_)
      · rw [bi_val1, h2]; rfl
      · exact wx_take (p + 2) few rfl hP (by omega) (by omega) (wx_unfolded _ rfl (hv _ _ (by omega)) H)
    | true =>
      rw [en_num_3 h1 h2] at H h
      dsimp only at H h
      rw [← Nat.add_assoc] at H h
      refine wx_take (p + 1) 1 rfl rfl (by omega) (by omega) (br_f ?_ ?_)
      · rw [bi_val1, h2]; decide
      · exact wx_take (p + 2) many rfl hQ (by omega) (by omega) (wx_unfolded _ rfl (hv _ _ (by omega)) H)
end
/-! writing a coded number -/
theorem en_put1 {B B' : Nat → Bool} {p few many : Nat} (h : bi_wr B B' p 1 0) : en_num B' p few many = (0, 1) := en_num_1 ((bi_wr_in h 0 (by omega)).trans rfl)
theorem en_put5 {B B' : Nat → Bool} {p x : Nat} (hx : x < 32) (h : bi_wr B B' p 7 (64 + x)) : en_num B' p 5 11 = (en_unf x, 7) := by
  have h' := bi_wr_in h
  have e0 : (64 + x) / 64 % 2 = 1 := by omega
  have e1 : ¬ (64 + x) / 32 % 2 = 1 := by omega
  rw [en_num_2 (q := p) ((h' 0 (by omega)).trans (decide_eq_true e0)) ((h' 1 (by omega)).trans (decide_eq_false e1)), bi_put h' 2 5 (by omega)]
  have e2 : (64 + x) / 1 % 32 = x := by omega
  exact congrArg (fun z => (en_unf z, 7)) e2
theorem en_put6 {B B' : Nat → Bool} {p x : Nat} (hx : x < 64) (h : bi_wr B B' p 8 (128 + x)) : en_num B' p 6 12 = (en_unf x, 8) := by
  have h' := bi_wr_in h
  have e0 : (128 + x) / 128 % 2 = 1 := by omega
  have e1 : ¬ (128 + x) / 64 % 2 = 1 := by omega
  rw [en_num_2 (q := p) ((h' 0 (by omega)).trans (decide_eq_true e0)) ((h' 1 (by omega)).trans (decide_eq_false e1)), bi_put h' 2 6 (by omega)]
  have e2 : (128 + x) / 1 % 64 = x := by omega
  exact congrArg (fun z => (en_unf z, 8)) e2
theorem en_put11 {B B' : Nat → Bool} {p x : Nat} (hx : x < 2048) (h : bi_wr B B' p 13 (6144 + x)) : en_num B' p 5 11 = (en_unf x, 13) := by
  have h' := bi_wr_in h
  have e0 : (6144 + x) / 4096 % 2 = 1 := by omega
  have e1 : (6144 + x) / 2048 % 2 = 1 := by omega
  rw [en_num_3 (q := p) ((h' 0 (by omega)).trans (decide_eq_true e0)) ((h' 1 (by omega)).trans (decide_eq_true e1)), bi_put h' 2 11 (by omega)]
  have e2 : (6144 + x) / 1 % 2048 = x := by omega
  exact congrArg (fun z => (en_unf z, 13)) e2
theorem en_put12 {B B' : Nat → Bool} {p x : Nat} (hx : x < 4096) (h : bi_wr B B' p 14 (12288 + x)) : en_num B' p 6 12 = (en_unf x, 14) := by
  have h' := bi_wr_in h
  have e0 : (12288 + x) / 8192 % 2 = 1 := by omega
  have e1 : (12288 + x) / 4096 % 2 = 1 := by omega
  rw [en_num_3 (q := p) ((h' 0 (by omega)).trans (decide_eq_true e0)) ((h' 1 (by omega)).trans (decide_eq_true e1)), bi_put h' 2 12 (by omega)]
  have e2 : (12288 + x) / 1 % 4096 = x := by omega
  exact congrArg (fun z => (en_unf z, 14)) e2
theorem wx_packStep (f_seriesCount f_safeCount f_arenaEnd f_position f_foundCount f_foundSum f_foundLeast f_foundMost f_foundGrowth f_before f_hasBefore f_levelNow : Int32) (a_labelsOf a_first a_end a_safeFirst a_safeEnd a_lastTime a_safeLast a_having a_blockCount a_startBit a_bitCount a_sampleCount a_firstNumber a_fromTime a_toTime a_fromValue a_toValue a_total a_smallest a_greatest a_grown a_bits a_lastStep a_times a_values : Nat → Int32) {P : Int32} {d : Int32} (p : Nat) (hP : P = nI p) (hp : p + 13 ≤ 20992) (h1 : -1023 ≤ d.toInt) (h2 : d.toInt ≤ 1023) : ∃ (b' : Nat → Int32) (l : Nat), 1 ≤ l ∧ l ≤ 13 ∧ (∀ q, q < p ∨ p + l ≤ q → bi_at b' q = bi_at a_bits q) ∧ en_num (bi_at b') p 5 11 = (d, l) ∧ ∀ post : Int32 → SX → Prop, post (nI l) (f_seriesCount, f_safeCount, f_arenaEnd, f_position, f_foundCount, f_foundSum, f_foundLeast, f_foundMost, f_foundGrowth, f_before, f_hasBefore, f_levelNow, a_labelsOf, a_first, a_end, a_safeFirst, a_safeEnd, a_lastTime, a_safeLast, a_having, a_blockCount, a_startBit, a_bitCount, a_sampleCount, a_firstNumber, a_fromTime, a_toTime, a_fromValue, a_toValue, a_total, a_smallest, a_greatest, a_grown, b', a_lastStep, a_times, a_values) → wpX_packStep post (f_seriesCount, f_safeCount, f_arenaEnd, f_position, f_foundCount, f_foundSum, f_foundLeast, f_foundMost, f_foundGrowth, f_before, f_hasBefore, f_levelNow, a_labelsOf, a_first, a_end, a_safeFirst, a_safeEnd, a_lastTime, a_safeLast, a_having, a_blockCount, a_startBit, a_bitCount, a_sampleCount, a_firstNumber, a_fromTime, a_toTime, a_fromValue, a_toValue, a_total, a_smallest, a_greatest, a_grown, a_bits, a_lastStep, a_times, a_values) P d := by
  have hu := en_unf_fd (d := d) (by omega) (by omega)
  have hf := en_fd_le (d := d) (B := 1023) (by omega) (by omega)
  by_cases h : d = 0
  · obtain ⟨b', hb, W⟩ := wx_put f_seriesCount f_safeCount f_arenaEnd f_position f_foundCount f_foundSum f_foundLeast f_foundMost f_foundGrowth f_before f_hasBefore f_levelNow a_labelsOf a_first a_end a_safeFirst a_safeEnd a_lastTime a_safeLast a_having a_blockCount a_startBit a_bitCount a_sampleCount a_firstNumber a_fromTime a_toTime a_fromValue a_toValue a_total a_smallest a_greatest a_grown a_bits a_lastStep a_times a_values p 1 0 hP (C := 1) (V := 0) rfl rfl (by omega) (by omega) (by omega)
    exact ⟨b', 1, by omega, by omega, fun q hq => bi_wr_out hb hq, by rw [h]; exact en_put1 hb, fun post H => br_t h (W _ H)⟩
  · by_cases h3 : 32 ≤ en_fd d
    · obtain ⟨b', hb, W⟩ := wx_put f_seriesCount f_safeCount f_arenaEnd f_position f_foundCount f_foundSum f_foundLeast f_foundMost f_foundGrowth f_before f_hasBefore f_levelNow a_labelsOf a_first a_end a_safeFirst a_safeEnd a_lastTime a_safeLast a_having a_blockCount a_startBit a_bitCount a_sampleCount a_firstNumber a_fromTime a_toTime a_fromValue a_toValue a_total a_smallest a_greatest a_grown a_bits a_lastStep a_times a_values p 13 (6144 + en_fd d) hP (C := 13) (V := 6144 + nI (en_fd d)) rfl (nI_add 6144 _) (by omega) (by omega) (by omega)
      refine ⟨b', 13, by omega, by omega, fun q hq => bi_wr_out hb hq, by rw [en_put11 (by omega) hb, hu], fun post H => br_f h (wx_folded (by omega) (by omega) (br_t ?_ (W _ H)))⟩
      exact nI_le (a := 32) h3 (by omega)
    · obtain ⟨b', hb, W⟩ := wx_put f_seriesCount f_safeCount f_arenaEnd f_position f_foundCount f_foundSum f_foundLeast f_foundMost f_foundGrowth f_before f_hasBefore f_levelNow a_labelsOf a_first a_end a_safeFirst a_safeEnd a_lastTime a_safeLast a_having a_blockCount a_startBit a_bitCount a_sampleCount a_firstNumber a_fromTime a_toTime a_fromValue a_toValue a_total a_smallest a_greatest a_grown a_bits a_lastStep a_times a_values p 7 (64 + en_fd d) hP (C := 7) (V := 64 + nI (en_fd d)) rfl (nI_add 64 _) (by omega) (by omega) (by omega)
      refine ⟨b', 7, by omega, by omega, fun q hq => bi_wr_out hb hq, by rw [en_put5 (by omega) hb, hu], fun post H => br_f h (wx_folded (by omega) (by omega) (br_f ?_ (W _ H)))⟩
      exact nI_ge (b := 32) (by omega) (by omega)
theorem wx_packChange (f_seriesCount f_safeCount f_arenaEnd f_position f_foundCount f_foundSum f_foundLeast f_foundMost f_foundGrowth f_before f_hasBefore f_levelNow : Int32) (a_labelsOf a_first a_end a_safeFirst a_safeEnd a_lastTime a_safeLast a_having a_blockCount a_startBit a_bitCount a_sampleCount a_firstNumber a_fromTime a_toTime a_fromValue a_toValue a_total a_smallest a_greatest a_grown a_bits a_lastStep a_times a_values : Nat → Int32) {P : Int32} {d : Int32} (p : Nat) (hP : P = nI p) (hp : p + 14 ≤ 20992) (h1 : -2047 ≤ d.toInt) (h2 : d.toInt ≤ 2047) : ∃ (b' : Nat → Int32) (l : Nat), 1 ≤ l ∧ l ≤ 14 ∧ (∀ q, q < p ∨ p + l ≤ q → bi_at b' q = bi_at a_bits q) ∧ en_num (bi_at b') p 6 12 = (d, l) ∧ ∀ post : Int32 → SX → Prop, post (nI l) (f_seriesCount, f_safeCount, f_arenaEnd, f_position, f_foundCount, f_foundSum, f_foundLeast, f_foundMost, f_foundGrowth, f_before, f_hasBefore, f_levelNow, a_labelsOf, a_first, a_end, a_safeFirst, a_safeEnd, a_lastTime, a_safeLast, a_having, a_blockCount, a_startBit, a_bitCount, a_sampleCount, a_firstNumber, a_fromTime, a_toTime, a_fromValue, a_toValue, a_total, a_smallest, a_greatest, a_grown, b', a_lastStep, a_times, a_values) → wpX_packChange post (f_seriesCount, f_safeCount, f_arenaEnd, f_position, f_foundCount, f_foundSum, f_foundLeast, f_foundMost, f_foundGrowth, f_before, f_hasBefore, f_levelNow, a_labelsOf, a_first, a_end, a_safeFirst, a_safeEnd, a_lastTime, a_safeLast, a_having, a_blockCount, a_startBit, a_bitCount, a_sampleCount, a_firstNumber, a_fromTime, a_toTime, a_fromValue, a_toValue, a_total, a_smallest, a_greatest, a_grown, a_bits, a_lastStep, a_times, a_values) P d := by
  have hu := en_unf_fd (d := d) (by omega) (by omega)
  have hf := en_fd_le (d := d) (B := 2047) (by omega) (by omega)
  by_cases h : d = 0
  · obtain ⟨b', hb, W⟩ := wx_put f_seriesCount f_safeCount f_arenaEnd f_position f_foundCount f_foundSum f_foundLeast f_foundMost f_foundGrowth f_before f_hasBefore f_levelNow a_labelsOf a_first a_end a_safeFirst a_safeEnd a_lastTime a_safeLast a_having a_blockCount a_startBit a_bitCount a_sampleCount a_firstNumber a_fromTime a_toTime a_fromValue a_toValue a_total a_smallest a_greatest a_grown a_bits a_lastStep a_times a_values p 1 0 hP (C := 1) (V := 0) rfl rfl (by omega) (by omega) (by omega)
    exact ⟨b', 1, by omega, by omega, fun q hq => bi_wr_out hb hq, by rw [h]; exact en_put1 hb, fun post H => br_t h (W _ H)⟩
  · by_cases h3 : 64 ≤ en_fd d
    · obtain ⟨b', hb, W⟩ := wx_put f_seriesCount f_safeCount f_arenaEnd f_position f_foundCount f_foundSum f_foundLeast f_foundMost f_foundGrowth f_before f_hasBefore f_levelNow a_labelsOf a_first a_end a_safeFirst a_safeEnd a_lastTime a_safeLast a_having a_blockCount a_startBit a_bitCount a_sampleCount a_firstNumber a_fromTime a_toTime a_fromValue a_toValue a_total a_smallest a_greatest a_grown a_bits a_lastStep a_times a_values p 14 (12288 + en_fd d) hP (C := 14) (V := 12288 + nI (en_fd d)) rfl (nI_add 12288 _) (by omega) (by omega) (by omega)
      refine ⟨b', 14, by omega, by omega, fun q hq => bi_wr_out hb hq, by rw [en_put12 (by omega) hb, hu], fun post H => br_f h (wx_folded (by omega) (by omega) (br_t ?_ (W _ H)))⟩
      exact nI_le (a := 64) h3 (by omega)
    · obtain ⟨b', hb, W⟩ := wx_put f_seriesCount f_safeCount f_arenaEnd f_position f_foundCount f_foundSum f_foundLeast f_foundMost f_foundGrowth f_before f_hasBefore f_levelNow a_labelsOf a_first a_end a_safeFirst a_safeEnd a_lastTime a_safeLast a_having a_blockCount a_startBit a_bitCount a_sampleCount a_firstNumber a_fromTime a_toTime a_fromValue a_toValue a_total a_smallest a_greatest a_grown a_bits a_lastStep a_times a_values p 8 (128 + en_fd d) hP (C := 8) (V := 128 + nI (en_fd d)) rfl (nI_add 128 _) (by omega) (by omega) (by omega)
      refine ⟨b', 8, by omega, by omega, fun q hq => bi_wr_out hb hq, by rw [en_put6 (by omega) hb, hu], fun post H => br_f h (wx_folded (by omega) (by omega) (br_f ?_ (W _ H)))⟩
      exact nI_ge (b := 64) (by omega) (by omega)
/-! moveBits -/
theorem wx_move_l (f_seriesCount f_safeCount f_arenaEnd f_position f_foundCount f_foundSum f_foundLeast f_foundMost f_foundGrowth f_before f_hasBefore f_levelNow : Int32) (a_labelsOf a_first a_end a_safeFirst a_safeEnd a_lastTime a_safeLast a_having a_blockCount a_startBit a_bitCount a_sampleCount a_firstNumber a_fromTime a_toTime a_fromValue a_toValue a_total a_smallest a_greatest a_grown a_bits a_lastStep a_times a_values : Nat → Int32) {fr to c : Nat} (hle : to ≤ fr) (hb : fr + c ≤ 20992) : ∀ (d k : Nat) (a : Nat → Int32), k + d = c → ∃ (b' : Nat → Int32), (∀ q, bi_at b' q = if to + k ≤ q ∧ q < to + c then bi_at a (fr + (q - to)) else bi_at a q) ∧ ∀ post : SX → Prop, post (f_seriesCount, f_safeCount, f_arenaEnd, nI (fr + c), f_foundCount, f_foundSum, f_foundLeast, f_foundMost, f_foundGrowth, f_before, f_hasBefore, f_levelNow, a_labelsOf, a_first, a_end, a_safeFirst, a_safeEnd, a_lastTime, a_safeLast, a_having, a_blockCount, a_startBit, a_bitCount, a_sampleCount, a_firstNumber, a_fromTime, a_toTime, a_fromValue, a_toValue, a_total, a_smallest, a_greatest, a_grown, b', a_lastStep, a_times, a_values) → wX_moveBits_8 post (nI to) (nI c) (d + 1) (nI k) f_seriesCount f_safeCount f_arenaEnd (nI (fr + k)) f_foundCount f_foundSum f_foundLeast f_foundMost f_foundGrowth f_before f_hasBefore f_levelNow a_labelsOf a_first a_end a_safeFirst a_safeEnd a_lastTime a_safeLast a_having a_blockCount a_startBit a_bitCount a_sampleCount a_firstNumber a_fromTime a_toTime a_fromValue a_toValue a_total a_smallest a_greatest a_grown a a_lastStep a_times a_values := by
  intro d
  induction d with
  | zero =>
    intro k a hk
    have e : k = c := by omega
    subst e
    exact ⟨a, fun q => by rw [if_neg (by omega)], fun post hq => br_t (nI_le (by omega) (by omega)) hq⟩
  | succ d ih =>
    intro k a hk
    obtain ⟨a1, h1, W1⟩ := wx_put f_seriesCount f_safeCount f_arenaEnd (nI (fr + k + 1)) f_foundCount f_foundSum f_foundLeast f_foundMost f_foundGrowth f_before f_hasBefore f_levelNow a_labelsOf a_first a_end a_safeFirst a_safeEnd a_lastTime a_safeLast a_having a_blockCount a_startBit a_bitCount a_sampleCount a_firstNumber a_fromTime a_toTime a_fromValue a_toValue a_total a_smallest a_greatest a_grown a a_lastStep a_times a_values (P := nI to + nI k) (C := 1) (V := nI (bi_val (bi_at a) (fr + k) 1)) (to + k) 1 (bi_at a (fr + k)).toNat (nI_add to k) rfl (by rw [bi_val1]) (by omega) (by omega) (by have := Bool.toNat_le (bi_at a (fr + k)); omega)
    obtain ⟨b', h2, W2⟩ := ih (k + 1) a1 (by omega)
    have h1i := bi_wr_in h1 0 (by omega)
    have h1v : bi_at a1 (to + k) = bi_at a (fr + k) := by
      rw [Nat.add_zero] at h1i
      rw [h1i]
      cases bi_at a (fr + k) <;> rfl
    refine ⟨b', fun q => ?_, fun post hq => br_f (nI_ge (by omega) (by omega)) (wx_take (fr + k) 1 rfl rfl (by omega) (by omega) (W1 _ (nm_r (nI_1 k) (W2 post hq))))⟩
    rw [h2 q]
    by_cases e : q = to + k
    · subst e
      rw [if_neg (by omega), if_pos (by omega), h1v, Nat.add_sub_cancel_left]
    · by_cases e2 : to + k ≤ q ∧ q < to + c
      · rw [if_pos e2, if_pos (by omega), bi_wr_out h1 (by omega)]
      · rw [if_neg e2, if_neg (by omega), bi_wr_out h1 (by omega)]
theorem wx_move (f_seriesCount f_safeCount f_arenaEnd f_position f_foundCount f_foundSum f_foundLeast f_foundMost f_foundGrowth f_before f_hasBefore f_levelNow : Int32) (a_labelsOf a_first a_end a_safeFirst a_safeEnd a_lastTime a_safeLast a_having a_blockCount a_startBit a_bitCount a_sampleCount a_firstNumber a_fromTime a_toTime a_fromValue a_toValue a_total a_smallest a_greatest a_grown a_bits a_lastStep a_times a_values : Nat → Int32) {FR TO C : Int32} (fr to c : Nat) (hF : FR = nI fr) (hT : TO = nI to) (hC : C = nI c) (hle : to ≤ fr) (hb : fr + c ≤ 20992) : ∃ (b' : Nat → Int32) (p' : Int32), (∀ q, bi_at b' q = if to ≤ q ∧ q < to + c then bi_at a_bits (fr + (q - to)) else bi_at a_bits q) ∧ ∀ post : SX → Prop, post (f_seriesCount, f_safeCount, f_arenaEnd, p', f_foundCount, f_foundSum, f_foundLeast, f_foundMost, f_foundGrowth, f_before, f_hasBefore, f_levelNow, a_labelsOf, a_first, a_end, a_safeFirst, a_safeEnd, a_lastTime, a_safeLast, a_having, a_blockCount, a_startBit, a_bitCount, a_sampleCount, a_firstNumber, a_fromTime, a_toTime, a_fromValue, a_toValue, a_total, a_smallest, a_greatest, a_grown, b', a_lastStep, a_times, a_values) → wpX_moveBits post (f_seriesCount, f_safeCount, f_arenaEnd, f_position, f_foundCount, f_foundSum, f_foundLeast, f_foundMost, f_foundGrowth, f_before, f_hasBefore, f_levelNow, a_labelsOf, a_first, a_end, a_safeFirst, a_safeEnd, a_lastTime, a_safeLast, a_having, a_blockCount, a_startBit, a_bitCount, a_sampleCount, a_firstNumber, a_fromTime, a_toTime, a_fromValue, a_toValue, a_total, a_smallest, a_greatest, a_grown, a_bits, a_lastStep, a_times, a_values) FR TO C := by
  subst hF hT hC
  obtain ⟨b', hb', W⟩ := wx_move_l f_seriesCount f_safeCount f_arenaEnd f_position f_foundCount f_foundSum f_foundLeast f_foundMost f_foundGrowth f_before f_hasBefore f_levelNow a_labelsOf a_first a_end a_safeFirst a_safeEnd a_lastTime a_safeLast a_having a_blockCount a_startBit a_bitCount a_sampleCount a_firstNumber a_fromTime a_toTime a_fromValue a_toValue a_total a_smallest a_greatest a_grown a_bits a_lastStep a_times a_values hle hb c 0 a_bits (by omega)
  exact ⟨b', _, hb', fun post hq => ⟨c + 1, W post hq⟩⟩
end
section
/-! unpack: the samples of a block come to the lists -/
theorem en_num_shift (B : Nat → Bool) (p q few many : Nat) : en_num (fun i => B (p + i)) q few many = en_num B (p + q) few many :=
  en_num_congr (fun i _ => by show B (p + (q + i)) = B (p + q + i); rw [Nat.add_assoc])
theorem bi_val_shift (B : Nat → Bool) (p q w : Nat) : bi_val (fun i => B (p + i)) q w = bi_val B (p + q) w :=
  bi_val_congr w (fun i _ => by show B (p + (q + i)) = B (p + q + i); rw [Nat.add_assoc])
theorem wx_unpack_l (f_seriesCount f_safeCount f_arenaEnd f_position f_foundCount f_foundSum f_foundLeast f_foundMost f_foundGrowth f_before f_hasBefore f_levelNow : Int32) (a_labelsOf a_first a_end a_safeFirst a_safeEnd a_lastTime a_safeLast a_having a_blockCount a_startBit a_bitCount a_sampleCount a_firstNumber a_fromTime a_toTime a_fromValue a_toValue a_total a_smallest a_greatest a_grown a_bits a_lastStep a_times a_values : Nat → Int32) {b p sc bc : Nat} {S : Nat → Bool} {f g : Nat → Int32} (hb : b < 96) (hS : S = fun i => bi_at a_bits (p + i)) (hsc : a_sampleCount b = nI sc) (hsc8 : sc ≤ 8) (hp : p ≤ 20768) (he : en_ok S f g sc bc)
    (hr : ∀ k, k < sc → -32768 ≤ (f k).toInt ∧ (f k).toInt < 32768 ∧ -32768 ≤ (g k).toInt ∧ (g k).toInt < 32768) :
    ∀ (d m : Nat) (ts vs : Nat → Int32), m + 1 + d = sc → (∀ j, j < m + 1 → ts j = f j ∧ vs j = g j) → ∃ (p' : Int32) (ts' vs' : Nat → Int32), (∀ j, j < sc → ts' j = f j ∧ vs' j = g j) ∧
      ∀ post : SX → Prop, post (f_seriesCount, f_safeCount, f_arenaEnd, p', f_foundCount, f_foundSum, f_foundLeast, f_foundMost, f_foundGrowth, f_before, f_hasBefore, f_levelNow, a_labelsOf, a_first, a_end, a_safeFirst, a_safeEnd, a_lastTime, a_safeLast, a_having, a_blockCount, a_startBit, a_bitCount, a_sampleCount, a_firstNumber, a_fromTime, a_toTime, a_fromValue, a_toValue, a_total, a_smallest, a_greatest, a_grown, a_bits, a_lastStep, ts', vs') → wX_unpack_75 post (nI b) (d + 1) (en_t S m) (en_v S m) (en_s S m) (nI (m + 1)) f_seriesCount f_safeCount f_arenaEnd (nI (p + en_o S m)) f_foundCount f_foundSum f_foundLeast f_foundMost f_foundGrowth f_before f_hasBefore f_levelNow a_labelsOf a_first a_end a_safeFirst a_safeEnd a_lastTime a_safeLast a_having a_blockCount a_startBit a_bitCount a_sampleCount a_firstNumber a_fromTime a_toTime a_fromValue a_toValue a_total a_smallest a_greatest a_grown a_bits a_lastStep ts vs := by
  have hcl : (nI b).toNatClampNeg = b := nI_clamp (by omega)
  have hin : vp_in (nI b) 96 := vp_in_nI hb (by omega)
  have hbc := en_ok_bc he
  have ho : ∀ m, m < sc → en_o S m ≤ bc := fun m hm => by
    have := en_o_m S (i := m) (j := sc - 1) (by omega); have := he.2.2; omega
  intro d
  induction d with
  | zero =>
    intro m ts vs hm ht
    refine ⟨_, ts, vs, fun j hj => ht j (by omega), fun post hq => ⟨hin, br_t ?_ hq⟩⟩
    rw [hcl, hsc]; exact nI_le (by omega) (by omega)
  | succ d ih =>
    intro m ts vs hm ht
    have hr1 := hr (m + 1) (by omega)
    have hk1 := he.2.1 (m + 1) (by omega)
    have ho1 := ho (m + 1) (by omega)
    have hcl1 : (nI (m + 1)).toNatClampNeg = m + 1 := nI_clamp (by omega)
    have hin8 : vp_in (nI (m + 1)) 8 := vp_in_nI (by omega) (by omega)
    obtain ⟨p', ts', vs', hts, W⟩ := ih (m + 1) (upd ts (m + 1) (f (m + 1))) (upd vs (m + 1) (g (m + 1))) (by omega) (fun j hj => by
      by_cases e : j = m + 1
      · subst e; exact ⟨pk_us, pk_us⟩
      · rw [pk_un e, pk_un e]; exact ht j (by omega))
    refine ⟨p', ts', vs', hts, fun post hq => ⟨hin, br_f ?_ ?_⟩⟩
    · rw [hcl, hsc]; exact nI_ge (by omega) (by omega)
    have n1 : en_num (bi_at a_bits) (p + en_o S m) 5 11 = en_num S (en_o S m) 5 11 := by rw [hS, en_num_shift]
    have n2 : en_num (bi_at a_bits) (p + en_o S m + (en_num S (en_o S m) 5 11).2) 6 12 = en_num S (en_o S m + (en_num S (en_o S m) 5 11).2) 6 12 := by
      rw [hS, en_num_shift _ _ (_ + _), Nat.add_assoc]
    have eo := en_o_s S m
    refine wx_num (p + en_o S m) 5 11 rfl rfl rfl (by omega) (by omega) (by rw [n1]; omega) ?_
    rw [n1]
    refine nm_e (nm_e ?_)
    refine wx_num (p + en_o S m + (en_num S (en_o S m) 5 11).2) 6 12 rfl rfl rfl (by omega) (by omega) (by rw [n2]; omega) ?_
    rw [n2]
    refine nm_e ⟨hin8, nm_r (e' := upd ts (m + 1) (f (m + 1))) ?_ ⟨hin8, nm_r (e' := upd vs (m + 1) (g (m + 1))) ?_ (nm_r (nI_1 (m + 1)) ?_)⟩⟩
    · rw [hcl1, ← hk1.1]
      exact congrArg _ (ba_s (x := en_t S (m + 1)) (by rw [hk1.1]; exact hr1.1) (by rw [hk1.1]; exact hr1.2.1))
    · rw [hcl1, ← hk1.2]
      exact congrArg _ (ba_s (x := en_v S (m + 1)) (by rw [hk1.2]; exact hr1.2.2.1) (by rw [hk1.2]; exact hr1.2.2.2))
    · have ep : p + en_o S m + (en_num S (en_o S m) 5 11).2 + (en_num S (en_o S m + (en_num S (en_o S m) 5 11).2) 6 12).2 = p + en_o S (m + 1) := by omega
      rw [ep]
      exact W post hq
theorem wx_unpack (f_seriesCount f_safeCount f_arenaEnd f_position f_foundCount f_foundSum f_foundLeast f_foundMost f_foundGrowth f_before f_hasBefore f_levelNow : Int32) (a_labelsOf a_first a_end a_safeFirst a_safeEnd a_lastTime a_safeLast a_having a_blockCount a_startBit a_bitCount a_sampleCount a_firstNumber a_fromTime a_toTime a_fromValue a_toValue a_total a_smallest a_greatest a_grown a_bits a_lastStep a_times a_values : Nat → Int32) {b p sc bc : Nat} {f g : Nat → Int32} (hb : b < 96) (hst : (a_startBit b = -1 ∧ p = 19200 + 224 * (b / 12)) ∨ (a_startBit b = nI p ∧ p ≤ 19200)) (hsc : a_sampleCount b = nI sc) (hsc8 : sc ≤ 8) (he : en_ok (fun i => bi_at a_bits (p + i)) f g sc bc)
    (hr : ∀ k, k < sc → -32768 ≤ (f k).toInt ∧ (f k).toInt < 32768 ∧ -32768 ≤ (g k).toInt ∧ (g k).toInt < 32768) :
    ∃ (p' : Int32) (ts' vs' : Nat → Int32), (∀ j, j < sc → ts' j = f j ∧ vs' j = g j) ∧
      ∀ post : SX → Prop, post (f_seriesCount, f_safeCount, f_arenaEnd, p', f_foundCount, f_foundSum, f_foundLeast, f_foundMost, f_foundGrowth, f_before, f_hasBefore, f_levelNow, a_labelsOf, a_first, a_end, a_safeFirst, a_safeEnd, a_lastTime, a_safeLast, a_having, a_blockCount, a_startBit, a_bitCount, a_sampleCount, a_firstNumber, a_fromTime, a_toTime, a_fromValue, a_toValue, a_total, a_smallest, a_greatest, a_grown, a_bits, a_lastStep, ts', vs') → wpX_unpack post (f_seriesCount, f_safeCount, f_arenaEnd, f_position, f_foundCount, f_foundSum, f_foundLeast, f_foundMost, f_foundGrowth, f_before, f_hasBefore, f_levelNow, a_labelsOf, a_first, a_end, a_safeFirst, a_safeEnd, a_lastTime, a_safeLast, a_having, a_blockCount, a_startBit, a_bitCount, a_sampleCount, a_firstNumber, a_fromTime, a_toTime, a_fromValue, a_toValue, a_total, a_smallest, a_greatest, a_grown, a_bits, a_lastStep, a_times, a_values) (nI b) := by
  have hcl : (nI b).toNatClampNeg = b := nI_clamp (by omega)
  have hin : vp_in (nI b) 96 := vp_in_nI hb (by omega)
  have hp : p ≤ 20768 := by rcases hst with h | h <;> omega
  have h1 := he.1
  have hk0 := he.2.1 0 (by omega)
  have hr0 := hr 0 (by omega)
  obtain ⟨p', ts', vs', hts, W⟩ := wx_unpack_l f_seriesCount f_safeCount f_arenaEnd f_position f_foundCount f_foundSum f_foundLeast f_foundMost f_foundGrowth f_before f_hasBefore f_levelNow a_labelsOf a_first a_end a_safeFirst a_safeEnd a_lastTime a_safeLast a_having a_blockCount a_startBit a_bitCount a_sampleCount a_firstNumber a_fromTime a_toTime a_fromValue a_toValue a_total a_smallest a_greatest a_grown a_bits a_lastStep a_times a_values hb rfl hsc hsc8 hp he hr (sc - 1) 0 (upd a_times 0 (f 0)) (upd a_values 0 (g 0)) (by omega) (fun j hj => by
    have e : j = 0 := by omega
    subst e; exact ⟨pk_us, pk_us⟩)
  refine ⟨p', ts', vs', hts, fun post hq => ?_⟩
  have key : wX_unpack_28 post (nI b) (nI p) f_seriesCount f_safeCount f_arenaEnd f_position f_foundCount f_foundSum f_foundLeast f_foundMost f_foundGrowth f_before f_hasBefore f_levelNow a_labelsOf a_first a_end a_safeFirst a_safeEnd a_lastTime a_safeLast a_having a_blockCount a_startBit a_bitCount a_sampleCount a_firstNumber a_fromTime a_toTime a_fromValue a_toValue a_total a_smallest a_greatest a_grown a_bits a_lastStep a_times a_values := by
    refine wx_take p 10 rfl rfl (by omega) (by omega) ?_
    refine wx_take (p + 10) 11 rfl rfl (by omega) (by omega) ?_
    have v1 : bi_val (bi_at a_bits) (p + 10) 11 < 65536 := Nat.lt_of_lt_of_le (bi_val_lt _ _ _) (by decide)
    refine wx_unfolded _ rfl v1 ?_
    have t0 : nI (bi_val (bi_at a_bits) p 10) = en_t (fun i => bi_at a_bits (p + i)) 0 := by
      show _ = nI (bi_val (fun i => bi_at a_bits (p + i)) 0 10)
      rw [bi_val_shift]; rfl
    have v0 : en_unf (bi_val (bi_at a_bits) (p + 10) 11) = en_v (fun i => bi_at a_bits (p + i)) 0 := by
      show _ = en_unf (bi_val (fun i => bi_at a_bits (p + i)) 10 11)
      rw [bi_val_shift]
    rw [t0, v0]
    refine nm_r (e' := upd a_times 0 (f 0)) ?_ (nm_r (e' := upd a_values 0 (g 0)) ?_ ⟨sc - 1 + 1, ?_⟩)
    · rw [← hk0.1]
      exact congrArg _ (ba_s (by rw [hk0.1]; exact hr0.1) (by rw [hk0.1]; exact hr0.2.1))
    · rw [← hk0.2]
      exact congrArg _ (ba_s (by rw [hk0.2]; exact hr0.2.2.1) (by rw [hk0.2]; exact hr0.2.2.2))
    · exact W post hq
  rcases hst with ⟨hs, hp2⟩ | ⟨hs, hp2⟩
  · refine ⟨hin, br_t (by rw [hcl]; exact hs) ⟨by decide, ?_⟩⟩
    show wX_unpack_28 post (nI b) (19200 + 224 * (nI b / 12)) f_seriesCount f_safeCount f_arenaEnd f_position f_foundCount f_foundSum f_foundLeast f_foundMost f_foundGrowth f_before f_hasBefore f_levelNow a_labelsOf a_first a_end a_safeFirst a_safeEnd a_lastTime a_safeLast a_having a_blockCount a_startBit a_bitCount a_sampleCount a_firstNumber a_fromTime a_toTime a_fromValue a_toValue a_total a_smallest a_greatest a_grown a_bits a_lastStep a_times a_values
    have e : (19200 : Int32) + 224 * (nI b / 12) = nI p := by
      rw [show (12 : Int32) = nI 12 from rfl, pk_div (by omega) (by omega) (by omega), show (224 : Int32) = nI 224 from rfl, pk_mul, show (19200 : Int32) = nI 19200 from rfl, nI_add, hp2]
    rw [e]
    exact key
  · refine ⟨hin, br_f ?_ ⟨hin, ?_⟩⟩
    · rw [hcl, hs]
      intro e
      have := congrArg Int32.toInt e
      rw [nI_toInt (by omega), show (-1 : Int32).toInt = -1 from by decide] at this
      omega
    · rw [hcl, hs]
      exact key
end
section
/-! what is known of all samples of a block together -/
def sm_tot (f : Nat → Int32) : Nat → Int32
  | 0 => f 0
  | m + 1 => sm_tot f m + f (m + 1)
def sm_min (f : Nat → Int32) : Nat → Int32
  | 0 => f 0
  | m + 1 => if sm_min f m ≤ f (m + 1) then sm_min f m else f (m + 1)
def sm_max (f : Nat → Int32) : Nat → Int32
  | 0 => f 0
  | m + 1 => if f (m + 1) ≤ sm_max f m then sm_max f m else f (m + 1)
def sm_g (a b : Int32) : Int32 := if b < a then (if b ≤ 0 then 0 else b) else b - a
def sm_gr (f : Nat → Int32) : Nat → Int32
  | 0 => 0
  | m + 1 => sm_gr f m + sm_g (f m) (f (m + 1))
theorem ba_0 : (0 : Int32).toInt = 0 := by decide
theorem sm_tot_r {f : Nat → Int32} : ∀ m, m < 1000 → (∀ i, i ≤ m → -1000 ≤ (f i).toInt ∧ (f i).toInt ≤ 1000) → -1000 * ((m : Int) + 1) ≤ (sm_tot f m).toInt ∧ (sm_tot f m).toInt ≤ 1000 * ((m : Int) + 1)
  | 0, _, h => by have := h 0 (by omega); simp only [sm_tot]; omega
  | m + 1, hm, h => by
    have h1 := sm_tot_r (f := f) m (by omega) (fun i hi => h i (by omega))
    have h2 := h (m + 1) (by omega)
    simp only [sm_tot]
    rw [ba_add (by omega) (by omega)]
    omega
theorem sm_g_r {a b : Int32} (ha : -1000 ≤ a.toInt ∧ a.toInt ≤ 1000) (hb : -1000 ≤ b.toInt ∧ b.toInt ≤ 1000) : 0 ≤ (sm_g a b).toInt ∧ (sm_g a b).toInt ≤ 2000 := by
  unfold sm_g
  by_cases h : b < a
  · rw [if_pos h]
    by_cases h2 : b ≤ 0
    · rw [if_pos h2, ba_0]; omega
    · rw [if_neg h2]
      rw [ba_le, ba_0] at h2
      omega
  · rw [if_neg h]
    rw [ba_lt] at h
    rw [ba_sub (by omega) (by omega)]
    omega
theorem sm_gr_r {f : Nat → Int32} : ∀ m, m < 1000 → (∀ i, i ≤ m → -1000 ≤ (f i).toInt ∧ (f i).toInt ≤ 1000) → 0 ≤ (sm_gr f m).toInt ∧ (sm_gr f m).toInt ≤ 2000 * (m : Int)
  | 0, _, h => by simp only [sm_gr]; rw [ba_0]; omega
  | m + 1, hm, h => by
    have h1 := sm_gr_r (f := f) m (by omega) (fun i hi => h i (by omega))
    have h2 := sm_g_r (h m (by omega)) (h (m + 1) (by omega))
    simp only [sm_gr]
    rw [ba_add (by omega) (by omega)]
    omega
theorem sm_min_r (f : Nat → Int32) : ∀ m, (∃ i, i ≤ m ∧ sm_min f m = f i) ∧ ∀ i, i ≤ m → (sm_min f m).toInt ≤ (f i).toInt
  | 0 => ⟨⟨0, Nat.le_refl 0, rfl⟩, fun i hi => by have e : i = 0 := by omega
                                                  subst e; exact Int.le_refl _⟩
  | m + 1 => by
    obtain ⟨⟨i0, h0, e0⟩, h1⟩ := sm_min_r f m
    simp only [sm_min]
    by_cases h : sm_min f m ≤ f (m + 1)
    · rw [if_pos h]
      refine ⟨⟨i0, by omega, e0⟩, fun i hi => ?_⟩
      rcases Nat.lt_or_ge i (m + 1) with z | z
      · exact h1 i (by omega)
      · have e : i = m + 1 := by omega
        subst e; exact ba_le.mp h
    · rw [if_neg h]
      refine ⟨⟨m + 1, by omega, rfl⟩, fun i hi => ?_⟩
      rw [ba_le] at h
      rcases Nat.lt_or_ge i (m + 1) with z | z
      · have := h1 i (by omega); omega
      · have e : i = m + 1 := by omega
        subst e; exact Int.le_refl _
theorem sm_max_r (f : Nat → Int32) : ∀ m, (∃ i, i ≤ m ∧ sm_max f m = f i) ∧ ∀ i, i ≤ m → (f i).toInt ≤ (sm_max f m).toInt
  | 0 => ⟨⟨0, Nat.le_refl 0, rfl⟩, fun i hi => by have e : i = 0 := by omega
                                                  subst e; exact Int.le_refl _⟩
  | m + 1 => by
    obtain ⟨⟨i0, h0, e0⟩, h1⟩ := sm_max_r f m
    simp only [sm_max]
    by_cases h : f (m + 1) ≤ sm_max f m
    · rw [if_pos h]
      refine ⟨⟨i0, by omega, e0⟩, fun i hi => ?_⟩
      rcases Nat.lt_or_ge i (m + 1) with z | z
      · exact h1 i (by omega)
      · have e : i = m + 1 := by omega
        subst e; exact ba_le.mp h
    · rw [if_neg h]
      refine ⟨⟨m + 1, by omega, rfl⟩, fun i hi => ?_⟩
      rw [ba_le] at h
      rcases Nat.lt_or_ge i (m + 1) with z | z
      · have := h1 i (by omega); omega
      · have e : i = m + 1 := by omega
        subst e; exact Int.le_refl _
theorem sm_congr {f g : Nat → Int32} : ∀ m, (∀ i, i ≤ m → g i = f i) → sm_tot g m = sm_tot f m ∧ sm_min g m = sm_min f m ∧ sm_max g m = sm_max f m ∧ sm_gr g m = sm_gr f m
  | 0, h => by simp only [sm_tot, sm_min, sm_max, sm_gr]; rw [h 0 (by omega)]; exact ⟨rfl, rfl, rfl, trivial⟩
  | m + 1, h => by
    obtain ⟨h1, h2, h3, h4⟩ := sm_congr m (fun i hi => h i (by omega))
    simp only [sm_tot, sm_min, sm_max, sm_gr]
    rw [h1, h2, h3, h4, h (m + 1) (by omega), h m (by omega)]
    exact ⟨rfl, rfl, rfl, rfl⟩
theorem wx_growthOf {f_seriesCount f_safeCount f_arenaEnd f_position f_foundCount f_foundSum f_foundLeast f_foundMost f_foundGrowth f_before f_hasBefore f_levelNow : Int32} {a_labelsOf a_first a_end a_safeFirst a_safeEnd a_lastTime a_safeLast a_having a_blockCount a_startBit a_bitCount a_sampleCount a_firstNumber a_fromTime a_toTime a_fromValue a_toValue a_total a_smallest a_greatest a_grown a_bits a_lastStep a_times a_values : Nat → Int32} {post : Int32 → Prop} {a b : Int32} (H : post (sm_g a b)) : wpX_growthOf post (f_seriesCount, f_safeCount, f_arenaEnd, f_position, f_foundCount, f_foundSum, f_foundLeast, f_foundMost, f_foundGrowth, f_before, f_hasBefore, f_levelNow, a_labelsOf, a_first, a_end, a_safeFirst, a_safeEnd, a_lastTime, a_safeLast, a_having, a_blockCount, a_startBit, a_bitCount, a_sampleCount, a_firstNumber, a_fromTime, a_toTime, a_fromValue, a_toValue, a_total, a_smallest, a_greatest, a_grown, a_bits, a_lastStep, a_times, a_values) a b := by
  unfold sm_g at H
  by_cases h : b < a
  · rw [if_pos h] at H
    by_cases h2 : b ≤ 0
    · rw [if_pos h2] at H; exact br_t h (br_t h2 H)
    · rw [if_neg h2] at H; exact br_t h (br_f h2 H)
  · rw [if_neg h] at H; exact br_f h H

/-! ===== blocks: bits, samples, number of the first sample; the rows of the block tables ===== -/
abbrev bk_T : Type := Nat × Nat × Nat
abbrev ro_T : Type := Int32 × Int32 × Int32 × Int32 × Int32 × Int32 × Int32 × Int32 × Int32 × Int32 × Int32 × Int32
def ro_at (a_startBit a_bitCount a_sampleCount a_firstNumber a_fromTime a_toTime a_fromValue a_toValue a_total a_smallest a_greatest a_grown : Nat → Int32) (b : Nat) : ro_T := (a_startBit b, a_bitCount b, a_sampleCount b, a_firstNumber b, a_fromTime b, a_toTime b, a_fromValue b, a_toValue b, a_total b, a_smallest b, a_greatest b, a_grown b)
def ro_of (p : Nat) (a : bk_T) (T V : Nat → Int32) : ro_T := (if a.2.1 = 8 then nI p else -1, nI a.1, nI a.2.1, nI a.2.2, T a.2.2, T (a.2.2 + (a.2.1 - 1)), V a.2.2, V (a.2.2 + (a.2.1 - 1)), sm_tot (fun i => V (a.2.2 + i)) (a.2.1 - 1), sm_min (fun i => V (a.2.2 + i)) (a.2.1 - 1), sm_max (fun i => V (a.2.2 + i)) (a.2.1 - 1), sm_gr (fun i => V (a.2.2 + i)) (a.2.1 - 1))
theorem ro_e {a_startBit a_bitCount a_sampleCount a_firstNumber a_fromTime a_toTime a_fromValue a_toValue a_total a_smallest a_greatest a_grown : Nat → Int32} {b p : Nat} {a : bk_T} {T V : Nat → Int32} (h : ro_at a_startBit a_bitCount a_sampleCount a_firstNumber a_fromTime a_toTime a_fromValue a_toValue a_total a_smallest a_greatest a_grown b = ro_of p a T V) :
    a_startBit b = (if a.2.1 = 8 then nI p else -1) ∧ a_bitCount b = nI a.1 ∧ a_sampleCount b = nI a.2.1 ∧ a_firstNumber b = nI a.2.2 ∧ a_fromTime b = T a.2.2 ∧ a_toTime b = T (a.2.2 + (a.2.1 - 1)) ∧ a_fromValue b = V a.2.2 ∧ a_toValue b = V (a.2.2 + (a.2.1 - 1)) ∧ a_total b = sm_tot (fun i => V (a.2.2 + i)) (a.2.1 - 1) ∧ a_smallest b = sm_min (fun i => V (a.2.2 + i)) (a.2.1 - 1) ∧ a_greatest b = sm_max (fun i => V (a.2.2 + i)) (a.2.1 - 1) ∧ a_grown b = sm_gr (fun i => V (a.2.2 + i)) (a.2.1 - 1) := by
  simp only [ro_at, ro_of, Prod.mk.injEq] at h
  exact h
theorem ro_i {a_startBit a_bitCount a_sampleCount a_firstNumber a_fromTime a_toTime a_fromValue a_toValue a_total a_smallest a_greatest a_grown : Nat → Int32} {b p : Nat} {a : bk_T} {T V : Nat → Int32}
    (h : a_startBit b = (if a.2.1 = 8 then nI p else -1) ∧ a_bitCount b = nI a.1 ∧ a_sampleCount b = nI a.2.1 ∧ a_firstNumber b = nI a.2.2 ∧ a_fromTime b = T a.2.2 ∧ a_toTime b = T (a.2.2 + (a.2.1 - 1)) ∧ a_fromValue b = V a.2.2 ∧ a_toValue b = V (a.2.2 + (a.2.1 - 1)) ∧ a_total b = sm_tot (fun i => V (a.2.2 + i)) (a.2.1 - 1) ∧ a_smallest b = sm_min (fun i => V (a.2.2 + i)) (a.2.1 - 1) ∧ a_greatest b = sm_max (fun i => V (a.2.2 + i)) (a.2.1 - 1) ∧ a_grown b = sm_gr (fun i => V (a.2.2 + i)) (a.2.1 - 1)) : ro_at a_startBit a_bitCount a_sampleCount a_firstNumber a_fromTime a_toTime a_fromValue a_toValue a_total a_smallest a_greatest a_grown b = ro_of p a T V := by
  simp only [ro_at, ro_of, Prod.mk.injEq]
  exact h
theorem ro_of_congr {p p' : Nat} {a : bk_T} {T V T' V' : Nat → Int32} (h1 : 1 ≤ a.2.1) (hp : a.2.1 = 8 → p' = p) (h : ∀ n, n < a.2.2 + a.2.1 → T' n = T n ∧ V' n = V n) : ro_of p' a T' V' = ro_of p a T V := by
  obtain ⟨e1, e2, e3, e4⟩ := sm_congr (f := fun i => V (a.2.2 + i)) (g := fun i => V' (a.2.2 + i)) (a.2.1 - 1) (fun i hi => (h _ (by omega)).2)
  unfold ro_of
  rw [e1, e2, e3, e4, (h a.2.2 (by omega)).1, (h a.2.2 (by omega)).2, (h (a.2.2 + (a.2.1 - 1)) (by omega)).1, (h (a.2.2 + (a.2.1 - 1)) (by omega)).2]
  by_cases z : a.2.1 = 8
  · rw [hp z]
  · rw [if_neg z, if_neg z]

/-! ===== the block store ===== -/
def ci_rows (cn : Nat) (L : Nat → List bk_T) (P : Nat → Nat → Nat) (T V : Nat → Nat → Int32) (a_blockCount a_startBit a_bitCount a_sampleCount a_firstNumber a_fromTime a_toTime a_fromValue a_toValue a_total a_smallest a_greatest a_grown : Nat → Int32) : Prop :=
  ∀ s, s < cn → a_blockCount s = nI (L s).length ∧ ∀ (k : Nat) (a : bk_T), (L s)[k]? = some a → ro_at a_startBit a_bitCount a_sampleCount a_firstNumber a_fromTime a_toTime a_fromValue a_toValue a_total a_smallest a_greatest a_grown (12 * s + k) = ro_of (P s a.2.2) a (T s) (V s)
/-- times rise, all in their ranges -/
def ci_hist (T V : Nat → Int32) (E : Nat) : Prop := (∀ n, n < E → 0 ≤ (T n).toInt ∧ (T n).toInt ≤ 999 ∧ -1000 ≤ (V n).toInt ∧ (V n).toInt ≤ 1000) ∧ ∀ m n, m < n → n < E → (T m).toInt < (T n).toInt
def ci_lt (a b : bk_T) : Prop := a.2.1 = 8 ∧ a.2.2 + 8 ≤ b.2.2
def ci_list (l : List bk_T) (E : Nat) : Prop := l.length ≤ 12 ∧ l.Pairwise ci_lt ∧ ∀ a, a ∈ l → 1 ≤ a.2.1 ∧ a.2.1 ≤ 8 ∧ a.2.2 + a.2.1 ≤ E ∧ (a.2.1 < 8 → a.2.2 + a.2.1 = E)
def ci_pos (P : Nat → Nat → Nat) (s : Nat) (a : bk_T) : Nat := if a.2.1 = 8 then P s a.2.2 else 19200 + 224 * s
def ci_enc (P : Nat → Nat → Nat) (T V : Nat → Nat → Int32) (ae : Nat) (a_bits a_lastStep : Nat → Int32) (s : Nat) (a : bk_T) : Prop :=
  en_ok (fun i => bi_at a_bits (ci_pos P s a + i)) (fun i => T s (a.2.2 + i)) (fun i => V s (a.2.2 + i)) a.2.1 a.1 ∧ (a.2.1 = 8 → P s a.2.2 + a.1 ≤ ae) ∧ (a.2.1 < 8 → a_lastStep s = en_s (fun i => bi_at a_bits (19200 + 224 * s + i)) (a.2.1 - 1))
def ci_dis (cn : Nat) (L : Nat → List bk_T) (P : Nat → Nat → Nat) : Prop := ∀ s, s < cn → ∀ a, a ∈ L s → ∀ s', s' < cn → ∀ a', a' ∈ L s' → a.2.1 = 8 → a'.2.1 = 8 → (s ≠ s' ∨ a.2.2 ≠ a'.2.2) → P s a.2.2 + a.1 ≤ P s' a'.2.2 ∨ P s' a'.2.2 + a'.1 ≤ P s a.2.2
def ci_ok (cn : Nat) (T V : Nat → Nat → Int32) (L : Nat → List bk_T) (P : Nat → Nat → Nat) (E : Nat → Nat) (ae : Nat) (a_blockCount a_startBit a_bitCount a_sampleCount a_firstNumber a_fromTime a_toTime a_fromValue a_toValue a_total a_smallest a_greatest a_grown a_bits a_lastStep : Nat → Int32) : Prop :=
  cn ≤ 8 ∧ ae ≤ 19200 ∧ ci_rows cn L P T V a_blockCount a_startBit a_bitCount a_sampleCount a_firstNumber a_fromTime a_toTime a_fromValue a_toValue a_total a_smallest a_greatest a_grown ∧ (∀ s, s < cn → ci_hist (T s) (V s) (E s) ∧ ci_list (L s) (E s)) ∧ (∀ s, s < cn → ∀ a, a ∈ L s → ci_enc P T V ae a_bits a_lastStep s a) ∧ ci_dis cn L P
theorem ci_hist_n {T V : Nat → Int32} {E : Nat} (h : ci_hist T V E) : ∀ n, n < E → (n : Int) ≤ (T n).toInt
  | 0, hn => by have := h.1 0 hn; omega
  | n + 1, hn => by have := ci_hist_n h n (by omega); have := h.2 n (n + 1) (by omega) hn; omega
theorem ci_hist_E {T V : Nat → Int32} {E : Nat} (h : ci_hist T V E) : E ≤ 1000 := by
  rcases Nat.eq_zero_or_pos E with e | e
  · omega
  · have h1 := ci_hist_n h (E - 1) (by omega); have h2 := h.1 (E - 1) (by omega); omega
theorem ci_hist_le {T V : Nat → Int32} {E : Nat} (h : ci_hist T V E) {m n : Nat} (hmn : m ≤ n) (hn : n < E) : (T m).toInt ≤ (T n).toInt := by
  rcases Nat.eq_or_lt_of_le hmn with e | e
  · rw [e]; exact Int.le_refl _
  · have := h.2 m n e hn; omega
theorem ci_hist_mono {T V : Nat → Int32} {E E' : Nat} (h : ci_hist T V E) (he : E' ≤ E) : ci_hist T V E' := ⟨fun n hn => h.1 n (by omega), fun m n hm hn => h.2 m n hm (by omega)⟩
theorem ls_mid {α : Type} (l r : List α) (a : α) : (l ++ a :: r)[l.length]? = some a := by simp
theorem ls_mem {α : Type} {l : List α} {k : Nat} {a : α} (h : l[k]? = some a) : a ∈ l ∧ k < l.length := by
  obtain ⟨hk, e⟩ := List.getElem?_eq_some_iff.mp h
  exact ⟨e ▸ List.getElem_mem hk, hk⟩
theorem ls_idx {α : Type} {l : List α} {a : α} (h : a ∈ l) : ∃ k : Nat, l[k]? = some a := by
  obtain ⟨k, hk, e⟩ := List.getElem_of_mem h
  exact ⟨k, List.getElem?_eq_some_iff.mpr ⟨hk, e⟩⟩
theorem ls_pw {l : List bk_T} (h : l.Pairwise ci_lt) {i j : Nat} {a b : bk_T} (hij : i < j) (hi : l[i]? = some a) (hj : l[j]? = some b) : ci_lt a b := by
  obtain ⟨h1, e1⟩ := List.getElem?_eq_some_iff.mp hi
  obtain ⟨h2, e2⟩ := List.getElem?_eq_some_iff.mp hj
  rw [← e1, ← e2]
  exact List.pairwise_iff_getElem.mp h i j h1 h2 hij
/-- in one series a block is known by its first number -/
theorem ls_fn {l : List bk_T} (h : l.Pairwise ci_lt) {i j : Nat} {a b : bk_T} (hi : l[i]? = some a) (hj : l[j]? = some b) (e : a.2.2 = b.2.2) : i = j ∧ a = b := by
  rcases Nat.lt_trichotomy i j with z | z | z
  · have := ls_pw h z hi hj; unfold ci_lt at this; omega
  · subst z; exact ⟨rfl, Option.some.inj (hi.symm.trans hj)⟩
  · have := ls_pw h z hj hi; unfold ci_lt at this; omega
theorem cx_unpack (f_seriesCount f_safeCount f_arenaEnd f_position f_foundCount f_foundSum f_foundLeast f_foundMost f_foundGrowth f_before f_hasBefore f_levelNow : Int32) (a_labelsOf a_first a_end a_safeFirst a_safeEnd a_lastTime a_safeLast a_having a_blockCount a_startBit a_bitCount a_sampleCount a_firstNumber a_fromTime a_toTime a_fromValue a_toValue a_total a_smallest a_greatest a_grown a_bits a_lastStep a_times a_values : Nat → Int32) {cn : Nat} {T V : Nat → Nat → Int32} {L : Nat → List bk_T} {P : Nat → Nat → Nat} {E : Nat → Nat} {ae : Nat} (I : ci_ok cn T V L P E ae a_blockCount a_startBit a_bitCount a_sampleCount a_firstNumber a_fromTime a_toTime a_fromValue a_toValue a_total a_smallest a_greatest a_grown a_bits a_lastStep) {s k : Nat} {a : bk_T} (hs : s < cn) (hk : (L s)[k]? = some a) :
    ∃ (p' : Int32) (ts vs : Nat → Int32), (∀ j, j < a.2.1 → ts j = T s (a.2.2 + j) ∧ vs j = V s (a.2.2 + j)) ∧ ∀ post : SX → Prop, post (f_seriesCount, f_safeCount, f_arenaEnd, p', f_foundCount, f_foundSum, f_foundLeast, f_foundMost, f_foundGrowth, f_before, f_hasBefore, f_levelNow, a_labelsOf, a_first, a_end, a_safeFirst, a_safeEnd, a_lastTime, a_safeLast, a_having, a_blockCount, a_startBit, a_bitCount, a_sampleCount, a_firstNumber, a_fromTime, a_toTime, a_fromValue, a_toValue, a_total, a_smallest, a_greatest, a_grown, a_bits, a_lastStep, ts, vs) → wpX_unpack post (f_seriesCount, f_safeCount, f_arenaEnd, f_position, f_foundCount, f_foundSum, f_foundLeast, f_foundMost, f_foundGrowth, f_before, f_hasBefore, f_levelNow, a_labelsOf, a_first, a_end, a_safeFirst, a_safeEnd, a_lastTime, a_safeLast, a_having, a_blockCount, a_startBit, a_bitCount, a_sampleCount, a_firstNumber, a_fromTime, a_toTime, a_fromValue, a_toValue, a_total, a_smallest, a_greatest, a_grown, a_bits, a_lastStep, a_times, a_values) (nI (12 * s + k)) := by
  obtain ⟨hcn, hae, hrow, hse, henc, _⟩ := I
  obtain ⟨hm, hkl⟩ := ls_mem hk
  obtain ⟨hh, hl⟩ := hse s hs
  obtain ⟨r1, _, r3, _⟩ := ro_e ((hrow s hs).2 k a hk)
  obtain ⟨e1, e2, _⟩ := henc s hs a hm
  have hla := hl.2.2 a hm
  have hl12 := hl.1
  have hr : ∀ j, j < a.2.1 → -32768 ≤ (T s (a.2.2 + j)).toInt ∧ (T s (a.2.2 + j)).toInt < 32768 ∧ -32768 ≤ (V s (a.2.2 + j)).toInt ∧ (V s (a.2.2 + j)).toInt < 32768 := fun j hj => by
    have := hh.1 (a.2.2 + j) (by omega); omega
  by_cases z : a.2.1 = 8
  · rw [if_pos z] at r1
    have ep : ci_pos P s a = P s a.2.2 := if_pos z
    have := e2 z
    exact wx_unpack f_seriesCount f_safeCount f_arenaEnd f_position f_foundCount f_foundSum f_foundLeast f_foundMost f_foundGrowth f_before f_hasBefore f_levelNow a_labelsOf a_first a_end a_safeFirst a_safeEnd a_lastTime a_safeLast a_having a_blockCount a_startBit a_bitCount a_sampleCount a_firstNumber a_fromTime a_toTime a_fromValue a_toValue a_total a_smallest a_greatest a_grown a_bits a_lastStep a_times a_values (p := ci_pos P s a) (f := fun i => T s (a.2.2 + i)) (g := fun i => V s (a.2.2 + i)) (by omega) (Or.inr ⟨by rw [ep]; exact r1, by omega⟩) r3 (by omega) e1 hr
  · rw [if_neg z] at r1
    have ep : ci_pos P s a = 19200 + 224 * s := if_neg z
    exact wx_unpack f_seriesCount f_safeCount f_arenaEnd f_position f_foundCount f_foundSum f_foundLeast f_foundMost f_foundGrowth f_before f_hasBefore f_levelNow a_labelsOf a_first a_end a_safeFirst a_safeEnd a_lastTime a_safeLast a_having a_blockCount a_startBit a_bitCount a_sampleCount a_firstNumber a_fromTime a_toTime a_fromValue a_toValue a_total a_smallest a_greatest a_grown a_bits a_lastStep a_times a_values (p := ci_pos P s a) (f := fun i => T s (a.2.2 + i)) (g := fun i => V s (a.2.2 + i)) (by omega) (Or.inl ⟨r1, by rw [ep]; omega⟩) r3 (by omega) e1 hr

/-! ===== the numbers that are there are covered by the blocks, in order ===== -/
def cv_all (l : List bk_T) (F E : Nat) : Prop := ∀ n, F ≤ n → n < E → ∃ b, b ∈ l ∧ b.2.2 ≤ n ∧ n < b.2.2 + b.2.1
def cv_inv (F E num : Nat) (r : List bk_T) : Prop := F ≤ num ∧ num ≤ E ∧ (num = F ∨ ∀ b, b ∈ r → num ≤ b.2.2) ∧ cv_all r num E
theorem cv_0 {F E : Nat} {l : List bk_T} (h : cv_all l F E) (he : F ≤ E) : cv_inv F E F l := ⟨Nat.le_refl _, he, Or.inl rfl, h⟩
theorem cv_nil {F E num : Nat} (h : cv_inv F E num []) : num = E := by
  obtain ⟨_, h2, _, h4⟩ := h
  rcases Nat.eq_or_lt_of_le h2 with e | e
  · exact e
  · obtain ⟨b, hb, _⟩ := h4 num (Nat.le_refl _) e
    cases hb
theorem cv_skip {F E num : Nat} {a : bk_T} {r : List bk_T} (h : cv_inv F E num (a :: r)) (ha : a.2.2 + a.2.1 ≤ F) (h1 : 1 ≤ a.2.1) : num = F ∧ cv_inv F E num r := by
  obtain ⟨k1, k2, k3, k4⟩ := h
  have e : num = F := by
    rcases k3 with e | e
    · exact e
    · have := e a (List.mem_cons_self ..); omega
  refine ⟨e, k1, k2, Or.inl e, fun n hn1 hn2 => ?_⟩
  obtain ⟨b, hb, hb1, hb2⟩ := k4 n hn1 hn2
  rcases List.mem_cons.mp hb with z | z
  · subst z; omega
  · exact ⟨b, z, hb1, hb2⟩
theorem cv_take {F E num : Nat} {a : bk_T} {r : List bk_T} (h : cv_inv F E num (a :: r)) (ha : F < a.2.2 + a.2.1) (he : a.2.2 + a.2.1 ≤ E) (h1 : 1 ≤ a.2.1) (h8 : a.2.1 ≤ 8) (hp : ∀ b, b ∈ r → ci_lt a b) :
    (a.2.2 - F = num - F ∧ a.2.2 ≤ num ∧ num < a.2.2 + a.2.1) ∧ cv_inv F E (a.2.2 + a.2.1) r := by
  obtain ⟨k1, k2, k3, k4⟩ := h
  have q1 : a.2.2 ≤ num := by
    rcases Nat.lt_or_ge num a.2.2 with z | z
    · obtain ⟨b, hb, hb1, hb2⟩ := k4 num (Nat.le_refl _) (by omega)
      rcases List.mem_cons.mp hb with z2 | z2
      · subst z2; omega
      · have := hp b z2; unfold ci_lt at this; omega
    · exact z
  have q2 : num = F ∨ num = a.2.2 := by
    rcases k3 with e | e
    · exact Or.inl e
    · have := e a (List.mem_cons_self ..); exact Or.inr (by omega)
  refine ⟨⟨by omega, q1, by omega⟩, by omega, he, Or.inr (fun b hb => ?_), fun n hn1 hn2 => ?_⟩
  · have := hp b hb; unfold ci_lt at this; omega
  · obtain ⟨b, hb, hb1, hb2⟩ := k4 n (by omega) hn2
    rcases List.mem_cons.mp hb with z | z
    · subst z; omega
    · exact ⟨b, z, hb1, hb2⟩
end
section
/-! closed blocks: nextClosed, moveTogether, close -/
def cq_of (P : Nat → Bool) : Nat → Nat
  | 0 => 0
  | n + 1 => cq_of P n + (P n).toNat
theorem cq_mono {P Q : Nat → Bool} : ∀ {N : Nat}, (∀ k, k < N → P k = true → Q k = true) → cq_of P N ≤ cq_of Q N
  | 0, _ => Nat.le_refl _
  | N + 1, h => by
    have a := cq_mono (P := P) (Q := Q) (N := N) (fun k hk => h k (by omega))
    have b : (P N).toNat ≤ (Q N).toNat := by
      cases e : P N with
      | false => exact Nat.zero_le _
      | true => rw [h N (by omega) e]; exact Nat.le_refl _
    simp only [cq_of]; omega
theorem cq_lt {P Q : Nat → Bool} {a : Nat} (hp : P a = false) (hq : Q a = true) : ∀ {N : Nat}, (∀ k, k < N → P k = true → Q k = true) → a < N → cq_of P N < cq_of Q N
  | 0, _, h => by omega
  | N + 1, h, ha => by
    simp only [cq_of]
    rcases Nat.lt_or_ge a N with z | z
    · have x := cq_lt hp hq (N := N) (fun k hk => h k (by omega)) z
      have b : (P N).toNat ≤ (Q N).toNat := by
        cases e : P N with
        | false => exact Nat.zero_le _
        | true => rw [h N (by omega) e]; exact Nat.le_refl _
      omega
    · have e : a = N := by omega
      subst e
      have x := cq_mono (P := P) (Q := Q) (N := a) (fun k hk => h k (by omega))
      rw [hq, hp]; simp only [Bool.toNat_true, Bool.toNat_false]; omega
def up_f {α : Type} (f : Nat → α) (k : Nat) (x : α) : Nat → α := fun j => if j = k then x else f j
theorem up_s {α : Type} {f : Nat → α} {k : Nat} {x : α} : up_f f k x k = x := if_pos rfl
theorem up_o {α : Type} {f : Nat → α} {k j : Nat} {x : α} (h : j ≠ k) : up_f f k x j = f j := if_neg h
theorem ba_m1 : (-1 : Int32).toInt = -1 := by decide
/-- r is the place, among those of Q, that lies first behind beh; -1 if there is none -/
def nc_best (S : Nat → Int32) (beh : Int32) (Q : Nat → Prop) (r : Int32) : Prop :=
  (r = -1 ∧ ∀ b, Q b → S b ≤ beh) ∨ ∃ b, Q b ∧ b < 96 ∧ r = nI b ∧ ¬ S b ≤ beh ∧ ∀ b', Q b' → ¬ S b' ≤ beh → S b ≤ S b'
theorem nc_iff {S : Nat → Int32} {beh : Int32} {Q Q' : Nat → Prop} {r : Int32} (h : ∀ b, Q' b ↔ Q b) (I : nc_best S beh Q r) : nc_best S beh Q' r := by
  have e : Q' = Q := funext fun b => propext (h b)
  rw [e]; exact I
theorem nc_old {S : Nat → Int32} {beh : Int32} {Q : Nat → Prop} {r : Int32} {b : Nat} (I : nc_best S beh Q r) (h : S b ≤ beh) : nc_best S beh (fun b' => Q b' ∨ b' = b) r := by
  rcases I with ⟨h1, h2⟩ | ⟨c, h1, h2, h3, h4, h5⟩
  · exact Or.inl ⟨h1, fun b' hb => hb.elim (h2 b') (fun e => e ▸ h)⟩
  · exact Or.inr ⟨c, Or.inl h1, h2, h3, h4, fun b' hb hn => hb.elim (fun q => h5 b' q hn) (fun e => absurd (e ▸ h) hn)⟩
theorem nc_new {S : Nat → Int32} {beh : Int32} {Q : Nat → Prop} {r : Int32} {b : Nat} (I : nc_best S beh Q r) (hb : b < 96) (h : ¬ S b ≤ beh) (hr : r < 0) : nc_best S beh (fun b' => Q b' ∨ b' = b) (nI b) := by
  rcases I with ⟨h1, h2⟩ | ⟨c, h1, h2, h3, h4, h5⟩
  · exact Or.inr ⟨b, Or.inr rfl, hb, rfl, h, fun b' q hn => q.elim (fun q => absurd (h2 b' q) hn) (fun e => by rw [e]; exact Int32.le_refl _)⟩
  · exact absurd (h3 ▸ hr) (nI_pos (by omega))
theorem nc_two {S : Nat → Int32} {beh : Int32} {Q : Nat → Prop} {r : Int32} {b : Nat} (I : nc_best S beh Q r) (hb : b < 96) (h : ¬ S b ≤ beh) (hr : ¬ r < 0) :
    ∃ c, c < 96 ∧ r = nI c ∧ (S b ≤ S c → nc_best S beh (fun b' => Q b' ∨ b' = b) (nI b)) ∧ (¬ S b ≤ S c → nc_best S beh (fun b' => Q b' ∨ b' = b) r) := by
  rcases I with ⟨h1, h2⟩ | ⟨c, h1, h2, h3, h4, h5⟩
  · exact absurd (by rw [h1]; decide) hr
  · refine ⟨c, h2, h3, fun z => Or.inr ⟨b, Or.inr rfl, hb, rfl, h, fun b' q hn => q.elim (fun q => Int32.le_trans z (h5 b' q hn)) (fun e => by rw [e]; exact Int32.le_refl _)⟩, fun z => Or.inr ⟨c, Or.inl h1, h2, h3, h4, fun b' q hn => q.elim (fun q => h5 b' q hn) (fun e => ?_)⟩⟩
    rw [e]
    rw [ba_le] at z ⊢
    omega
section
variable {f_seriesCount f_safeCount f_arenaEnd f_position f_foundCount f_foundSum f_foundLeast f_foundMost f_foundGrowth f_before f_hasBefore f_levelNow : Int32} {a_labelsOf a_first a_end a_safeFirst a_safeEnd a_lastTime a_safeLast a_having a_blockCount a_startBit a_bitCount a_sampleCount a_firstNumber a_fromTime a_toTime a_fromValue a_toValue a_total a_smallest a_greatest a_grown a_bits a_lastStep a_times a_values : Nat → Int32}
theorem wx_nc18 {post : Int32 → Prop} {J : Int32 → Int32 → Prop} {beh : Int32} {s nb : Nat} {Q0 : Nat → Prop} (hs : s < 8) (hnb : nb ≤ 12) (hb : a_blockCount s = nI nb)
    (HJ : ∀ r', nc_best a_startBit beh (fun b => Q0 b ∨ (12 * s ≤ b ∧ b < 12 * s + nb)) r' → J r' (nI (s + 1))) :
    ∀ (d k : Nat) (r : Int32), k + d = nb → nc_best a_startBit beh (fun b => Q0 b ∨ (12 * s ≤ b ∧ b < 12 * s + k)) r → wX_nextClosed_18 post J beh (nI s) f_seriesCount f_safeCount f_arenaEnd f_position f_foundCount f_foundSum f_foundLeast f_foundMost f_foundGrowth f_before f_hasBefore f_levelNow a_labelsOf a_first a_end a_safeFirst a_safeEnd a_lastTime a_safeLast a_having a_blockCount a_startBit a_bitCount a_sampleCount a_firstNumber a_fromTime a_toTime a_fromValue a_toValue a_total a_smallest a_greatest a_grown a_bits a_lastStep a_times a_values (d + 1) r (nI (12 * s + k)) := by
  have hcl : (nI s).toNatClampNeg = s := nI_clamp (by omega)
  have hin : vp_in (nI s) 8 := vp_in_nI hs (by omega)
  have he : 12 * nI s + a_blockCount (nI s).toNatClampNeg = nI (12 * s + nb) := by rw [hcl, hb, show (12 : Int32) = nI 12 from rfl, pk_mul, nI_add]
  intro d
  induction d with
  | zero =>
    intro k r hk I
    have e : k = nb := by omega
    subst e
    refine ⟨hin, br_t ?_ (nm_r (nI_1 s) (HJ r I))⟩
    rw [he]; exact Int32.le_refl _
  | succ d ih =>
    intro k r hk I
    have hc2 : (nI (12 * s + k)).toNatClampNeg = 12 * s + k := nI_clamp (by omega)
    have hin2 : vp_in (nI (12 * s + k)) 96 := vp_in_nI (by omega) (by omega)
    have hq : ∀ b, (Q0 b ∨ (12 * s ≤ b ∧ b < 12 * s + (k + 1))) ↔ ((Q0 b ∨ (12 * s ≤ b ∧ b < 12 * s + k)) ∨ b = 12 * s + k) := fun b => by
      constructor
      · rintro (h | h)
        · exact Or.inl (Or.inl h)
        · rcases Nat.lt_or_ge b (12 * s + k) with z | z
          · exact Or.inl (Or.inr ⟨h.1, z⟩)
          · exact Or.inr (by omega)
      · rintro ((h | h) | h)
        · exact Or.inl h
        · exact Or.inr (by omega)
        · exact Or.inr (by omega)
    have step : ∀ r', nc_best a_startBit beh (fun b' => (Q0 b' ∨ (12 * s ≤ b' ∧ b' < 12 * s + k)) ∨ b' = 12 * s + k) r' → wX_nextClosed_18 post J beh (nI s) f_seriesCount f_safeCount f_arenaEnd f_position f_foundCount f_foundSum f_foundLeast f_foundMost f_foundGrowth f_before f_hasBefore f_levelNow a_labelsOf a_first a_end a_safeFirst a_safeEnd a_lastTime a_safeLast a_having a_blockCount a_startBit a_bitCount a_sampleCount a_firstNumber a_fromTime a_toTime a_fromValue a_toValue a_total a_smallest a_greatest a_grown a_bits a_lastStep a_times a_values (d + 1) r' (nI (12 * s + k + 1)) := fun r' I' => ih (k + 1) r' (by omega) (nc_iff hq I')
    refine ⟨hin, br_f ?_ ⟨hin2, br_c (fun z => nm_r (nI_1 _) ?_) (fun z => br_c (fun y => nm_r (nI_1 _) ?_) (fun y => ?_))⟩⟩
    · rw [he]; exact nI_ge (by omega) (by omega)
    · rw [hc2] at z; exact step r (nc_old I z)
    · rw [hc2] at z; exact step _ (nc_new I (by omega) z y)
    · rw [hc2] at z
      obtain ⟨c, hc, rfl, k1, k2⟩ := nc_two I (by omega) z y
      have hcc : (nI c).toNatClampNeg = c := nI_clamp (by omega)
      refine ⟨hin2, vp_in_nI hc (by omega), br_c (fun w => nm_r (nI_1 _) ?_) (fun w => nm_r (nI_1 _) ?_)⟩
      · rw [hc2, hcc] at w; exact step _ (k1 w)
      · rw [hc2, hcc] at w; exact step _ (k2 w)
theorem wx_nextClosed {post : Int32 → Prop} {beh : Int32} {cn : Nat} {nb : Nat → Nat} (hcn : cn ≤ 8) (hsc : f_seriesCount = nI cn) (hb : ∀ s, s < cn → a_blockCount s = nI (nb s) ∧ nb s ≤ 12)
    (H : ∀ r, nc_best a_startBit beh (fun b => b / 12 < cn ∧ b % 12 < nb (b / 12)) r → post r) : wpX_nextClosed post (f_seriesCount, f_safeCount, f_arenaEnd, f_position, f_foundCount, f_foundSum, f_foundLeast, f_foundMost, f_foundGrowth, f_before, f_hasBefore, f_levelNow, a_labelsOf, a_first, a_end, a_safeFirst, a_safeEnd, a_lastTime, a_safeLast, a_having, a_blockCount, a_startBit, a_bitCount, a_sampleCount, a_firstNumber, a_fromTime, a_toTime, a_fromValue, a_toValue, a_total, a_smallest, a_greatest, a_grown, a_bits, a_lastStep, a_times, a_values) beh := by
  have loop : ∀ (d s : Nat) (r : Int32), s + d = cn → nc_best a_startBit beh (fun b => b / 12 < s ∧ b % 12 < nb (b / 12)) r → wX_nextClosed_4 post beh f_seriesCount f_safeCount f_arenaEnd f_position f_foundCount f_foundSum f_foundLeast f_foundMost f_foundGrowth f_before f_hasBefore f_levelNow a_labelsOf a_first a_end a_safeFirst a_safeEnd a_lastTime a_safeLast a_having a_blockCount a_startBit a_bitCount a_sampleCount a_firstNumber a_fromTime a_toTime a_fromValue a_toValue a_total a_smallest a_greatest a_grown a_bits a_lastStep a_times a_values (d + 1) r (nI s) := by
    intro d
    induction d with
    | zero =>
      intro s r hs I
      have e : s = cn := by omega
      subst e
      refine br_t ?_ (H r I)
      rw [hsc]; exact Int32.le_refl _
    | succ d ih =>
      intro s r hs I
      obtain ⟨hb1, hb2⟩ := hb s (by omega)
      refine br_f ?_ (nm_r (e' := nI (12 * s + 0)) (by rw [show (12 : Int32) = nI 12 from rfl, pk_mul]; rfl) ⟨nb s + 1, wx_nc18 (Q0 := fun b => b / 12 < s ∧ b % 12 < nb (b / 12)) (by omega) hb2 hb1 (fun r' I' => ih (s + 1) r' (by omega) (nc_iff (fun b => ?_) I')) (nb s) 0 r (by omega) (nc_iff (fun b => ?_) I)⟩)
      · rw [hsc]; exact nI_ge (by omega) (by omega)
      · show _ ↔ ((b / 12 < s ∧ b % 12 < nb (b / 12)) ∨ (12 * s ≤ b ∧ b < 12 * s + nb s))
        by_cases e : b / 12 = s
        · rw [e]; omega
        · omega
      · show ((b / 12 < s ∧ b % 12 < nb (b / 12)) ∨ (12 * s ≤ b ∧ b < 12 * s + 0)) ↔ _
        constructor
        · rintro (h | h)
          · exact h
          · omega
        · exact Or.inl
  refine ⟨cn + 1, loop cn 0 (-1) (by omega) (Or.inl ⟨rfl, fun b h => ?_⟩)⟩
  have := h.1
  omega
end

/-! ===== the closed blocks in the arena, by their places in the tables ===== -/
def ly_raw (C : Nat → Bool) (bc p : Nat → Nat) (ae : Nat) (S : Nat → Int32) : Prop :=
  ae ≤ 19200 ∧ (∀ b, C b = true → b < 96 ∧ S b = nI (p b) ∧ p b + bc b ≤ ae ∧ 1 ≤ bc b ∧ bc b ≤ 210) ∧ ∀ b b', C b = true → C b' = true → b ≠ b' → p b + bc b ≤ p b' ∨ p b' + bc b' ≤ p b
def mt_inv (C : Nat → Bool) (bc p0 : Nat → Nat) (S0 : Nat → Int32) (B0 : Nat → Bool) (dn to : Nat) (p : Nat → Nat) (S : Nat → Int32) (B : Nat → Bool) : Prop :=
  (∀ b, C b = false → S b = S0 b) ∧ (∀ b, C b = true → S b = nI (p b) ∧ (∀ i, i < bc b → B (p b + i) = B0 (p0 b + i)) ∧ p b ≤ p0 b ∧ (p0 b < dn → p b + bc b ≤ to) ∧ (dn ≤ p0 b → p b = p0 b ∧ to ≤ p0 b)) ∧
  (∀ b b', C b = true → C b' = true → b ≠ b' → p b + bc b ≤ p b' ∨ p b' + bc b' ≤ p b) ∧ ∀ q, 19200 ≤ q → B q = B0 q
/-- one block has moved -/
theorem mt_step {C : Nat → Bool} {bc p0 : Nat → Nat} {S0 : Nat → Int32} {B0 : Nat → Bool} {dn to ae : Nat} {p : Nat → Nat} {S : Nat → Int32} {B B' : Nat → Bool} {c : Nat} (h0 : ly_raw C bc p0 ae S0) (I : mt_inv C bc p0 S0 B0 dn to p S B)
    (hc : C c = true) (hd : dn ≤ p0 c) (hm : ∀ b, C b = true → dn ≤ p0 b → p0 c ≤ p0 b) (hB : ∀ q, B' q = if to ≤ q ∧ q < to + bc c then B (p0 c + (q - to)) else B q) :
    mt_inv C bc p0 S0 B0 (p0 c + 1) (to + bc c) (up_f p c to) (upd S c (nI to)) B' := by
  obtain ⟨i1, i2, i3, i4⟩ := I
  obtain ⟨j1, j2, j3⟩ := h0
  obtain ⟨_, _, c3, c4, _⟩ := j2 c hc
  obtain ⟨_, d2, d3, _, d5⟩ := i2 c hc
  obtain ⟨d6, d7⟩ := d5 hd
  -- another block is moved already, or lies behind
  have alt : ∀ b, C b = true → b ≠ c → p b + bc b ≤ to ∨ (p b = p0 b ∧ p0 c + bc c ≤ p0 b) := fun b hb hne => by
    obtain ⟨_, _, _, k4, k5⟩ := i2 b hb
    rcases Nat.lt_or_ge (p0 b) dn with z | z
    · exact Or.inl (k4 z)
    · have := hm b hb z
      have h1 := j3 b c hb hc hne
      have h2 := (j2 b hb).2.2.2.1
      exact Or.inr ⟨(k5 z).1, by omega⟩
  refine ⟨fun b hb => ?_, fun b hb => ?_, fun b b' hb hb' hne => ?_, fun q hq => ?_⟩
  · rw [pk_un (by intro e; rw [e, hc] at hb; cases hb)]; exact i1 b hb
  · by_cases e : b = c
    · subst e
      refine ⟨by rw [pk_us, up_s], fun i hi => ?_, ?_, fun _ => ?_, fun z => ?_⟩
      · rw [up_s, hB, if_pos (by omega), Nat.add_sub_cancel_left]; have := d2 i hi; rw [d6] at this; exact this
      · rw [up_s]; exact d7
      · rw [up_s]; exact Nat.le_refl _
      · omega
    · obtain ⟨k1, k2, k3, k4, k5⟩ := i2 b hb
      have ha := alt b hb e
      refine ⟨by rw [pk_un e, up_o e]; exact k1, fun i hi => ?_, by rw [up_o e]; exact k3, fun z => ?_, fun z => ?_⟩
      · rw [up_o e, hB, if_neg (by omega)]; exact k2 i hi
      · rw [up_o e]
        rcases ha with q | q
        · omega
        · omega
      · rw [up_o e]
        have := k5 (by omega)
        rcases ha with q | q
        · have := (j2 b hb).2.2.2.1
          omega
        · omega
  · by_cases e : b = c
    · subst e
      rw [up_s, up_o (fun z => hne z.symm)]
      rcases alt b' hb' (fun z => hne z.symm) with q | q
      · exact Or.inr q
      · exact Or.inl (by omega)
    · rw [up_o e]
      by_cases e' : b' = c
      · subst e'
        rw [up_s]
        rcases alt b hb e with q | q
        · exact Or.inl q
        · exact Or.inr (by omega)
      · rw [up_o e']; exact i3 b b' hb hb' hne
  · rw [hB, if_neg (by omega)]; exact i4 q hq
theorem wx_mt_l (f_seriesCount f_safeCount f_arenaEnd f_position f_foundCount f_foundSum f_foundLeast f_foundMost f_foundGrowth f_before f_hasBefore f_levelNow : Int32) (a_labelsOf a_first a_end a_safeFirst a_safeEnd a_lastTime a_safeLast a_having a_blockCount a_startBit a_bitCount a_sampleCount a_firstNumber a_fromTime a_toTime a_fromValue a_toValue a_total a_smallest a_greatest a_grown a_bits a_lastStep a_times a_values : Nat → Int32) {C : Nat → Bool} {bc p0 : Nat → Nat} {ae cn : Nat} {nb : Nat → Nat} (hcn : cn ≤ 8) (hsc : f_seriesCount = nI cn) (hb : ∀ s, s < cn → a_blockCount s = nI (nb s) ∧ nb s ≤ 12)
    (h0 : ly_raw C bc p0 ae a_startBit) (hC : ∀ b, C b = true → (b / 12 < cn ∧ b % 12 < nb (b / 12)) ∧ a_bitCount b = nI (bc b)) (hO : ∀ b, (b / 12 < cn ∧ b % 12 < nb (b / 12)) → C b = false → a_startBit b = -1) :
    ∀ (m dn to : Nat) (p : Nat → Nat) (S bits : Nat → Int32) (x1 pos : Int32), mt_inv C bc p0 a_startBit (bi_at a_bits) dn to p S (bi_at bits) → x1.toInt = (dn : Int) - 1 → cq_of (fun b => C b && decide (dn ≤ p0 b)) 96 ≤ m → to + 210 * m ≤ 18480 →
      ∃ (p' : Nat → Nat) (ae' : Nat) (S' bits' : Nat → Int32) (pos' : Int32), ly_raw C bc p' ae' S' ∧ ae' ≤ 18480 ∧ (∀ b, C b = false → S' b = a_startBit b) ∧ (∀ b, C b = true → ∀ i, i < bc b → bi_at bits' (p' b + i) = bi_at a_bits (p0 b + i)) ∧ (∀ q, 19200 ≤ q → bi_at bits' q = bi_at a_bits q) ∧
        ∀ post : SX → Prop, post (f_seriesCount, f_safeCount, nI ae', pos', f_foundCount, f_foundSum, f_foundLeast, f_foundMost, f_foundGrowth, f_before, f_hasBefore, f_levelNow, a_labelsOf, a_first, a_end, a_safeFirst, a_safeEnd, a_lastTime, a_safeLast, a_having, a_blockCount, S', a_bitCount, a_sampleCount, a_firstNumber, a_fromTime, a_toTime, a_fromValue, a_toValue, a_total, a_smallest, a_greatest, a_grown, bits', a_lastStep, a_times, a_values) → wX_moveTogether_6 post (m + 2) x1 (nI to) 1 f_seriesCount f_safeCount f_arenaEnd pos f_foundCount f_foundSum f_foundLeast f_foundMost f_foundGrowth f_before f_hasBefore f_levelNow a_labelsOf a_first a_end a_safeFirst a_safeEnd a_lastTime a_safeLast a_having a_blockCount S a_bitCount a_sampleCount a_firstNumber a_fromTime a_toTime a_fromValue a_toValue a_total a_smallest a_greatest a_grown bits a_lastStep a_times a_values := by
  intro m
  induction m with
  | zero =>
    intro dn to p S bits x1 pos I hx hm hto
    have hall : ∀ b, C b = true → p0 b < dn := fun b hcb => by
      rcases Nat.lt_or_ge (p0 b) dn with z | z
      · exact z
      · have := cq_lt (P := fun _ => false) (Q := fun b => C b && decide (dn ≤ p0 b)) (a := b) rfl (by rw [hcb, decide_eq_true z]; rfl) (N := 96) (fun _ _ h => by cases h) ((h0.2.1 b hcb).1)
        omega
    obtain ⟨i1, i2, i3, i4⟩ := I
    refine ⟨p, to, S, bits, pos, ⟨by omega, fun b hcb => ?_, i3⟩, by omega, i1, fun b hcb => (i2 b hcb).2.1, i4, fun post hq => ?_⟩
    · have k := i2 b hcb
      have k0 := h0.2.1 b hcb
      exact ⟨k0.1, k.1, k.2.2.2.1 (hall b hcb), k0.2.2.2.1, k0.2.2.2.2⟩
    · refine br_f (by decide) (wx_nextClosed hcn hsc hb (fun r hr => ?_))
      rcases hr with ⟨rfl, _⟩ | ⟨b, q1, q2, rfl, q4, _⟩
      · exact br_t (by decide) (br_t rfl (br_t rfl hq))
      · exfalso
        apply q4
        rw [ba_le, hx]
        cases hcb : C b with
        | true =>
          have := i2 b hcb
          have := hall b hcb
          have := (h0.2.1 b hcb).2.2.1
          have := h0.1
          rw [(i2 b hcb).1, nI_toInt (by omega)]; omega
        | false => rw [i1 b hcb, hO b q1 hcb, ba_m1]; omega
  | succ m ih =>
    intro dn to p S bits x1 pos I hx hm hto
    have hae := h0.1
    by_cases hex : ∃ c, C c = true ∧ dn ≤ p0 c ∧ ∀ b, C b = true → dn ≤ p0 b → p0 c ≤ p0 b
    · obtain ⟨c, hc, hd, hmin⟩ := hex
      obtain ⟨i1, i2, i3, i4⟩ := I
      obtain ⟨c1, c2, c3, c4, c5⟩ := h0.2.1 c hc
      obtain ⟨e1, e2, e3, e4, e5⟩ := i2 c hc
      obtain ⟨e6, e7⟩ := e5 hd
      have hcc : (nI c).toNatClampNeg = c := nI_clamp (by omega)
      have hcin : vp_in (nI c) 96 := vp_in_nI c1 (by omega)
      have hbcc := (hC c hc).2
      obtain ⟨b', pos1, hb', W1⟩ := wx_move f_seriesCount f_safeCount f_arenaEnd pos f_foundCount f_foundSum f_foundLeast f_foundMost f_foundGrowth f_before f_hasBefore f_levelNow a_labelsOf a_first a_end a_safeFirst a_safeEnd a_lastTime a_safeLast a_having a_blockCount S a_bitCount a_sampleCount a_firstNumber a_fromTime a_toTime a_fromValue a_toValue a_total a_smallest a_greatest a_grown bits a_lastStep a_times a_values (FR := nI (p0 c)) (TO := nI to) (C := nI (bc c)) (p0 c) to (bc c) rfl rfl rfl e7 (by omega)
      have I2 := mt_step h0 ⟨i1, i2, i3, i4⟩ hc hd hmin hb'
      have hdec : cq_of (fun b => C b && decide (p0 c + 1 ≤ p0 b)) 96 ≤ m := by
        have := cq_lt (P := fun b => C b && decide (p0 c + 1 ≤ p0 b)) (Q := fun b => C b && decide (dn ≤ p0 b)) (a := c) (by rw [decide_eq_false (by omega), Bool.and_false]) (by rw [hc, decide_eq_true hd]; rfl) (N := 96) (fun k _ h => by
          rw [Bool.and_eq_true, decide_eq_true_eq] at h ⊢
          exact ⟨h.1, by omega⟩) c1
        omega
      obtain ⟨p', ae', S', bits', pos', r1, r2, r3, r4, r5, W⟩ := ih (p0 c + 1) (to + bc c) _ _ b' (nI (p0 c)) pos1 I2 (by rw [nI_toInt (by omega)]; omega) hdec (by omega)
      refine ⟨p', ae', S', bits', pos', r1, r2, r3, r4, r5, fun post hq => br_f (by decide) (wx_nextClosed hcn hsc hb (fun r hr => ?_))⟩
      have hr2 : r = nI c := by
        have hq0 := (hC c hc).1
        have hnc : ¬ S c ≤ x1 := by rw [e1, ba_le, hx, nI_toInt (by omega)]; omega
        rcases hr with ⟨_, q⟩ | ⟨b, q1, q2, q3, q4, q5⟩
        · exact absurd (q c hq0) hnc
        · have hbC : C b = true := by
            cases hcb : C b with
            | true => rfl
            | false => exfalso; apply q4; rw [i1 b hcb, hO b q1 hcb, ba_le, ba_m1, hx]; omega
          obtain ⟨g1, g2, g3, g4, g5⟩ := i2 b hbC
          have gg := (h0.2.1 b hbC).2.2
          have hbd : dn ≤ p0 b := by rw [g1, ba_le, hx, nI_toInt (by omega)] at q4; omega
          have h6 := q5 c hq0 hnc
          rw [g1, e1, ba_le, nI_toInt (by omega), nI_toInt (by omega), (g5 hbd).1, e6] at h6
          have h7 := hmin b hbC hbd
          rw [q3]
          by_cases e : b = c
          · rw [e]
          · have := h0.2.2 b c hbC hc e
            omega
      subst hr2
      have hSc : S (nI c).toNatClampNeg = nI (p0 c) := by rw [hcc, e1, e6]
      refine br_f (nI_pos (by omega)) (br_f (by decide) ⟨hcin, nm_r hSc ⟨hcin, ?_⟩⟩)
      rw [hcc, hbcc]
      refine W1 _ ⟨hcin, nm_r (e' := upd S c (nI to)) rfl ⟨hcin, nm_r (e' := nI (to + bc c)) (by rw [hbcc, nI_add]) ?_⟩⟩
      exact W post hq
    · -- none is left: as in the first case
      have hall : ∀ b, C b = true → p0 b < dn := by
        intro b hcb
        rcases Nat.lt_or_ge (p0 b) dn with z | z
        · exact z
        · exfalso
          obtain ⟨v, ⟨c, hc, hcd, hcv⟩, hv⟩ := pk_least (fun v => ∃ c, C c = true ∧ dn ≤ p0 c ∧ p0 c = v) ⟨p0 b, b, hcb, z, rfl⟩
          exact hex ⟨c, hc, hcd, fun b2 h2 h3 => by
            rcases Nat.lt_or_ge (p0 b2) (p0 c) with y | y
            · exact absurd ⟨b2, h2, h3, rfl⟩ (hv (p0 b2) (by omega))
            · exact y⟩
      obtain ⟨i1, i2, i3, i4⟩ := I
      refine ⟨p, to, S, bits, pos, ⟨by omega, fun b hcb => ?_, i3⟩, by omega, i1, fun b hcb => (i2 b hcb).2.1, i4, fun post hq => ?_⟩
      · have k := i2 b hcb
        have k0 := h0.2.1 b hcb
        exact ⟨k0.1, k.1, k.2.2.2.1 (hall b hcb), k0.2.2.2.1, k0.2.2.2.2⟩
      · refine br_f (by decide) (wx_nextClosed hcn hsc hb (fun r hr => ?_))
        rcases hr with ⟨rfl, _⟩ | ⟨b, q1, q2, rfl, q4, _⟩
        · exact br_t (by decide) (br_t rfl (br_t rfl hq))
        · exfalso
          apply q4
          rw [ba_le, hx]
          cases hcb : C b with
          | true =>
            have := i2 b hcb
            have := hall b hcb
            have := (h0.2.1 b hcb).2.2.1
            rw [(i2 b hcb).1, nI_toInt (by omega)]; omega
          | false => rw [i1 b hcb, hO b q1 hcb, ba_m1]; omega
theorem wx_moveTogether (f_seriesCount f_safeCount f_arenaEnd f_position f_foundCount f_foundSum f_foundLeast f_foundMost f_foundGrowth f_before f_hasBefore f_levelNow : Int32) (a_labelsOf a_first a_end a_safeFirst a_safeEnd a_lastTime a_safeLast a_having a_blockCount a_startBit a_bitCount a_sampleCount a_firstNumber a_fromTime a_toTime a_fromValue a_toValue a_total a_smallest a_greatest a_grown a_bits a_lastStep a_times a_values : Nat → Int32) {C : Nat → Bool} {bc p0 : Nat → Nat} {ae cn : Nat} {nb : Nat → Nat} (hcn : cn ≤ 8) (hsc : f_seriesCount = nI cn) (hb : ∀ s, s < cn → a_blockCount s = nI (nb s) ∧ nb s ≤ 11)
    (h0 : ly_raw C bc p0 ae a_startBit) (hC : ∀ b, C b = true → (b / 12 < cn ∧ b % 12 < nb (b / 12)) ∧ a_bitCount b = nI (bc b)) (hO : ∀ b, (b / 12 < cn ∧ b % 12 < nb (b / 12)) → C b = false → a_startBit b = -1) :
      ∃ (p' : Nat → Nat) (ae' : Nat) (S' bits' : Nat → Int32) (pos' : Int32), ly_raw C bc p' ae' S' ∧ ae' ≤ 18480 ∧ (∀ b, C b = false → S' b = a_startBit b) ∧ (∀ b, C b = true → ∀ i, i < bc b → bi_at bits' (p' b + i) = bi_at a_bits (p0 b + i)) ∧ (∀ q, 19200 ≤ q → bi_at bits' q = bi_at a_bits q) ∧
        ∀ post : SX → Prop, post (f_seriesCount, f_safeCount, nI ae', pos', f_foundCount, f_foundSum, f_foundLeast, f_foundMost, f_foundGrowth, f_before, f_hasBefore, f_levelNow, a_labelsOf, a_first, a_end, a_safeFirst, a_safeEnd, a_lastTime, a_safeLast, a_having, a_blockCount, S', a_bitCount, a_sampleCount, a_firstNumber, a_fromTime, a_toTime, a_fromValue, a_toValue, a_total, a_smallest, a_greatest, a_grown, bits', a_lastStep, a_times, a_values) → wpX_moveTogether post (f_seriesCount, f_safeCount, f_arenaEnd, f_position, f_foundCount, f_foundSum, f_foundLeast, f_foundMost, f_foundGrowth, f_before, f_hasBefore, f_levelNow, a_labelsOf, a_first, a_end, a_safeFirst, a_safeEnd, a_lastTime, a_safeLast, a_having, a_blockCount, a_startBit, a_bitCount, a_sampleCount, a_firstNumber, a_fromTime, a_toTime, a_fromValue, a_toValue, a_total, a_smallest, a_greatest, a_grown, a_bits, a_lastStep, a_times, a_values) := by
  have hcount : cq_of (fun b => C b && decide (0 ≤ p0 b)) 96 ≤ 88 := by
    have h1 := cq_mono (P := fun b => C b && decide (0 ≤ p0 b)) (Q := fun b => decide (b % 12 < 11)) (N := 96) (fun k _ h => by
      rw [Bool.and_eq_true] at h
      have h2 := (hC k h.1).1
      have h3 := (hb (k / 12) h2.1).2
      exact decide_eq_true (by omega))
    have h2 : cq_of (fun b => decide (b % 12 < 11)) 96 = 88 := by decide +kernel
    omega
  have h00 := h0
  obtain ⟨j1, j2, j3⟩ := h0
  obtain ⟨p', ae', S', bits', pos', r1, r2, r3, r4, r5, W⟩ := wx_mt_l f_seriesCount f_safeCount f_arenaEnd f_position f_foundCount f_foundSum f_foundLeast f_foundMost f_foundGrowth f_before f_hasBefore f_levelNow a_labelsOf a_first a_end a_safeFirst a_safeEnd a_lastTime a_safeLast a_having a_blockCount a_startBit a_bitCount a_sampleCount a_firstNumber a_fromTime a_toTime a_fromValue a_toValue a_total a_smallest a_greatest a_grown a_bits a_lastStep a_times a_values hcn hsc (fun s hs => ⟨(hb s hs).1, by have := (hb s hs).2; omega⟩) h00 hC hO 88 0 0 p0 a_startBit a_bits (-1) f_position
    ⟨fun _ _ => rfl, fun b hcb => ⟨(j2 b hcb).2.1, fun _ _ => rfl, Nat.le_refl _, fun z => absurd z (Nat.not_lt_zero _), fun _ => ⟨rfl, Nat.zero_le _⟩⟩, j3, fun _ _ => rfl⟩ (by rw [ba_m1]; omega) hcount (by omega)
  exact ⟨p', ae', S', bits', pos', r1, r2, r3, r4, r5, fun post hq => ⟨90, W post hq⟩⟩
theorem ly_or {C : Nat → Bool} {b c : Nat} (h : (C b || decide (b = c)) = true) (e : b ≠ c) : C b = true := by rw [decide_eq_false e, Bool.or_false] at h; exact h
/-- close: block c of series s, whose bits lie in its own place, goes to the arena -/
theorem wx_close21 (f_seriesCount f_safeCount f_arenaEnd f_position f_foundCount f_foundSum f_foundLeast f_foundMost f_foundGrowth f_before f_hasBefore f_levelNow : Int32) (a_labelsOf a_first a_end a_safeFirst a_safeEnd a_lastTime a_safeLast a_having a_blockCount a_startBit a_bitCount a_sampleCount a_firstNumber a_fromTime a_toTime a_fromValue a_toValue a_total a_smallest a_greatest a_grown a_bits a_lastStep a_times a_values : Nat → Int32) {C : Nat → Bool} {bc p : Nat → Nat} {ae s c : Nat} (hs : s < 8) (hc : c < 96) (hCc : C c = false) (hbc : a_bitCount c = nI (bc c)) (hb1 : 1 ≤ bc c) (hb2 : bc c ≤ 210) (hae : f_arenaEnd = nI ae)
    (h0 : ly_raw C bc p ae a_startBit) (hroom : ae + bc c ≤ 19200) :
      ∃ (p' : Nat → Nat) (ae' : Nat) (S' bits' : Nat → Int32) (pos' : Int32), ly_raw (fun b => C b || decide (b = c)) bc p' ae' S' ∧ (∀ b, b ≠ c → C b = false → S' b = a_startBit b) ∧ (∀ b, C b = true → ∀ i, i < bc b → bi_at bits' (p' b + i) = bi_at a_bits (p b + i)) ∧ (∀ i, i < bc c → bi_at bits' (p' c + i) = bi_at a_bits (19200 + 224 * s + i)) ∧ (∀ q, 19200 ≤ q → bi_at bits' q = bi_at a_bits q) ∧
        ∀ post : SX → Prop, post (f_seriesCount, f_safeCount, nI ae', pos', f_foundCount, f_foundSum, f_foundLeast, f_foundMost, f_foundGrowth, f_before, f_hasBefore, f_levelNow, a_labelsOf, a_first, a_end, a_safeFirst, a_safeEnd, a_lastTime, a_safeLast, a_having, a_blockCount, S', a_bitCount, a_sampleCount, a_firstNumber, a_fromTime, a_toTime, a_fromValue, a_toValue, a_total, a_smallest, a_greatest, a_grown, bits', a_lastStep, a_times, a_values) → wX_close_21 post (nI s) (nI c) f_seriesCount f_safeCount f_arenaEnd f_position f_foundCount f_foundSum f_foundLeast f_foundMost f_foundGrowth f_before f_hasBefore f_levelNow a_labelsOf a_first a_end a_safeFirst a_safeEnd a_lastTime a_safeLast a_having a_blockCount a_startBit a_bitCount a_sampleCount a_firstNumber a_fromTime a_toTime a_fromValue a_toValue a_total a_smallest a_greatest a_grown a_bits a_lastStep a_times a_values := by
  have hcc : (nI c).toNatClampNeg = c := nI_clamp (by omega)
  have hcin : vp_in (nI c) 96 := vp_in_nI hc (by omega)
  have hslot : (19200 : Int32) + 224 * nI s = nI (19200 + 224 * s) := by rw [show (224 : Int32) = nI 224 from rfl, pk_mul, show (19200 : Int32) = nI 19200 from rfl, nI_add]
  obtain ⟨b', pos1, hb', W1⟩ := wx_move f_seriesCount f_safeCount f_arenaEnd f_position f_foundCount f_foundSum f_foundLeast f_foundMost f_foundGrowth f_before f_hasBefore f_levelNow a_labelsOf a_first a_end a_safeFirst a_safeEnd a_lastTime a_safeLast a_having a_blockCount a_startBit a_bitCount a_sampleCount a_firstNumber a_fromTime a_toTime a_fromValue a_toValue a_total a_smallest a_greatest a_grown a_bits a_lastStep a_times a_values (FR := 19200 + 224 * nI s) (TO := f_arenaEnd) (C := a_bitCount (nI c).toNatClampNeg) (19200 + 224 * s) ae (bc c) hslot hae (by rw [hcc]; exact hbc) (by omega) (by omega)
  obtain ⟨j1, j2, j3⟩ := h0
  have hne : ∀ b, C b = true → b ≠ c := fun b hb e => by rw [e, hCc] at hb; cases hb
  have hlow : ∀ b, C b = true → p b + bc b ≤ ae := fun b hb => (j2 b hb).2.2.1
  refine ⟨up_f p c ae, ae + bc c, upd a_startBit c (nI ae), b', pos1, ⟨hroom, fun b hb => ?_, fun b b2 hb hb2' hn => ?_⟩, fun b hn _ => pk_un hn, fun b hb i hi => ?_, fun i hi => ?_, fun q hq => ?_, fun post hq => ?_⟩
  · by_cases e : b = c
    · subst e
      exact ⟨hc, by rw [pk_us, up_s], by rw [up_s]; exact Nat.le_refl _, hb1, hb2⟩
    · have hb3 : C b = true := ly_or hb e
      obtain ⟨k1, k2, k3, k4, k5⟩ := j2 b hb3
      exact ⟨k1, by rw [pk_un e, up_o e]; exact k2, by rw [up_o e]; omega, k4, k5⟩
  · by_cases e : b = c
    · subst e
      have e2 : b2 ≠ b := fun z => hn z.symm
      have hb3 : C b2 = true := ly_or hb2' e2
      rw [up_s, up_o e2]
      exact Or.inr (hlow b2 hb3)
    · have hb3 : C b = true := ly_or hb e
      by_cases e2 : b2 = c
      · subst e2
        rw [up_s, up_o e]
        exact Or.inl (hlow b hb3)
      · have hb4 : C b2 = true := ly_or hb2' e2
        rw [up_o e, up_o e2]
        exact j3 b b2 hb3 hb4 hn
  · have := hlow b hb
    rw [up_o (hne b hb), hb', if_neg (by omega)]
  · rw [up_s, hb', if_pos (by omega), Nat.add_sub_cancel_left]
  · rw [hb', if_neg (by omega)]
  · refine ⟨hcin, W1 _ ⟨hcin, nm_r (e' := upd a_startBit c (nI ae)) (by rw [hcc, hae]) ⟨hcin, nm_r (e' := nI (ae + bc c)) (by rw [hcc, hae, hbc, nI_add]) hq⟩⟩⟩
theorem wx_close (f_seriesCount f_safeCount f_arenaEnd f_position f_foundCount f_foundSum f_foundLeast f_foundMost f_foundGrowth f_before f_hasBefore f_levelNow : Int32) (a_labelsOf a_first a_end a_safeFirst a_safeEnd a_lastTime a_safeLast a_having a_blockCount a_startBit a_bitCount a_sampleCount a_firstNumber a_fromTime a_toTime a_fromValue a_toValue a_total a_smallest a_greatest a_grown a_bits a_lastStep a_times a_values : Nat → Int32) {C : Nat → Bool} {bc p0 : Nat → Nat} {ae cn : Nat} {nb : Nat → Nat} {s c : Nat} (hcn : cn ≤ 8) (hsc : f_seriesCount = nI cn) (hb : ∀ s, s < cn → a_blockCount s = nI (nb s) ∧ nb s ≤ 11)
    (h0 : ly_raw C bc p0 ae a_startBit) (hC : ∀ b, C b = true → (b / 12 < cn ∧ b % 12 < nb (b / 12)) ∧ a_bitCount b = nI (bc b)) (hO : ∀ b, (b / 12 < cn ∧ b % 12 < nb (b / 12)) → C b = false → a_startBit b = -1)
    (hs : s < 8) (hc : c < 96) (hCc : C c = false) (hbc : a_bitCount c = nI (bc c)) (hb1 : 1 ≤ bc c) (hb2 : bc c ≤ 210) (hae : f_arenaEnd = nI ae) :
      ∃ (p' : Nat → Nat) (ae' : Nat) (S' bits' : Nat → Int32) (pos' : Int32), ly_raw (fun b => C b || decide (b = c)) bc p' ae' S' ∧ (∀ b, b ≠ c → C b = false → S' b = a_startBit b) ∧ (∀ b, C b = true → ∀ i, i < bc b → bi_at bits' (p' b + i) = bi_at a_bits (p0 b + i)) ∧ (∀ i, i < bc c → bi_at bits' (p' c + i) = bi_at a_bits (19200 + 224 * s + i)) ∧ (∀ q, 19200 ≤ q → bi_at bits' q = bi_at a_bits q) ∧
        ∀ post : SX → Prop, post (f_seriesCount, f_safeCount, nI ae', pos', f_foundCount, f_foundSum, f_foundLeast, f_foundMost, f_foundGrowth, f_before, f_hasBefore, f_levelNow, a_labelsOf, a_first, a_end, a_safeFirst, a_safeEnd, a_lastTime, a_safeLast, a_having, a_blockCount, S', a_bitCount, a_sampleCount, a_firstNumber, a_fromTime, a_toTime, a_fromValue, a_toValue, a_total, a_smallest, a_greatest, a_grown, bits', a_lastStep, a_times, a_values) → wpX_close post (f_seriesCount, f_safeCount, f_arenaEnd, f_position, f_foundCount, f_foundSum, f_foundLeast, f_foundMost, f_foundGrowth, f_before, f_hasBefore, f_levelNow, a_labelsOf, a_first, a_end, a_safeFirst, a_safeEnd, a_lastTime, a_safeLast, a_having, a_blockCount, a_startBit, a_bitCount, a_sampleCount, a_firstNumber, a_fromTime, a_toTime, a_fromValue, a_toValue, a_total, a_smallest, a_greatest, a_grown, a_bits, a_lastStep, a_times, a_values) (nI s) (nI c) := by
  have hcc : (nI c).toNatClampNeg = c := nI_clamp (by omega)
  have hcin : vp_in (nI c) 96 := vp_in_nI hc (by omega)
  have hj := h0.1
  have he : f_arenaEnd + a_bitCount (nI c).toNatClampNeg = nI (ae + bc c) := by rw [hcc, hae, hbc, nI_add]
  by_cases hroom : ae + bc c ≤ 19200
  · obtain ⟨p', ae', S', bits', pos', r1, r2, r3, r4, r5, W⟩ := wx_close21 f_seriesCount f_safeCount f_arenaEnd f_position f_foundCount f_foundSum f_foundLeast f_foundMost f_foundGrowth f_before f_hasBefore f_levelNow a_labelsOf a_first a_end a_safeFirst a_safeEnd a_lastTime a_safeLast a_having a_blockCount a_startBit a_bitCount a_sampleCount a_firstNumber a_fromTime a_toTime a_fromValue a_toValue a_total a_smallest a_greatest a_grown a_bits a_lastStep a_times a_values hs hc hCc hbc hb1 hb2 hae h0 hroom
    refine ⟨p', ae', S', bits', pos', r1, r2, r3, r4, r5, fun post hq => ⟨hcin, br_t ?_ (W post hq)⟩⟩
    rw [he]; exact nI_le (b := 19200) hroom (by omega)
  · obtain ⟨p1, ae1, S1, bits1, pos1, q1, q2, q3, q4, q5, W1⟩ := wx_moveTogether f_seriesCount f_safeCount f_arenaEnd f_position f_foundCount f_foundSum f_foundLeast f_foundMost f_foundGrowth f_before f_hasBefore f_levelNow a_labelsOf a_first a_end a_safeFirst a_safeEnd a_lastTime a_safeLast a_having a_blockCount a_startBit a_bitCount a_sampleCount a_firstNumber a_fromTime a_toTime a_fromValue a_toValue a_total a_smallest a_greatest a_grown a_bits a_lastStep a_times a_values hcn hsc hb h0 hC hO
    obtain ⟨p', ae', S', bits', pos', r1, r2, r3, r4, r5, W⟩ := wx_close21 f_seriesCount f_safeCount (nI ae1) pos1 f_foundCount f_foundSum f_foundLeast f_foundMost f_foundGrowth f_before f_hasBefore f_levelNow a_labelsOf a_first a_end a_safeFirst a_safeEnd a_lastTime a_safeLast a_having a_blockCount S1 a_bitCount a_sampleCount a_firstNumber a_fromTime a_toTime a_fromValue a_toValue a_total a_smallest a_greatest a_grown bits1 a_lastStep a_times a_values (p := p1) hs hc hCc hbc hb1 hb2 rfl q1 (by omega)
    refine ⟨p', ae', S', bits', pos', r1, fun b hn hf => (r2 b hn hf).trans (q3 b hf), fun b hcb i hi => (r3 b hcb i hi).trans (q4 b hcb i hi), fun i hi => (r4 i hi).trans (q5 _ (by omega)), fun q hq => (r5 q hq).trans (q5 q hq), fun post hq => ⟨hcin, br_f ?_ (W1 _ (W post hq))⟩⟩
    rw [he]; exact nI_ge (a := 19200) (by omega) (by omega)
end
section
/-! pack: the walk -/
theorem ba_slot (s : Nat) : (19200 : Int32) + 224 * nI s = nI (19200 + 224 * s) := by rw [show (224 : Int32) = nI 224 from rfl, pk_mul, show (19200 : Int32) = nI 19200 from rfl, nI_add]
theorem ba_12 (s k : Nat) : 12 * nI s + nI k = nI (12 * s + k) := by rw [show (12 : Int32) = nI 12 from rfl, pk_mul, nI_add]
theorem ba_upd_self (a : Nat → Int32) (b : Nat) : upd a b (a b) = a := funext fun j => by
  by_cases e : j = b
  · rw [e, pk_us]
  · rw [pk_un e]
theorem wx_openBlock (f_seriesCount f_safeCount f_arenaEnd f_position f_foundCount f_foundSum f_foundLeast f_foundMost f_foundGrowth f_before f_hasBefore f_levelNow : Int32) (a_labelsOf a_first a_end a_safeFirst a_safeEnd a_lastTime a_safeLast a_having a_blockCount a_startBit a_bitCount a_sampleCount a_firstNumber a_fromTime a_toTime a_fromValue a_toValue a_total a_smallest a_greatest a_grown a_bits a_lastStep a_times a_values : Nat → Int32) {s len : Nat} {t v : Int32} (hs : s < 8) (hlen : len ≤ 11) (hb : a_blockCount s = nI len) (ht : 0 ≤ t.toInt ∧ t.toInt ≤ 999) (hv : -1000 ≤ v.toInt ∧ v.toInt ≤ 1000) :
    ∃ bits' : Nat → Int32, (∀ q, q < 19200 + 224 * s ∨ 19200 + 224 * s + 224 ≤ q → bi_at bits' q = bi_at a_bits q) ∧ nI (bi_val (fun i => bi_at bits' (19200 + 224 * s + i)) 0 10) = t ∧ en_unf (bi_val (fun i => bi_at bits' (19200 + 224 * s + i)) 10 11) = v ∧
      ∀ post : SX → Prop, post (f_seriesCount, f_safeCount, f_arenaEnd, f_position, f_foundCount, f_foundSum, f_foundLeast, f_foundMost, f_foundGrowth, f_before, f_hasBefore, f_levelNow, a_labelsOf, a_first, a_end, a_safeFirst, a_safeEnd, a_lastTime, a_safeLast, a_having, upd a_blockCount s (nI (len + 1)), upd a_startBit (12 * s + len) (-1), upd a_bitCount (12 * s + len) (nI 21), upd a_sampleCount (12 * s + len) (nI 1), upd a_firstNumber (12 * s + len) (a_end s), upd a_fromTime (12 * s + len) t, upd a_toTime (12 * s + len) t, upd a_fromValue (12 * s + len) v, upd a_toValue (12 * s + len) v, upd a_total (12 * s + len) v, upd a_smallest (12 * s + len) v, upd a_greatest (12 * s + len) v, upd a_grown (12 * s + len) 0, bits', upd a_lastStep s 0, a_times, a_values) → wpX_openBlock post (f_seriesCount, f_safeCount, f_arenaEnd, f_position, f_foundCount, f_foundSum, f_foundLeast, f_foundMost, f_foundGrowth, f_before, f_hasBefore, f_levelNow, a_labelsOf, a_first, a_end, a_safeFirst, a_safeEnd, a_lastTime, a_safeLast, a_having, a_blockCount, a_startBit, a_bitCount, a_sampleCount, a_firstNumber, a_fromTime, a_toTime, a_fromValue, a_toValue, a_total, a_smallest, a_greatest, a_grown, a_bits, a_lastStep, a_times, a_values) (nI s) t v := by
  have hcl : (nI s).toNatClampNeg = s := nI_clamp (by omega)
  have hin : vp_in (nI s) 8 := vp_in_nI hs (by omega)
  have hcb : (nI (12 * s + len)).toNatClampNeg = 12 * s + len := nI_clamp (by omega)
  have hinb : vp_in (nI (12 * s + len)) 96 := vp_in_nI (by omega) (by omega)
  have et := ba_of ht.1
  have hfd := en_fd_le (d := v) (B := 1000) (by omega) (by omega)
  have huf := en_unf_fd (d := v) (by omega) (by omega)
  have nt : vp_nar .short t.toInt16.toInt32 = t := ba_s (by omega) (by omega)
  have nv : vp_nar .short v.toInt16.toInt32 = v := ba_s (by omega) (by omega)
  have n0 : vp_nar .short 0 = 0 := ba_sn0 (n := 0) (by omega)
  have e4 : 12 * nI s + a_blockCount (nI s).toNatClampNeg = nI (12 * s + len) := by rw [hcl, hb, ba_12]
  obtain ⟨b1, hb1, W1⟩ := wx_put f_seriesCount f_safeCount f_arenaEnd f_position f_foundCount f_foundSum f_foundLeast f_foundMost f_foundGrowth f_before f_hasBefore f_levelNow a_labelsOf a_first a_end a_safeFirst a_safeEnd a_lastTime a_safeLast a_having (upd a_blockCount s (nI (len + 1))) (upd a_startBit (12 * s + len) (-1)) a_bitCount (upd a_sampleCount (12 * s + len) (nI 1)) (upd a_firstNumber (12 * s + len) (a_end s)) (upd a_fromTime (12 * s + len) t) (upd a_toTime (12 * s + len) t) (upd a_fromValue (12 * s + len) v) (upd a_toValue (12 * s + len) v) (upd a_total (12 * s + len) v) (upd a_smallest (12 * s + len) v) (upd a_greatest (12 * s + len) v) (upd a_grown (12 * s + len) 0) a_bits (upd a_lastStep s 0) a_times a_values (P := 19200 + 224 * nI s) (C := 10) (V := t) (19200 + 224 * s) 10 t.toInt.toNat (ba_slot s) rfl et (by omega) (by omega) (by omega)
  obtain ⟨b2, hb2, W2⟩ := wx_put f_seriesCount f_safeCount f_arenaEnd f_position f_foundCount f_foundSum f_foundLeast f_foundMost f_foundGrowth f_before f_hasBefore f_levelNow a_labelsOf a_first a_end a_safeFirst a_safeEnd a_lastTime a_safeLast a_having (upd a_blockCount s (nI (len + 1))) (upd a_startBit (12 * s + len) (-1)) a_bitCount (upd a_sampleCount (12 * s + len) (nI 1)) (upd a_firstNumber (12 * s + len) (a_end s)) (upd a_fromTime (12 * s + len) t) (upd a_toTime (12 * s + len) t) (upd a_fromValue (12 * s + len) v) (upd a_toValue (12 * s + len) v) (upd a_total (12 * s + len) v) (upd a_smallest (12 * s + len) v) (upd a_greatest (12 * s + len) v) (upd a_grown (12 * s + len) 0) b1 (upd a_lastStep s 0) a_times a_values (P := 19200 + 224 * nI s + 10) (C := 11) (V := nI (en_fd v)) (19200 + 224 * s + 10) 11 (en_fd v) (by rw [ba_slot]; exact nI_add _ 10) rfl rfl (by omega) (by omega) (by omega)
  refine ⟨b2, fun q hq => ?_, ?_, ?_, fun post hp => ?_⟩
  · rw [bi_wr_out hb2 (by omega), bi_wr_out hb1 (by omega)]
  · rw [bi_val_shift, Nat.add_zero]
    have e1 : bi_val (bi_at b2) (19200 + 224 * s) 10 = bi_val (bi_at b1) (19200 + 224 * s) 10 := bi_val_congr 10 (fun i hi => bi_wr_out hb2 (by omega))
    have e2 := bi_put (bi_wr_in hb1) 0 10 (by omega)
    rw [Nat.add_zero] at e2
    rw [e1, e2]
    have e3 : t.toInt.toNat / 1 % 1024 = t.toInt.toNat := by omega
    exact (congrArg nI e3).trans et.symm
  · rw [bi_val_shift]
    have e2 := bi_put (bi_wr_in hb2) 0 11 (by omega)
    rw [Nat.add_zero] at e2
    rw [e2]
    have e3 : en_fd v / 1 % 2048 = en_fd v := by omega
    exact (congrArg en_unf e3).trans huf
  · refine ⟨hin, nm_r e4 ⟨hin, hin, nm_r (e' := upd a_blockCount s (nI (len + 1))) ?_ ⟨hinb, nm_r (e' := upd a_startBit (12 * s + len) (-1)) (by rw [hcb]) ⟨hinb, nm_r (e' := upd a_sampleCount (12 * s + len) (nI 1)) ?_ ⟨hin, hinb, nm_r (e' := upd a_firstNumber (12 * s + len) (a_end s)) (by rw [hcb, hcl]) ?_⟩⟩⟩⟩⟩
    · rw [hcl, hb, nI_1, ba_bn (by omega)]
    · rw [hcb]; exact congrArg _ (ba_bn0 (n := 1) (by omega))
    refine ⟨hinb, nm_r (e' := upd a_fromTime (12 * s + len) t) (by rw [hcb, nt]) ⟨hinb, nm_r (e' := upd a_toTime (12 * s + len) t) (by rw [hcb, nt]) ⟨hinb, nm_r (e' := upd a_fromValue (12 * s + len) v) (by rw [hcb, nv]) ⟨hinb, nm_r (e' := upd a_toValue (12 * s + len) v) (by rw [hcb, nv]) ?_⟩⟩⟩⟩
    refine ⟨hinb, nm_r (e' := upd a_total (12 * s + len) v) (by rw [hcb, nv]) ⟨hinb, nm_r (e' := upd a_smallest (12 * s + len) v) (by rw [hcb, nv]) ⟨hinb, nm_r (e' := upd a_greatest (12 * s + len) v) (by rw [hcb, nv]) ⟨hinb, nm_r (e' := upd a_grown (12 * s + len) 0) (by rw [hcb, n0]) ⟨hin, nm_r (e' := upd a_lastStep s 0) (by rw [hcl, n0]) ?_⟩⟩⟩⟩⟩
    refine W1 _ (wx_folded (by omega) (by omega) (W2 _ ⟨hinb, nm_r (e' := upd a_bitCount (12 * s + len) (nI 21)) ?_ hp⟩))
    rw [hcb]; exact congrArg _ (ba_sn0 (n := 21) (by omega))
/-- pack into the last, unfilled block c = 12 s + k of series s, up to the count of samples -/
theorem wx_pack_in (f_seriesCount f_safeCount f_arenaEnd f_position f_foundCount f_foundSum f_foundLeast f_foundMost f_foundGrowth f_before f_hasBefore f_levelNow : Int32) (a_labelsOf a_first a_end a_safeFirst a_safeEnd a_lastTime a_safeLast a_having a_blockCount a_startBit a_bitCount a_sampleCount a_firstNumber a_fromTime a_toTime a_fromValue a_toValue a_total a_smallest a_greatest a_grown a_bits a_lastStep a_times a_values : Nat → Int32) {s k bc : Nat} {t v : Int32} (hs : s < 8) (hk : k < 12) (hb : a_blockCount s = nI (k + 1)) (hst : a_startBit (12 * s + k) = -1) (hbc : a_bitCount (12 * s + k) = nI bc) (hbc2 : bc ≤ 183)
    (ht : 0 ≤ t.toInt ∧ t.toInt ≤ 999) (hv : -1000 ≤ v.toInt ∧ v.toInt ≤ 1000) (htl : 0 ≤ (a_toTime (12 * s + k)).toInt ∧ (a_toTime (12 * s + k)).toInt < t.toInt) (hvl : -1000 ≤ (a_toValue (12 * s + k)).toInt ∧ (a_toValue (12 * s + k)).toInt ≤ 1000) (hls : 0 ≤ (a_lastStep s).toInt ∧ (a_lastStep s).toInt ≤ 999)
    (hto : -7000 ≤ (a_total (12 * s + k)).toInt ∧ (a_total (12 * s + k)).toInt ≤ 7000) (hgr : 0 ≤ (a_grown (12 * s + k)).toInt ∧ (a_grown (12 * s + k)).toInt ≤ 14000) :
    ∃ (bits' : Nat → Int32) (l1 l2 : Nat), l1 + l2 ≤ 27 ∧ (∀ q, q < 19200 + 224 * s + bc ∨ 19200 + 224 * s + 224 ≤ q → bi_at bits' q = bi_at a_bits q) ∧
      en_num (bi_at bits') (19200 + 224 * s + bc) 5 11 = (t - a_toTime (12 * s + k) - a_lastStep s, l1) ∧ en_num (bi_at bits') (19200 + 224 * s + bc + l1) 6 12 = (v - a_toValue (12 * s + k), l2) ∧
      ∀ post : SX → Prop, wX_pack_228 post (nI s) (nI (12 * s + k)) f_seriesCount f_safeCount f_arenaEnd f_position f_foundCount f_foundSum f_foundLeast f_foundMost f_foundGrowth f_before f_hasBefore f_levelNow a_labelsOf a_first a_end a_safeFirst a_safeEnd a_lastTime a_safeLast a_having a_blockCount a_startBit (upd a_bitCount (12 * s + k) (nI (bc + l1 + l2))) a_sampleCount a_firstNumber a_fromTime (upd a_toTime (12 * s + k) t) a_fromValue (upd a_toValue (12 * s + k) v) (upd a_total (12 * s + k) (a_total (12 * s + k) + v)) (upd a_smallest (12 * s + k) (if a_smallest (12 * s + k) ≤ v then a_smallest (12 * s + k) else v)) (upd a_greatest (12 * s + k) (if v ≤ a_greatest (12 * s + k) then a_greatest (12 * s + k) else v)) (upd a_grown (12 * s + k) (a_grown (12 * s + k) + sm_g (a_toValue (12 * s + k)) v)) bits' (upd a_lastStep s (t - a_toTime (12 * s + k))) a_times a_values → wpX_pack post (f_seriesCount, f_safeCount, f_arenaEnd, f_position, f_foundCount, f_foundSum, f_foundLeast, f_foundMost, f_foundGrowth, f_before, f_hasBefore, f_levelNow, a_labelsOf, a_first, a_end, a_safeFirst, a_safeEnd, a_lastTime, a_safeLast, a_having, a_blockCount, a_startBit, a_bitCount, a_sampleCount, a_firstNumber, a_fromTime, a_toTime, a_fromValue, a_toValue, a_total, a_smallest, a_greatest, a_grown, a_bits, a_lastStep, a_times, a_values) (nI s) t v := by
  have hcl : (nI s).toNatClampNeg = s := nI_clamp (by omega)
  have hin : vp_in (nI s) 8 := vp_in_nI hs (by omega)
  have hcb : (nI (12 * s + k)).toNatClampNeg = 12 * s + k := nI_clamp (by omega)
  have hinb : vp_in (nI (12 * s + k)) 96 := vp_in_nI (by omega) (by omega)
  have nt : vp_nar .short t.toInt16.toInt32 = t := ba_s (by omega) (by omega)
  have nv : vp_nar .short v.toInt16.toInt32 = v := ba_s (by omega) (by omega)
  have e4 : 12 * nI s + a_blockCount (nI s).toNatClampNeg - 1 = nI (12 * s + k) := by rw [hcl, hb, ba_12]; exact nI_pred (12 * s + k)
  have dt : (t - a_toTime (12 * s + k)).toInt = t.toInt - (a_toTime (12 * s + k)).toInt := ba_sub (by omega) (by omega)
  have dd : (t - a_toTime (12 * s + k) - a_lastStep s).toInt = t.toInt - (a_toTime (12 * s + k)).toInt - (a_lastStep s).toInt := by rw [ba_sub (by omega) (by omega), dt]
  have dv : (v - a_toValue (12 * s + k)).toInt = v.toInt - (a_toValue (12 * s + k)).toInt := ba_sub (by omega) (by omega)
  have gg := sm_g_r hvl hv
  obtain ⟨b1, l1, p1, p2, p3, p4, W1⟩ := wx_packStep f_seriesCount f_safeCount f_arenaEnd f_position f_foundCount f_foundSum f_foundLeast f_foundMost f_foundGrowth f_before f_hasBefore f_levelNow a_labelsOf a_first a_end a_safeFirst a_safeEnd a_lastTime a_safeLast a_having a_blockCount a_startBit a_bitCount a_sampleCount a_firstNumber a_fromTime a_toTime a_fromValue a_toValue a_total a_smallest a_greatest a_grown a_bits a_lastStep a_times a_values (P := 19200 + 224 * nI s + nI bc) (d := t - a_toTime (12 * s + k) - a_lastStep s) (19200 + 224 * s + bc) (by rw [ba_slot, nI_add]) (by omega) (by omega) (by omega)
  obtain ⟨b2, l2, q1, q2, q3, q4, W2⟩ := wx_packChange f_seriesCount f_safeCount f_arenaEnd f_position f_foundCount f_foundSum f_foundLeast f_foundMost f_foundGrowth f_before f_hasBefore f_levelNow a_labelsOf a_first a_end a_safeFirst a_safeEnd a_lastTime a_safeLast a_having a_blockCount a_startBit a_bitCount a_sampleCount a_firstNumber a_fromTime a_toTime a_fromValue a_toValue a_total a_smallest a_greatest a_grown b1 a_lastStep a_times a_values (P := 19200 + 224 * nI s + nI bc + nI l1) (d := v - a_toValue (12 * s + k)) (19200 + 224 * s + bc + l1) (by rw [ba_slot, nI_add, nI_add]) (by omega) (by omega) (by omega)
  refine ⟨b2, l1, l2, by omega, fun q hq => ?_, ?_, q4, fun post hp => ?_⟩
  · rw [q3 q (by omega), p3 q (by omega)]
  · rw [← p4]
    exact en_num_congr (fun i hi => by rw [p4] at hi; exact q3 _ (by dsimp only at hi; omega))
  · refine ⟨hin, nm_r e4 ⟨hin, br_f ?_ ⟨hinb, br_t (by rw [hcb]; exact hst) ?_⟩⟩⟩
    · rw [hcl, hb]; exact nI_ne0 (by omega) (by omega)
    refine ⟨hinb, nm_r (e' := t - a_toTime (12 * s + k)) (by rw [hcb]) ⟨hinb, nm_r (e' := v - a_toValue (12 * s + k)) (by rw [hcb]) ?_⟩⟩
    refine ⟨hinb, nm_r (e' := 19200 + 224 * nI s + nI bc) (by rw [hcb, hbc]) ⟨hin, ?_⟩⟩
    rw [hcl]
    refine W1 _ ?_
    refine W2 _ ?_
    refine nm_r (nI_add l1 l2) ⟨hinb, hinb, nm_r (e' := upd a_bitCount (12 * s + k) (nI (bc + l1 + l2))) ?_ ⟨hin, nm_r (e' := upd a_lastStep s (t - a_toTime (12 * s + k))) ?_ ⟨hinb, hinb, ?_⟩⟩⟩
    · rw [hcb, hbc, nI_add, ba_sn (by omega), Nat.add_assoc]
    · rw [ba_s (by omega) (by omega)]
    rw [hcb]
    refine wx_growthOf ?_
    refine ⟨hinb, nm_r (e' := upd a_grown (12 * s + k) (a_grown (12 * s + k) + sm_g (a_toValue (12 * s + k)) v)) ?_ ?_⟩
    · have := ba_add (x := a_grown (12 * s + k)) (y := sm_g (a_toValue (12 * s + k)) v) (by omega) (by omega)
      rw [ba_s (by omega) (by omega)]
    refine ⟨hinb, nm_r (e' := upd a_toTime (12 * s + k) t) (by rw [nt]) ⟨hinb, nm_r (e' := upd a_toValue (12 * s + k) v) (by rw [nv]) ⟨hinb, hinb, nm_r (e' := upd a_total (12 * s + k) (a_total (12 * s + k) + v)) ?_ ?_⟩⟩⟩
    · have := ba_add (x := a_total (12 * s + k)) (y := v) (by omega) (by omega)
      rw [ba_s (by omega) (by omega)]
    have key : ∀ sma : Nat → Int32, sma = upd a_smallest (12 * s + k) (if a_smallest (12 * s + k) ≤ v then a_smallest (12 * s + k) else v) → wX_pack_208 post (nI s) v (nI (12 * s + k)) f_seriesCount f_safeCount f_arenaEnd f_position f_foundCount f_foundSum f_foundLeast f_foundMost f_foundGrowth f_before f_hasBefore f_levelNow a_labelsOf a_first a_end a_safeFirst a_safeEnd a_lastTime a_safeLast a_having a_blockCount a_startBit (upd a_bitCount (12 * s + k) (nI (bc + l1 + l2))) a_sampleCount a_firstNumber a_fromTime (upd a_toTime (12 * s + k) t) a_fromValue (upd a_toValue (12 * s + k) v) (upd a_total (12 * s + k) (a_total (12 * s + k) + v)) sma a_greatest (upd a_grown (12 * s + k) (a_grown (12 * s + k) + sm_g (a_toValue (12 * s + k)) v)) b2 (upd a_lastStep s (t - a_toTime (12 * s + k))) a_times a_values := by
      intro sma es
      subst es
      refine ⟨hinb, br_c (fun z => ?_) (fun z => ⟨hinb, nm_r (e' := upd a_greatest (12 * s + k) (if v ≤ a_greatest (12 * s + k) then a_greatest (12 * s + k) else v)) ?_ hp⟩)⟩
      · rw [hcb] at z
        rw [if_pos z, ba_upd_self] at hp
        exact hp
      · rw [hcb] at z
        rw [hcb, if_neg z, nv]
    refine ⟨hinb, br_c (fun z => key _ ?_) (fun z => ⟨hinb, fun sma es => key _ ?_⟩)⟩
    · rw [if_pos z, ba_upd_self]
    · rw [es, if_neg z, nv]
end
section
/-! pack keeps the block store -/
theorem ls_snoc {α : Type} {l0 : List α} {x a : α} {k : Nat} (h : (l0 ++ [x])[k]? = some a) : (k < l0.length ∧ l0[k]? = some a) ∨ (k = l0.length ∧ a = x) := by
  rcases Nat.lt_or_ge k l0.length with z | z
  · rw [List.getElem?_append_left z] at h
    exact Or.inl ⟨z, h⟩
  · rw [List.getElem?_append_right z] at h
    have h2 := ls_mem h
    have e : k - l0.length = 0 := by have := h2.2; rw [List.length_singleton] at this; omega
    rw [e] at h
    exact Or.inr ⟨by omega, (Option.some.inj h).symm⟩
theorem ls_app {α : Type} {l0 r : List α} {a : α} {k : Nat} (h : l0[k]? = some a) : (l0 ++ r)[k]? = some a := by
  rw [List.getElem?_append_left (ls_mem h).2]; exact h
theorem ci_enc_keep {P P' : Nat → Nat → Nat} {T V T' V' : Nat → Nat → Int32} {ae ae' s : Nat} {bits bits' ls ls' : Nat → Int32} {a : bk_T} (h : ci_enc P T V ae bits ls s a) (h8 : a.2.1 ≤ 8)
    (hT : ∀ n, n < a.2.2 + a.2.1 → T' s n = T s n ∧ V' s n = V s n)
    (hc : a.2.1 = 8 → P' s a.2.2 + a.1 ≤ ae' ∧ ∀ i, i < a.1 → bi_at bits' (P' s a.2.2 + i) = bi_at bits (P s a.2.2 + i))
    (ho : a.2.1 < 8 → ls' s = ls s ∧ ∀ i, i < a.1 → bi_at bits' (19200 + 224 * s + i) = bi_at bits (19200 + 224 * s + i)) : ci_enc P' T' V' ae' bits' ls' s a := by
  obtain ⟨e1, e2, e3⟩ := h
  have e0 := e1.1
  by_cases z : a.2.1 = 8
  · obtain ⟨c1, c2⟩ := hc z
    have ep : ci_pos P s a = P s a.2.2 := if_pos z
    have ep' : ci_pos P' s a = P' s a.2.2 := if_pos z
    refine ⟨?_, fun _ => c1, fun y => by omega⟩
    rw [ep] at e1
    rw [ep']
    exact (en_ok_congr e1 c2 (fun k hk => hT _ (by omega))).1
  · obtain ⟨c1, c2⟩ := ho (by omega)
    have ep : ci_pos P s a = 19200 + 224 * s := if_neg z
    have ep' : ci_pos P' s a = 19200 + 224 * s := if_neg z
    rw [ep] at e1
    have q := en_ok_congr e1 c2 (fun k hk => hT _ (by omega))
    refine ⟨?_, fun y => by omega, fun y => ?_⟩
    · rw [ep']; exact q.1
    · rw [c1, e3 y]; exact (q.2 _ (by omega)).symm
theorem ci_opn {a_blockCount a_startBit a_bitCount a_sampleCount a_firstNumber a_fromTime a_toTime a_fromValue a_toValue a_total a_smallest a_greatest a_grown a_bits a_lastStep : Nat → Int32} {cn : Nat} {T V : Nat → Nat → Int32} {L : Nat → List bk_T} {P : Nat → Nat → Nat} {E : Nat → Nat} {ae s : Nat} {bits' : Nat → Int32} (I : ci_ok cn T V L P E ae a_blockCount a_startBit a_bitCount a_sampleCount a_firstNumber a_fromTime a_toTime a_fromValue a_toValue a_total a_smallest a_greatest a_grown a_bits a_lastStep) (hs : s < cn) (hlen : (L s).length ≤ 11) (hall : ∀ a, a ∈ L s → a.2.1 = 8) (hh : ci_hist (T s) (V s) (E s + 1))
    (hout : ∀ q, q < 19200 + 224 * s ∨ 19200 + 224 * s + 224 ≤ q → bi_at bits' q = bi_at a_bits q) (h1 : nI (bi_val (fun i => bi_at bits' (19200 + 224 * s + i)) 0 10) = T s (E s)) (h2 : en_unf (bi_val (fun i => bi_at bits' (19200 + 224 * s + i)) 10 11) = V s (E s)) :
    ci_ok cn T V (up_f L s (L s ++ [(21, 1, E s)])) P (up_f E s (E s + 1)) ae (upd a_blockCount s (nI ((L s).length + 1))) (upd a_startBit (12 * s + (L s).length) (-1)) (upd a_bitCount (12 * s + (L s).length) (nI 21)) (upd a_sampleCount (12 * s + (L s).length) (nI 1)) (upd a_firstNumber (12 * s + (L s).length) (nI (E s))) (upd a_fromTime (12 * s + (L s).length) (T s (E s))) (upd a_toTime (12 * s + (L s).length) (T s (E s))) (upd a_fromValue (12 * s + (L s).length) (V s (E s))) (upd a_toValue (12 * s + (L s).length) (V s (E s))) (upd a_total (12 * s + (L s).length) (V s (E s))) (upd a_smallest (12 * s + (L s).length) (V s (E s))) (upd a_greatest (12 * s + (L s).length) (V s (E s))) (upd a_grown (12 * s + (L s).length) 0) bits' (upd a_lastStep s 0) := by
  obtain ⟨hcn, hae, hrow, hse, henc, hdis⟩ := I
  obtain ⟨hhs, hl1, hl2, hl3⟩ := hse s hs
  -- rows of old blocks
  have old : ∀ s', s' < cn → ∀ (k : Nat) (a : bk_T), (L s')[k]? = some a → (12 * s' + k ≠ 12 * s + (L s).length) → ro_at (upd a_startBit (12 * s + (L s).length) (-1)) (upd a_bitCount (12 * s + (L s).length) (nI 21)) (upd a_sampleCount (12 * s + (L s).length) (nI 1)) (upd a_firstNumber (12 * s + (L s).length) (nI (E s))) (upd a_fromTime (12 * s + (L s).length) (T s (E s))) (upd a_toTime (12 * s + (L s).length) (T s (E s))) (upd a_fromValue (12 * s + (L s).length) (V s (E s))) (upd a_toValue (12 * s + (L s).length) (V s (E s))) (upd a_total (12 * s + (L s).length) (V s (E s))) (upd a_smallest (12 * s + (L s).length) (V s (E s))) (upd a_greatest (12 * s + (L s).length) (V s (E s))) (upd a_grown (12 * s + (L s).length) 0) (12 * s' + k) = ro_of (P s' a.2.2) a (T s') (V s') := by
    intro s' hs' k a hk hne
    obtain ⟨r1, r2, r3, r4, r5, r6, r7, r8, r9, r10, r11, r12⟩ := ro_e ((hrow s' hs').2 k a hk)
    exact ro_i ⟨(pk_un hne).trans r1, (pk_un hne).trans r2, (pk_un hne).trans r3, (pk_un hne).trans r4, (pk_un hne).trans r5, (pk_un hne).trans r6, (pk_un hne).trans r7, (pk_un hne).trans r8, (pk_un hne).trans r9, (pk_un hne).trans r10, (pk_un hne).trans r11, (pk_un hne).trans r12⟩
  have keep : ∀ s', s' < cn → ∀ a, a ∈ L s' → ci_enc P T V ae bits' (upd a_lastStep s 0) s' a := by
    intro s' hs' a ha
    have hb := (hse s' hs').2.2.2 a ha
    have he := henc s' hs' a ha
    have hbc := en_ok_bc he.1
    refine ci_enc_keep he (by omega) (fun _ _ => ⟨rfl, rfl⟩) (fun z => ⟨he.2.1 z, fun i hi => hout _ (by have := he.2.1 z; omega)⟩) (fun z => ?_)
    have hne : s' ≠ s := fun e => by subst e; have := hall a ha; omega
    exact ⟨pk_un hne, fun i hi => hout _ (by omega)⟩
  refine ⟨hcn, hae, fun s' hs' => ?_, fun s' hs' => ?_, fun s' hs' a ha => ?_, fun s1 hs1 a1 ha1 s2 hs2 a2 ha2 z1 z2 hne => ?_⟩
  · have hl := (hse s' hs').2.1
    by_cases e : s' = s
    · subst e
      rw [up_s, pk_us]
      refine ⟨by rw [List.length_append]; rfl, fun k a hk => ?_⟩
      rcases ls_snoc hk with ⟨z, hk2⟩ | ⟨z, hk2⟩
      · exact old s' hs' k a hk2 (by omega)
      · subst z hk2
        exact ro_i ⟨pk_us, pk_us, pk_us, pk_us, pk_us, pk_us, pk_us, pk_us, pk_us, pk_us, pk_us, pk_us⟩
    · rw [up_o e, pk_un e]
      refine ⟨(hrow s' hs').1, fun k a hk => old s' hs' k a hk ?_⟩
      have := (ls_mem hk).2
      omega
  · by_cases e : s' = s
    · subst e
      rw [up_s, up_s]
      refine ⟨hh, by rw [List.length_append, List.length_singleton]; omega, ?_, fun a ha => ?_⟩
      · refine List.pairwise_append.mpr ⟨hl2, List.pairwise_singleton _ _, fun a ha b hb => ?_⟩
        rw [List.mem_singleton] at hb
        subst hb
        have := hl3 a ha
        have := hall a ha
        exact ⟨by omega, by show a.2.2 + 8 ≤ E s'; omega⟩
      · rcases List.mem_append.mp ha with z | z
        · have := hl3 a z
          have := hall a z
          exact ⟨by omega, by omega, by omega, fun y => by omega⟩
        · rw [List.mem_singleton] at z
          subst z
          exact ⟨Nat.le_refl 1, by show 1 ≤ 8; omega, Nat.le_refl _, fun _ => rfl⟩
    · rw [up_o e, up_o e]; exact hse s' hs'
  · by_cases e : s' = s
    · subst e
      rw [up_s] at ha
      rcases List.mem_append.mp ha with z | z
      · exact keep s' hs' a z
      · rw [List.mem_singleton] at z
        subst z
        refine ⟨?_, fun y => absurd y (by show ¬ 1 = 8; omega), fun _ => ?_⟩
        · have ep : ci_pos P s' (21, 1, E s') = 19200 + 224 * s' := if_neg (by show ¬ 1 = 8; omega)
          rw [ep]
          exact en_ok_one rfl h2 h1.symm
        · rw [pk_us]; rfl
    · rw [up_o e] at ha; exact keep s' hs' a ha
  · have g : ∀ s', s' < cn → ∀ a, a ∈ up_f L s (L s ++ [(21, 1, E s)]) s' → a.2.1 = 8 → a ∈ L s' := by
      intro s' _ a ha z
      by_cases e : s' = s
      · subst e
        rw [up_s] at ha
        rcases List.mem_append.mp ha with y | y
        · exact y
        · rw [List.mem_singleton] at y
          subst y
          exact absurd z (by show ¬ 1 = 8; omega)
      · rw [up_o e] at ha; exact ha
    exact hdis s1 hs1 a1 (g s1 hs1 a1 ha1 z1) s2 hs2 a2 (g s2 hs2 a2 ha2 z2) z1 z2 hne
/-- the unfilled block (bc, sc, fn), last of its series, has got one more sample -/
theorem ci_fin {a_blockCount a_startBit a_bitCount a_sampleCount a_firstNumber a_fromTime a_toTime a_fromValue a_toValue a_total a_smallest a_greatest a_grown a_bits a_lastStep : Nat → Int32} {cn : Nat} {T V : Nat → Nat → Int32} {L : Nat → List bk_T} {P P' : Nat → Nat → Nat} {E : Nat → Nat} {ae ae' s bc bc1 sc fn : Nat} {l0 : List bk_T} {bits1 bits2 S' : Nat → Int32} {st : Int32} (I : ci_ok cn T V L P E ae a_blockCount a_startBit a_bitCount a_sampleCount a_firstNumber a_fromTime a_toTime a_fromValue a_toValue a_total a_smallest a_greatest a_grown a_bits a_lastStep) (hs : s < cn) (hL : L s = l0 ++ [(bc, sc, fn)]) (hsc : sc < 8) (hh : ci_hist (T s) (V s) (E s + 1))
    (hnew : en_ok (fun i => bi_at bits1 (19200 + 224 * s + i)) (fun i => T s (fn + i)) (fun i => V s (fn + i)) (sc + 1) bc1) (hst : en_s (fun i => bi_at bits1 (19200 + 224 * s + i)) sc = st)
    (hout : ∀ q, q < 19200 + 224 * s ∨ 19200 + 224 * s + 224 ≤ q → bi_at bits1 q = bi_at a_bits q)
    (hae' : ae' ≤ 19200) (hold : ∀ s', s' < cn → ∀ a, a ∈ L s' → a.2.1 = 8 → P' s' a.2.2 + a.1 ≤ ae' ∧ ∀ i, i < a.1 → bi_at bits2 (P' s' a.2.2 + i) = bi_at bits1 (P s' a.2.2 + i))
    (hS : ∀ s', s' < cn → ∀ (k : Nat) (a : bk_T), (L s')[k]? = some a → (s' ≠ s ∨ k ≠ l0.length) → S' (12 * s' + k) = if a.2.1 = 8 then nI (P' s' a.2.2) else -1)
    (hc : S' (12 * s + l0.length) = if sc + 1 = 8 then nI (P' s fn) else -1) (hcc : sc + 1 = 8 → P' s fn + bc1 ≤ ae' ∧ ∀ i, i < bc1 → bi_at bits2 (P' s fn + i) = bi_at bits1 (19200 + 224 * s + i))
    (h19 : ∀ q, 19200 ≤ q → bi_at bits2 q = bi_at bits1 q) (hd : ci_dis cn (up_f L s (l0 ++ [(bc1, sc + 1, fn)])) P') :
    ci_ok cn T V (up_f L s (l0 ++ [(bc1, sc + 1, fn)])) P' (up_f E s (E s + 1)) ae' a_blockCount S' (upd a_bitCount (12 * s + l0.length) (nI bc1)) (upd a_sampleCount (12 * s + l0.length) (nI (sc + 1))) a_firstNumber a_fromTime (upd a_toTime (12 * s + l0.length) (T s (E s))) a_fromValue (upd a_toValue (12 * s + l0.length) (V s (E s))) (upd a_total (12 * s + l0.length) (a_total (12 * s + l0.length) + V s (E s))) (upd a_smallest (12 * s + l0.length) (if a_smallest (12 * s + l0.length) ≤ V s (E s) then a_smallest (12 * s + l0.length) else V s (E s))) (upd a_greatest (12 * s + l0.length) (if V s (E s) ≤ a_greatest (12 * s + l0.length) then a_greatest (12 * s + l0.length) else V s (E s))) (upd a_grown (12 * s + l0.length) (a_grown (12 * s + l0.length) + sm_g (a_toValue (12 * s + l0.length)) (V s (E s)))) bits2 (upd a_lastStep s st) := by
  obtain ⟨hcn, hae, hrow, hse, henc, hdis⟩ := I
  obtain ⟨hhs, hl1, hl2, hl3⟩ := hse s hs
  have hlast : (bc, sc, fn) ∈ L s := by rw [hL]; simp
  have hb := hl3 _ hlast
  have hE : fn + sc = E s := hb.2.2.2 hsc
  have hsc1 : 1 ≤ sc := hb.1
  have hpw := hl2
  rw [hL] at hpw
  obtain ⟨hp0, _, hp1⟩ := List.pairwise_append.mp hpw
  have hp2 : ∀ a, a ∈ l0 → a.2.1 = 8 ∧ a.2.2 + 8 ≤ fn := fun a ha => hp1 a ha (bc, sc, fn) (List.mem_singleton.mpr rfl)
  have hlen : (L s).length = l0.length + 1 := by rw [hL, List.length_append]; rfl
  obtain ⟨c1, c2, c3, c4, c5, c6, c7, c8, c9, c10, c11, c12⟩ := ro_e ((hrow s hs).2 l0.length (bc, sc, fn) (by rw [hL]; exact ls_mid _ _ _))
  dsimp only at c1 c2 c3 c4 c5 c6 c7 c8 c9 c10 c11 c12
  obtain ⟨m, rfl⟩ : ∃ m, sc = m + 1 := ⟨sc - 1, by omega⟩
  have hEm : E s = fn + (m + 1) := hE.symm
  have old : ∀ s', s' < cn → ∀ (k : Nat) (a : bk_T), (L s')[k]? = some a → (s' ≠ s ∨ k ≠ l0.length) → ro_at S' (upd a_bitCount (12 * s + l0.length) (nI bc1)) (upd a_sampleCount (12 * s + l0.length) (nI (m + 1 + 1))) a_firstNumber a_fromTime (upd a_toTime (12 * s + l0.length) (T s (E s))) a_fromValue (upd a_toValue (12 * s + l0.length) (V s (E s))) (upd a_total (12 * s + l0.length) (a_total (12 * s + l0.length) + V s (E s))) (upd a_smallest (12 * s + l0.length) (if a_smallest (12 * s + l0.length) ≤ V s (E s) then a_smallest (12 * s + l0.length) else V s (E s))) (upd a_greatest (12 * s + l0.length) (if V s (E s) ≤ a_greatest (12 * s + l0.length) then a_greatest (12 * s + l0.length) else V s (E s))) (upd a_grown (12 * s + l0.length) (a_grown (12 * s + l0.length) + sm_g (a_toValue (12 * s + l0.length)) (V s (E s)))) (12 * s' + k) = ro_of (P' s' a.2.2) a (T s') (V s') := by
    intro s' hs' k a hk hn
    have hk12 := (ls_mem hk).2
    have hl12 := (hse s' hs').2.1
    have hne : 12 * s' + k ≠ 12 * s + l0.length := by omega
    obtain ⟨r1, r2, r3, r4, r5, r6, r7, r8, r9, r10, r11, r12⟩ := ro_e ((hrow s' hs').2 k a hk)
    exact ro_i ⟨hS s' hs' k a hk hn, (pk_un hne).trans r2, (pk_un hne).trans r3, r4, r5, (pk_un hne).trans r6, r7, (pk_un hne).trans r8, (pk_un hne).trans r9, (pk_un hne).trans r10, (pk_un hne).trans r11, (pk_un hne).trans r12⟩
  have keep : ∀ s', s' < cn → ∀ a, a ∈ L s' → (s' ≠ s ∨ a.2.1 = 8) → ci_enc P' T V ae' bits2 (upd a_lastStep s st) s' a := by
    intro s' hs' a ha hn
    have hb := (hse s' hs').2.2.2 a ha
    have he := henc s' hs' a ha
    have hbc := en_ok_bc he.1
    refine ci_enc_keep he (by omega) (fun _ _ => ⟨rfl, rfl⟩) (fun z => ⟨(hold s' hs' a ha z).1, fun i hi => ?_⟩) (fun z => ?_)
    · rw [(hold s' hs' a ha z).2 i hi]
      exact hout _ (by have := he.2.1 z; omega)
    · have hne : s' ≠ s := by omega
      exact ⟨pk_un hne, fun i hi => by rw [h19 _ (by omega)]; exact hout _ (by omega)⟩
  refine ⟨hcn, hae', fun s' hs' => ?_, fun s' hs' => ?_, fun s' hs' a ha => ?_, hd⟩
  · by_cases e : s' = s
    · subst e
      rw [up_s]
      refine ⟨by rw [(hrow s' hs').1, hlen, List.length_append]; rfl, fun k a hk => ?_⟩
      rcases ls_snoc hk with ⟨z, hk2⟩ | ⟨z, hk2⟩
      · exact old s' hs' k a (by rw [hL]; exact ls_app hk2) (Or.inr (by omega))
      · subst z hk2
        refine ro_i ⟨hc, pk_us, pk_us, c4, c5, pk_us.trans ?_, c7, pk_us.trans ?_, pk_us.trans ?_, pk_us.trans ?_, pk_us.trans ?_, pk_us.trans ?_⟩
        · rw [hEm]; rfl
        · rw [hEm]; rfl
        · rw [c9, hEm]; rfl
        · rw [c10, hEm]; rfl
        · rw [c11, hEm]; rfl
        · rw [c12, c8, hEm]; rfl
    · rw [up_o e]
      exact ⟨(hrow s' hs').1, fun k a hk => old s' hs' k a hk (Or.inl e)⟩
  · by_cases e : s' = s
    · subst e
      rw [up_s, up_s]
      refine ⟨hh, by rw [List.length_append]; show l0.length + 1 ≤ 12; omega, ?_, fun a ha => ?_⟩
      · refine List.pairwise_append.mpr ⟨hp0, List.pairwise_singleton _ _, fun a ha b hb => ?_⟩
        rw [List.mem_singleton] at hb
        subst hb
        exact hp2 a ha
      · rcases List.mem_append.mp ha with z | z
        · have h3 := hl3 a (by rw [hL]; exact List.mem_append_left _ z)
          have := hp2 a z
          exact ⟨by omega, by omega, by omega, fun y => by omega⟩
        · rw [List.mem_singleton] at z
          subst z
          exact ⟨by show 1 ≤ m + 1 + 1; omega, by show m + 1 + 1 ≤ 8; omega, by show fn + (m + 1 + 1) ≤ E s' + 1; omega, fun _ => by show fn + (m + 1 + 1) = E s' + 1; omega⟩
    · rw [up_o e, up_o e]; exact hse s' hs'
  · by_cases e : s' = s
    · subst e
      rw [up_s] at ha
      rcases List.mem_append.mp ha with z | z
      · exact keep s' hs' a (by rw [hL]; exact List.mem_append_left _ z) (Or.inr (hp2 a z).1)
      · rw [List.mem_singleton] at z
        subst z
        have hbc := en_ok_bc hnew
        by_cases z8 : m + 1 + 1 = 8
        · have ep : ci_pos P' s' (bc1, m + 1 + 1, fn) = P' s' fn := if_pos z8
          refine ⟨?_, fun _ => (hcc z8).1, fun y => by dsimp only at y; omega⟩
          rw [ep]
          exact (en_ok_congr hnew (fun i hi => (hcc z8).2 i hi) (fun _ _ => ⟨rfl, rfl⟩)).1
        · have ep : ci_pos P' s' (bc1, m + 1 + 1, fn) = 19200 + 224 * s' := if_neg z8
          have q := en_ok_congr hnew (fun i hi => h19 (19200 + 224 * s' + i) (by omega)) (fun _ _ => ⟨rfl, rfl⟩)
          refine ⟨?_, fun y => absurd y z8, fun _ => ?_⟩
          · rw [ep]; exact q.1
          · rw [pk_us, ← hst]; exact (q.2 (m + 1) (by omega)).symm
    · rw [up_o e] at ha; exact keep s' hs' a ha (Or.inl e)
end
section
/-! pack, whole -/
theorem ls_last {α : Type} : ∀ l : List α, l = [] ∨ ∃ l0 a, l = l0 ++ [a]
  | [] => Or.inl rfl
  | x :: r => match ls_last r with
    | Or.inl h => Or.inr ⟨[], x, by rw [h]; rfl⟩
    | Or.inr ⟨l0, a, h⟩ => Or.inr ⟨x :: l0, a, by rw [h]; rfl⟩
/-- the place of the block whose first number is n -/
def ls_ix (n : Nat) : List bk_T → Nat
  | [] => 0
  | a :: r => if a.2.2 = n then 0 else ls_ix n r + 1
theorem ls_ix_get : ∀ {l : List bk_T} {k : Nat} {a : bk_T}, l.Pairwise ci_lt → l[k]? = some a → ls_ix a.2.2 l = k
  | [], k, a, _, h => by simp at h
  | x :: r, 0, a, _, h => by
    have e : x = a := by simpa using h
    subst e
    unfold ls_ix; rw [if_pos rfl]
  | x :: r, k + 1, a, hp, h => by
    have h2 : r[k]? = some a := by simpa using h
    have hp2 := List.pairwise_cons.mp hp
    have h3 := hp2.1 a (ls_mem h2).1
    unfold ci_lt at h3
    simp only [ls_ix]
    rw [if_neg (by omega), ls_ix_get hp2.2 h2]
def ci_b (L : Nat → List bk_T) (b : Nat) : bk_T := ((L (b / 12))[b % 12]?).getD (0, 0, 0)
def ci_C (cn : Nat) (L : Nat → List bk_T) (b : Nat) : Bool := decide (b / 12 < cn) && decide ((ci_b L b).2.1 = 8)
theorem ci_b_get {L : Nat → List bk_T} {s k : Nat} {a : bk_T} (h : (L s)[k]? = some a) (hk : k < 12) : ci_b L (12 * s + k) = a := by
  unfold ci_b
  rw [show (12 * s + k) / 12 = s from by omega, show (12 * s + k) % 12 = k from by omega, h]; rfl
theorem ci_C_get {cn : Nat} {L : Nat → List bk_T} {b : Nat} (h : ci_C cn L b = true) : b / 12 < cn ∧ (L (b / 12))[b % 12]? = some (ci_b L b) ∧ (ci_b L b).2.1 = 8 := by
  unfold ci_C at h
  rw [Bool.and_eq_true, decide_eq_true_eq, decide_eq_true_eq] at h
  refine ⟨h.1, ?_, h.2⟩
  have h2 := h.2
  unfold ci_b at h2 ⊢
  cases e : (L (b / 12))[b % 12]? with
  | none => rw [e] at h2; exact absurd h2 (by decide)
  | some a => rfl
theorem ci_C_mk {cn : Nat} {L : Nat → List bk_T} {s k : Nat} {a : bk_T} (hs : s < cn) (h : (L s)[k]? = some a) (hk : k < 12) (h8 : a.2.1 = 8) : ci_C cn L (12 * s + k) = true := by
  unfold ci_C
  rw [ci_b_get h hk, show (12 * s + k) / 12 = s from by omega, decide_eq_true hs, decide_eq_true h8]; rfl
theorem ci_C_no {cn : Nat} {L : Nat → List bk_T} {s k : Nat} {a : bk_T} (h : (L s)[k]? = some a) (hk : k < 12) (h8 : a.2.1 ≠ 8) : ci_C cn L (12 * s + k) = false := by
  unfold ci_C
  rw [ci_b_get h hk, decide_eq_false h8, Bool.and_false]
theorem ba_dm (b : Nat) : 12 * (b / 12) + b % 12 = b := by omega
/-- the arena as it is before the close -/
theorem ci_raw {a_blockCount a_startBit a_bitCount a_sampleCount a_firstNumber a_fromTime a_toTime a_fromValue a_toValue a_total a_smallest a_greatest a_grown a_bits a_lastStep : Nat → Int32} {cn : Nat} {T V : Nat → Nat → Int32} {L : Nat → List bk_T} {P : Nat → Nat → Nat} {E : Nat → Nat} {ae c bc1 : Nat} (I : ci_ok cn T V L P E ae a_blockCount a_startBit a_bitCount a_sampleCount a_firstNumber a_fromTime a_toTime a_fromValue a_toValue a_total a_smallest a_greatest a_grown a_bits a_lastStep) (hcf : ci_C cn L c = false) :
    ly_raw (ci_C cn L) (up_f (fun b => (ci_b L b).1) c bc1) (fun b => P (b / 12) (ci_b L b).2.2) ae a_startBit ∧
    (∀ b, ci_C cn L b = true → (b / 12 < cn ∧ b % 12 < (L (b / 12)).length) ∧ upd a_bitCount c (nI bc1) b = nI (up_f (fun b => (ci_b L b).1) c bc1 b)) ∧
    (∀ b, (b / 12 < cn ∧ b % 12 < (L (b / 12)).length) → ci_C cn L b = false → a_startBit b = -1) := by
  obtain ⟨hcn, hae, hrow, hse, henc, hdis⟩ := I
  have hne : ∀ b, ci_C cn L b = true → b ≠ c := fun b hb e => by rw [e, hcf] at hb; cases hb
  refine ⟨⟨hae, fun b hb => ?_, fun b b' hb hb' hn => ?_⟩, fun b hb => ?_, fun b hb hf => ?_⟩
  · obtain ⟨g1, g2, g3⟩ := ci_C_get hb
    have hm := ls_mem g2
    have hl := (hse _ g1).2.1
    have r := ro_e ((hrow _ g1).2 _ _ g2)
    rw [ba_dm, if_pos g3] at r
    have he := henc _ g1 _ hm.1
    have hbc := en_ok_bc he.1
    have := he.2.1 g3
    rw [up_o (hne b hb)]
    exact ⟨by omega, r.1, this, by omega, by omega⟩
  · obtain ⟨g1, g2, g3⟩ := ci_C_get hb
    obtain ⟨k1, k2, k3⟩ := ci_C_get hb'
    rw [up_o (hne b hb), up_o (hne b' hb')]
    refine hdis _ g1 _ (ls_mem g2).1 _ k1 _ (ls_mem k2).1 g3 k3 ?_
    by_cases e : b / 12 = b' / 12
    · right
      intro ef
      rw [← e] at k2
      have := (ls_fn (hse _ g1).2.2.1 g2 k2 ef).1
      omega
    · exact Or.inl e
  · obtain ⟨g1, g2, g3⟩ := ci_C_get hb
    have r := ro_e ((hrow _ g1).2 _ _ g2)
    rw [ba_dm] at r
    rw [up_o (hne b hb), pk_un (hne b hb)]
    exact ⟨⟨g1, (ls_mem g2).2⟩, r.2.1⟩
  · have hl := (hse _ hb.1).2.1
    have hg : (L (b / 12))[b % 12]? = some ((L (b / 12))[b % 12]'hb.2) := List.getElem?_eq_getElem hb.2
    have r := ro_e ((hrow _ hb.1).2 _ _ hg)
    have h8 : ¬ ((L (b / 12))[b % 12]'hb.2).2.1 = 8 := fun h8 => by
      have := ci_C_mk hb.1 hg (by omega) h8
      rw [ba_dm, hf] at this
      cases this
    rw [ba_dm, if_neg h8] at r
    exact r.1
/-- l with one more sample, number e -/
def pd_to (l : List bk_T) (e : Nat) (l' : List bk_T) : Prop :=
  ((∀ a, a ∈ l → a.2.1 = 8) ∧ l' = l ++ [(21, 1, e)]) ∨ ∃ (l0 : List bk_T) (bc sc fn bc' : Nat), l = l0 ++ [(bc, sc, fn)] ∧ sc < 8 ∧ fn + sc = e ∧ l' = l0 ++ [(bc', sc + 1, fn)]
theorem cx_pack (f_seriesCount f_safeCount f_arenaEnd f_position f_foundCount f_foundSum f_foundLeast f_foundMost f_foundGrowth f_before f_hasBefore f_levelNow : Int32) (a_labelsOf a_first a_end a_safeFirst a_safeEnd a_lastTime a_safeLast a_having a_blockCount a_startBit a_bitCount a_sampleCount a_firstNumber a_fromTime a_toTime a_fromValue a_toValue a_total a_smallest a_greatest a_grown a_bits a_lastStep a_times a_values : Nat → Int32) {cn : Nat} {T V : Nat → Nat → Int32} {L : Nat → List bk_T} {P : Nat → Nat → Nat} {E : Nat → Nat} {ae s : Nat} (I : ci_ok cn T V L P E ae a_blockCount a_startBit a_bitCount a_sampleCount a_firstNumber a_fromTime a_toTime a_fromValue a_toValue a_total a_smallest a_greatest a_grown a_bits a_lastStep) (hfs : f_seriesCount = nI cn) (hfa : f_arenaEnd = nI ae) (hs : s < cn) (hlen : ∀ s', s' < cn → (L s').length ≤ 10) (hend : a_end s = nI (E s)) (hh : ci_hist (T s) (V s) (E s + 1)) :
    ∃ (l' : List bk_T) (P' : Nat → Nat → Nat) (ae' : Nat), ∃ (f_position1 : Int32) (a_blockCount1 a_startBit1 a_bitCount1 a_sampleCount1 a_firstNumber1 a_fromTime1 a_toTime1 a_fromValue1 a_toValue1 a_total1 a_smallest1 a_greatest1 a_grown1 a_bits1 a_lastStep1 : Nat → Int32), ci_ok cn T V (up_f L s l') P' (up_f E s (E s + 1)) ae' a_blockCount1 a_startBit1 a_bitCount1 a_sampleCount1 a_firstNumber1 a_fromTime1 a_toTime1 a_fromValue1 a_toValue1 a_total1 a_smallest1 a_greatest1 a_grown1 a_bits1 a_lastStep1 ∧ pd_to (L s) (E s) l' ∧
      ∀ post : SX → Prop, post (f_seriesCount, f_safeCount, nI ae', f_position1, f_foundCount, f_foundSum, f_foundLeast, f_foundMost, f_foundGrowth, f_before, f_hasBefore, f_levelNow, a_labelsOf, a_first, a_end, a_safeFirst, a_safeEnd, a_lastTime, a_safeLast, a_having, a_blockCount1, a_startBit1, a_bitCount1, a_sampleCount1, a_firstNumber1, a_fromTime1, a_toTime1, a_fromValue1, a_toValue1, a_total1, a_smallest1, a_greatest1, a_grown1, a_bits1, a_lastStep1, a_times, a_values) → wpX_pack post (f_seriesCount, f_safeCount, f_arenaEnd, f_position, f_foundCount, f_foundSum, f_foundLeast, f_foundMost, f_foundGrowth, f_before, f_hasBefore, f_levelNow, a_labelsOf, a_first, a_end, a_safeFirst, a_safeEnd, a_lastTime, a_safeLast, a_having, a_blockCount, a_startBit, a_bitCount, a_sampleCount, a_firstNumber, a_fromTime, a_toTime, a_fromValue, a_toValue, a_total, a_smallest, a_greatest, a_grown, a_bits, a_lastStep, a_times, a_values) (nI s) (T s (E s)) (V s (E s)) := by
  have I0 := I
  obtain ⟨hcn, hae, hrow, hse, henc, hdis⟩ := I
  obtain ⟨hhs, hl1, hl2, hl3⟩ := hse s hs
  have hs8 : s < 8 := by omega
  have hls := hlen s hs
  have hcl : (nI s).toNatClampNeg = s := nI_clamp (by omega)
  have hin : vp_in (nI s) 8 := vp_in_nI hs8 (by omega)
  have hcount := (hrow s hs).1
  have hrE := hh.1 (E s) (by omega)
  by_cases hall : ∀ a, a ∈ L s → a.2.1 = 8
  · obtain ⟨bits', q1, q2, q3, W⟩ := wx_openBlock f_seriesCount f_safeCount f_arenaEnd f_position f_foundCount f_foundSum f_foundLeast f_foundMost f_foundGrowth f_before f_hasBefore f_levelNow a_labelsOf a_first a_end a_safeFirst a_safeEnd a_lastTime a_safeLast a_having a_blockCount a_startBit a_bitCount a_sampleCount a_firstNumber a_fromTime a_toTime a_fromValue a_toValue a_total a_smallest a_greatest a_grown a_bits a_lastStep a_times a_values (t := T s (E s)) (v := V s (E s)) hs8 (by omega) hcount (by omega) (by omega)
    have I2 := ci_opn I0 hs (by omega) hall hh q1 q2 q3
    rw [← hend] at I2
    refine ⟨_, P, ae, f_position, _, _, _, _, _, _, _, _, _, _, _, _, _, _, _, I2, Or.inl ⟨hall, rfl⟩, fun post hp => ?_⟩
    rw [← hfa] at hp
    rcases ls_last (L s) with z | ⟨l0, a, z⟩
    · refine ⟨hin, nm_e ⟨hin, br_t ?_ (W post hp)⟩⟩
      rw [hcl, hcount, z]; rfl
    · have hlen1 : (L s).length = l0.length + 1 := by rw [z, List.length_append]; rfl
      have hk : (L s)[l0.length]? = some a := by rw [z]; exact ls_mid _ _ _
      have r := (ro_e ((hrow s hs).2 _ a hk)).1
      have ha := (ls_mem hk).1
      rw [if_pos (hall a ha)] at r
      have hpe := (henc s hs a ha).2.1 (hall a ha)
      have e4 : 12 * nI s + a_blockCount (nI s).toNatClampNeg - 1 = nI (12 * s + l0.length) := by rw [hcl, hcount, hlen1, ba_12]; exact nI_pred (12 * s + l0.length)
      have hcb : (nI (12 * s + l0.length)).toNatClampNeg = 12 * s + l0.length := nI_clamp (by omega)
      refine ⟨hin, nm_r e4 ⟨hin, br_f ?_ ⟨vp_in_nI (by omega) (by omega), br_f ?_ (W post hp)⟩⟩⟩
      · rw [hcl, hcount]; exact nI_ne0 (by omega) (by omega)
      · rw [hcb, r]
        intro e
        have := congrArg Int32.toInt e
        rw [nI_toInt (by omega), ba_m1] at this
        omega
  · -- the last block is not yet full
    obtain ⟨l0, bc, sc, fn, hL, hsc⟩ : ∃ (l0 : List bk_T) (bc sc fn : Nat), L s = l0 ++ [(bc, sc, fn)] ∧ sc < 8 := by
      rcases ls_last (L s) with z | ⟨l0, a, z⟩
      · exact absurd (fun a ha => by rw [z] at ha; cases ha) hall
      · refine ⟨l0, a.1, a.2.1, a.2.2, z, ?_⟩
        have h8 := (hl3 a (by rw [z]; simp)).2.1
        rcases Nat.lt_or_ge a.2.1 8 with y | y
        · exact y
        · refine absurd (fun b hb => ?_) hall
          rw [z] at hb hl2
          rcases List.mem_append.mp hb with w | w
          · exact ((List.pairwise_append.mp hl2).2.2 b w a (List.mem_singleton.mpr rfl)).1
          · rw [List.mem_singleton] at w
            rw [w]; omega
    have hk : (L s)[l0.length]? = some (bc, sc, fn) := by rw [hL]; exact ls_mid _ _ _
    have hm := (ls_mem hk).1
    obtain ⟨c1, c2, c3, c4, c5, c6, c7, c8, c9, c10, c11, c12⟩ := ro_e ((hrow s hs).2 _ _ hk)
    dsimp only at c1 c2 c3 c4 c5 c6 c7 c8 c9 c10 c11 c12
    rw [if_neg (by omega)] at c1
    have hlen1 : (L s).length = l0.length + 1 := by rw [hL, List.length_append]; rfl
    obtain ⟨b1, b2, b3, b4⟩ := hl3 _ hm
    dsimp only at b1 b2 b3 b4
    have hE := b4 hsc
    obtain ⟨e1, _, e3⟩ := henc s hs _ hm
    have ep : ci_pos P s (bc, sc, fn) = 19200 + 224 * s := if_neg (by show ¬ sc = 8; omega)
    rw [ep] at e1
    have e3' := e3 hsc
    dsimp only at e1 e3'
    have hbc := en_ok_bc e1
    have hrl := hhs.1 (fn + (sc - 1)) (by omega)
    have hlt := hh.2 (fn + (sc - 1)) (E s) (by omega) (by omega)
    have hrng : ∀ i, i ≤ sc - 1 → -1000 ≤ (V s (fn + i)).toInt ∧ (V s (fn + i)).toInt ≤ 1000 := fun i hi => by have := hhs.1 (fn + i) (by omega); omega
    have htot := sm_tot_r (f := fun i => V s (fn + i)) (sc - 1) (by omega) hrng
    have hgr := sm_gr_r (f := fun i => V s (fn + i)) (sc - 1) (by omega) hrng
    rw [← c9] at htot
    rw [← c12] at hgr
    have hstp : 0 ≤ (a_lastStep s).toInt ∧ (a_lastStep s).toInt ≤ 999 := by
      rw [e3']
      have hq := en_ok_step e1
      rcases Nat.eq_zero_or_pos (sc - 1) with z | z
      · rw [z, hq.1, ba_0]; omega
      · obtain ⟨m, hm'⟩ : ∃ m, sc - 1 = m + 1 := ⟨sc - 2, by omega⟩
        rw [hm', hq.2 m (by omega)]
        have h1 := hhs.1 (fn + (m + 1)) (by omega)
        have h2 := hhs.1 (fn + m) (by omega)
        have h3 := hhs.2 (fn + m) (fn + (m + 1)) (by omega) (by omega)
        rw [ba_sub (by omega) (by omega)]
        omega
    obtain ⟨bits1, l1, l2, w1, w2, w3, w4, W⟩ := wx_pack_in f_seriesCount f_safeCount f_arenaEnd f_position f_foundCount f_foundSum f_foundLeast f_foundMost f_foundGrowth f_before f_hasBefore f_levelNow a_labelsOf a_first a_end a_safeFirst a_safeEnd a_lastTime a_safeLast a_having a_blockCount a_startBit a_bitCount a_sampleCount a_firstNumber a_fromTime a_toTime a_fromValue a_toValue a_total a_smallest a_greatest a_grown a_bits a_lastStep a_times a_values (t := T s (E s)) (v := V s (E s)) (k := l0.length) hs8 (by omega) (by rw [hcount, hlen1]) c1 c2 (by omega) (by omega) (by omega) (by rw [c6]; omega) (by rw [c8]; omega) hstp (by omega) (by omega)
    -- the new code
    have hS1 : ∀ i, i < bc → (fun i => bi_at bits1 (19200 + 224 * s + i)) i = (fun i => bi_at a_bits (19200 + 224 * s + i)) i := fun i hi => w2 _ (Or.inl (by omega))
    have n1 : en_num (fun i => bi_at bits1 (19200 + 224 * s + i)) bc 5 11 = (T s (E s) - T s (fn + (sc - 1)) - a_lastStep s, l1) := by rw [en_num_shift, w3, c6]
    have n2 : en_num (fun i => bi_at bits1 (19200 + 224 * s + i)) (bc + l1) 6 12 = (V s (E s) - V s (fn + (sc - 1)), l2) := by rw [en_num_shift, ← Nat.add_assoc, w4, c8]
    have hnew := en_ok_snoc e1 hS1 n1 n2 (by
      show T s (fn + sc) = T s (fn + (sc - 1)) + (_ + _)
      rw [← e3', hE]; grind) (by
      show V s (fn + sc) = V s (fn + (sc - 1)) + _
      rw [hE]; grind)
    have hstep : en_s (fun i => bi_at bits1 (19200 + 224 * s + i)) sc = T s (E s) - a_toTime (12 * s + l0.length) := by
      rw [hnew.2, ← e3', c6]; grind
    have hout : ∀ q, q < 19200 + 224 * s ∨ 19200 + 224 * s + 224 ≤ q → bi_at bits1 q = bi_at a_bits q := fun q hq => w2 q (by omega)
    have hcb : (nI (12 * s + l0.length)).toNatClampNeg = 12 * s + l0.length := nI_clamp (by omega)
    have hinb : vp_in (nI (12 * s + l0.length)) 96 := vp_in_nI (by omega) (by omega)
    have esc : upd a_sampleCount (12 * s + l0.length) (vp_nar .byte ((a_sampleCount (12 * s + l0.length) + 1).toInt8.toInt32)) = upd a_sampleCount (12 * s + l0.length) (nI (sc + 1)) := by rw [c3, nI_1, ba_bn (by omega)]
    by_cases h8 : sc + 1 = 8
    · -- it is full: close
      have hcf : ci_C cn L (12 * s + l0.length) = false := ci_C_no hk (by omega) (by show sc ≠ 8; omega)
      obtain ⟨y1, y2, y3⟩ := ci_raw (bc1 := bc + l1 + l2) I0 hcf
      have hbc1 := en_ok_bc hnew.1
      obtain ⟨p', ae', S', bits2, pos', z1, z2, z3, z4, z5, W2⟩ := wx_close f_seriesCount f_safeCount f_arenaEnd f_position f_foundCount f_foundSum f_foundLeast f_foundMost f_foundGrowth f_before f_hasBefore f_levelNow a_labelsOf a_first a_end a_safeFirst a_safeEnd a_lastTime a_safeLast a_having a_blockCount a_startBit (upd a_bitCount (12 * s + l0.length) (nI (bc + l1 + l2))) (upd a_sampleCount (12 * s + l0.length) (nI (sc + 1))) a_firstNumber a_fromTime (upd a_toTime (12 * s + l0.length) (T s (E s))) a_fromValue (upd a_toValue (12 * s + l0.length) (V s (E s))) (upd a_total (12 * s + l0.length) (a_total (12 * s + l0.length) + (V s (E s)))) (upd a_smallest (12 * s + l0.length) (if a_smallest (12 * s + l0.length) ≤ (V s (E s)) then a_smallest (12 * s + l0.length) else (V s (E s)))) (upd a_greatest (12 * s + l0.length) (if (V s (E s)) ≤ a_greatest (12 * s + l0.length) then a_greatest (12 * s + l0.length) else (V s (E s)))) (upd a_grown (12 * s + l0.length) (a_grown (12 * s + l0.length) + sm_g (a_toValue (12 * s + l0.length)) (V s (E s)))) bits1 (upd a_lastStep s (T s (E s) - a_toTime (12 * s + l0.length))) a_times a_values
        (nb := fun s => (L s).length) hcn hfs (fun s' hs' => ⟨(hrow s' hs').1, by have := hlen s' hs'; omega⟩) y1 y2 y3 hs8 (by omega) hcf (by rw [pk_us, up_s]) (by rw [up_s]; omega) (by rw [up_s]; omega) hfa
      have hP : ∀ s', s' < cn → ∀ (k : Nat) (a : bk_T), (L s')[k]? = some a → p' (12 * s' + ls_ix a.2.2 (L s')) = p' (12 * s' + k) := fun s' hs' k a hka => by rw [ls_ix_get (hse s' hs').2.2.1 hka]
      have hk12 : ∀ s', s' < cn → ∀ (k : Nat) (a : bk_T), (L s')[k]? = some a → k < 12 := fun s' hs' k a hka => by have := (ls_mem hka).2; have := hlen s' hs'; omega
      have hC : ∀ s', s' < cn → ∀ (k : Nat) (a : bk_T), (L s')[k]? = some a → a.2.1 = 8 → ci_C cn L (12 * s' + k) = true ∧ up_f (fun b => (ci_b L b).1) (12 * s + l0.length) (bc + l1 + l2) (12 * s' + k) = a.1 ∧ P ((12 * s' + k) / 12) (ci_b L (12 * s' + k)).2.2 = P s' a.2.2 := fun s' hs' k a hka h8a => by
        have hc := ci_C_mk hs' hka (hk12 s' hs' k a hka) h8a
        have hne : 12 * s' + k ≠ 12 * s + l0.length := fun e => by rw [e, hcf] at hc; cases hc
        have := hk12 s' hs' k a hka
        exact ⟨hc, by rw [up_o hne, ci_b_get hka (hk12 s' hs' k a hka)], by rw [ci_b_get hka (hk12 s' hs' k a hka), show (12 * s' + k) / 12 = s' from by omega]⟩
      have hcc' : (ci_C cn L (12 * s + l0.length) || decide (12 * s + l0.length = 12 * s + l0.length)) = true := by rw [decide_eq_true rfl, Bool.or_true]
      have hor : ∀ b, ci_C cn L b = true → (ci_C cn L b || decide (b = 12 * s + l0.length)) = true := fun b hb => by rw [hb, Bool.true_or]
      have hk' := hP s hs l0.length _ hk
      dsimp only at hk'
      have I2 := ci_fin (P' := fun s' n => p' (12 * s' + ls_ix n (L s'))) (ae' := ae') (bits2 := bits2) (S' := S') I0 hs hL hsc hh hnew.1 hstep hout z1.1 (fun s' hs' a ha h8a => by
          obtain ⟨k, hka⟩ := ls_idx ha
          obtain ⟨t1, t2, t3⟩ := hC s' hs' k a hka h8a
          have t4 := (z1.2.1 _ (hor _ t1)).2.2.1
          have t5 := z3 _ t1
          rw [t2] at t4 t5
          refine ⟨?_, fun i hi => ?_⟩
          · show p' (12 * s' + ls_ix a.2.2 (L s')) + a.1 ≤ ae'
            rw [hP s' hs' k a hka]; exact t4
          · show bi_at bits2 (p' (12 * s' + ls_ix a.2.2 (L s')) + i) = _
            rw [hP s' hs' k a hka]
            have := t5 i hi
            rw [t3] at this
            exact this) (fun s' hs' k a hka hn => by
          show S' (12 * s' + k) = if a.2.1 = 8 then nI (p' (12 * s' + ls_ix a.2.2 (L s'))) else -1
          by_cases h8a : a.2.1 = 8
          · rw [if_pos h8a, hP s' hs' k a hka]
            exact (z1.2.1 _ (hor _ (hC s' hs' k a hka h8a).1)).2.1
          · rw [if_neg h8a]
            have := hk12 s' hs' k a hka
            have := hk12 s hs _ _ hk
            rw [z2 _ (by omega) (ci_C_no hka (by omega) h8a)]
            have r := (ro_e ((hrow s' hs').2 k a hka)).1
            rw [if_neg h8a] at r
            exact r) (by
          show S' (12 * s + l0.length) = if sc + 1 = 8 then nI (p' (12 * s + ls_ix fn (L s))) else -1
          rw [if_pos h8, hk']
          exact (z1.2.1 _ hcc').2.1) (fun _ => by
          show p' (12 * s + ls_ix fn (L s)) + (bc + l1 + l2) ≤ ae' ∧ ∀ i, i < bc + l1 + l2 → bi_at bits2 (p' (12 * s + ls_ix fn (L s)) + i) = _
          rw [hk']
          have t4 := (z1.2.1 _ hcc').2.2.1
          rw [up_s] at t4 z4
          exact ⟨t4, z4⟩) z5 (by
          have loc : ∀ s', s' < cn → ∀ a, a ∈ up_f L s (l0 ++ [(bc + l1 + l2, sc + 1, fn)]) s' → a.2.1 = 8 → ∃ b, (ci_C cn L b || decide (b = 12 * s + l0.length)) = true ∧ b / 12 = s' ∧ (ci_b L b).2.2 = a.2.2 ∧ p' (12 * s' + ls_ix a.2.2 (L s')) = p' b ∧ up_f (fun b => (ci_b L b).1) (12 * s + l0.length) (bc + l1 + l2) b = a.1 := by
            intro s' hs' a ha h8a
            have reg : a ∈ L s' → ∃ b, (ci_C cn L b || decide (b = 12 * s + l0.length)) = true ∧ b / 12 = s' ∧ (ci_b L b).2.2 = a.2.2 ∧ p' (12 * s' + ls_ix a.2.2 (L s')) = p' b ∧ up_f (fun b => (ci_b L b).1) (12 * s + l0.length) (bc + l1 + l2) b = a.1 := fun hin => by
              obtain ⟨k, hka⟩ := ls_idx hin
              have := hk12 s' hs' k a hka
              obtain ⟨t1, t2, t3⟩ := hC s' hs' k a hka h8a
              exact ⟨12 * s' + k, hor _ t1, by omega, by rw [ci_b_get hka (by omega)], hP s' hs' k a hka, t2⟩
            by_cases e : s' = s
            · subst e
              rw [up_s] at ha
              rcases List.mem_append.mp ha with y | y
              · exact reg (by rw [hL]; exact List.mem_append_left _ y)
              · rw [List.mem_singleton] at y
                subst y
                have := hk12 s' hs' _ _ hk
                exact ⟨12 * s' + l0.length, hcc', by omega, by rw [ci_b_get hk (by omega)], hk', up_s⟩
            · rw [up_o e] at ha; exact reg ha
          intro s1 hs1 a1 ha1 s2 hs2 a2 ha2 h81 h82 hn
          obtain ⟨b1, t1, t2, t3, t4, t5⟩ := loc s1 hs1 a1 ha1 h81
          obtain ⟨b2, v1, v2, v3, v4, v5⟩ := loc s2 hs2 a2 ha2 h82
          have hbn : b1 ≠ b2 := fun e => by
            subst e
            rcases hn with z | z
            · exact z (t2.symm.trans v2)
            · exact z (t3.symm.trans v3)
          have := z1.2.2 b1 b2 t1 v1 hbn
          rw [t5, v5] at this
          show p' (12 * s1 + ls_ix a1.2.2 (L s1)) + a1.1 ≤ p' (12 * s2 + ls_ix a2.2.2 (L s2)) ∨ p' (12 * s2 + ls_ix a2.2.2 (L s2)) + a2.1 ≤ p' (12 * s1 + ls_ix a1.2.2 (L s1))
          rw [t4, v4]
          exact this)
      refine ⟨_, _, ae', pos', _, _, _, _, _, _, _, _, _, _, _, _, _, _, _, I2, Or.inr ⟨l0, bc, sc, fn, bc + l1 + l2, hL, hsc, hE, rfl⟩, fun post hp => W post ⟨hinb, hinb, nm_r (e' := upd a_sampleCount (12 * s + l0.length) (nI (sc + 1))) (by rw [hcb, esc]) ⟨hinb, br_t ?_ (W2 post hp)⟩⟩⟩
      rw [hcb, pk_us, h8]; rfl
    · have I2 := ci_fin (P' := P) (ae' := ae) (bits2 := bits1) (S' := a_startBit) I0 hs hL hsc hh hnew.1 hstep hout hae (fun s' hs' a ha z => ⟨(henc s' hs' a ha).2.1 z, fun _ _ => rfl⟩) (fun s' hs' k a hka _ => (ro_e ((hrow s' hs').2 k a hka)).1) (by rw [c1, if_neg h8]) (fun z => absurd z h8) (fun _ _ => rfl) (by
        have g : ∀ s', s' < cn → ∀ a, a ∈ up_f L s (l0 ++ [(bc + l1 + l2, sc + 1, fn)]) s' → a.2.1 = 8 → a ∈ L s' := by
          intro s' _ a ha z
          by_cases e : s' = s
          · subst e
            rw [up_s] at ha
            rw [hL]
            rcases List.mem_append.mp ha with y | y
            · exact List.mem_append_left _ y
            · rw [List.mem_singleton] at y
              subst y
              exact absurd z h8
          · rw [up_o e] at ha; exact ha
        exact fun s1 hs1 a1 ha1 s2 hs2 a2 ha2 z1 z2 hne => hdis s1 hs1 a1 (g s1 hs1 a1 ha1 z1) s2 hs2 a2 (g s2 hs2 a2 ha2 z2) z1 z2 hne)
      refine ⟨_, P, ae, f_position, _, _, _, _, _, _, _, _, _, _, _, _, _, _, _, I2, Or.inr ⟨l0, bc, sc, fn, bc + l1 + l2, hL, hsc, hE, rfl⟩, fun post hp => ?_⟩
      rw [← hfa] at hp
      refine W post ⟨hinb, hinb, nm_r (e' := upd a_sampleCount (12 * s + l0.length) (nI (sc + 1))) (by rw [hcb, esc]) ⟨hinb, br_f ?_ hp⟩⟩
      rw [hcb, pk_us]
      intro e
      exact h8 ((nI_eq (a := sc + 1) (b := 8) (by omega) (by omega)).mp e)
end
section
/-! moveBlock, isPresent, isSafe, dropUseless -/
/-- the row's values fit their small types -/
theorem ro_fit {a_startBit a_bitCount a_sampleCount a_firstNumber a_fromTime a_toTime a_fromValue a_toValue a_total a_smallest a_greatest a_grown : Nat → Int32} {b p E : Nat} {a : bk_T} {T V : Nat → Int32} (h : ro_at a_startBit a_bitCount a_sampleCount a_firstNumber a_fromTime a_toTime a_fromValue a_toValue a_total a_smallest a_greatest a_grown b = ro_of p a T V) (hh : ci_hist T V E) (ha : 1 ≤ a.2.1 ∧ a.2.1 ≤ 8 ∧ a.2.2 + a.2.1 ≤ E) (hbc : a.1 ≤ 210) :
    vp_nar .short (a_bitCount b) = a_bitCount b ∧ vp_nar .byte (a_sampleCount b) = a_sampleCount b ∧ vp_nar .short (a_fromTime b) = a_fromTime b ∧ vp_nar .short (a_toTime b) = a_toTime b ∧ vp_nar .short (a_fromValue b) = a_fromValue b ∧ vp_nar .short (a_toValue b) = a_toValue b ∧ vp_nar .short (a_total b) = a_total b ∧ vp_nar .short (a_smallest b) = a_smallest b ∧ vp_nar .short (a_greatest b) = a_greatest b ∧ vp_nar .short (a_grown b) = a_grown b := by
  obtain ⟨r1, r2, r3, r4, r5, r6, r7, r8, r9, r10, r11, r12⟩ := ro_e h
  have h0 := hh.1 a.2.2 (by omega)
  have h1 := hh.1 (a.2.2 + (a.2.1 - 1)) (by omega)
  have hrng : ∀ i, i ≤ a.2.1 - 1 → -1000 ≤ (V (a.2.2 + i)).toInt ∧ (V (a.2.2 + i)).toInt ≤ 1000 := fun i hi => by have := hh.1 (a.2.2 + i) (by omega); omega
  have htot := sm_tot_r (f := fun i => V (a.2.2 + i)) (a.2.1 - 1) (by omega) hrng
  have hgr := sm_gr_r (f := fun i => V (a.2.2 + i)) (a.2.1 - 1) (by omega) hrng
  obtain ⟨⟨i1, hi1, e1⟩, _⟩ := sm_min_r (fun i => V (a.2.2 + i)) (a.2.1 - 1)
  obtain ⟨⟨i2, hi2, e2⟩, _⟩ := sm_max_r (fun i => V (a.2.2 + i)) (a.2.1 - 1)
  have g1 := hrng i1 hi1
  have g2 := hrng i2 hi2
  rw [r2, r3, r5, r6, r7, r8, r9, r10, r11, r12, e1, e2]
  exact ⟨ba_sn0 (by omega), ba_bn0 (by omega), ba_s0 (by omega) (by omega), ba_s0 (by omega) (by omega), ba_s0 (by omega) (by omega), ba_s0 (by omega) (by omega), ba_s0 (by omega) (by omega), ba_s0 (by omega) (by omega), ba_s0 (by omega) (by omega), ba_s0 (by omega) (by omega)⟩
section
variable {f_seriesCount f_safeCount f_arenaEnd f_position f_foundCount f_foundSum f_foundLeast f_foundMost f_foundGrowth f_before f_hasBefore f_levelNow : Int32} {a_labelsOf a_first a_end a_safeFirst a_safeEnd a_lastTime a_safeLast a_having a_blockCount a_startBit a_bitCount a_sampleCount a_firstNumber a_fromTime a_toTime a_fromValue a_toValue a_total a_smallest a_greatest a_grown a_bits a_lastStep a_times a_values : Nat → Int32}
theorem wx_moveBlock {post : SX → Prop} {i j : Nat} (hi : i < 96) (hj : j < 96) (hf : vp_nar .short (a_bitCount i) = a_bitCount i ∧ vp_nar .byte (a_sampleCount i) = a_sampleCount i ∧ vp_nar .short (a_fromTime i) = a_fromTime i ∧ vp_nar .short (a_toTime i) = a_toTime i ∧ vp_nar .short (a_fromValue i) = a_fromValue i ∧ vp_nar .short (a_toValue i) = a_toValue i ∧ vp_nar .short (a_total i) = a_total i ∧ vp_nar .short (a_smallest i) = a_smallest i ∧ vp_nar .short (a_greatest i) = a_greatest i ∧ vp_nar .short (a_grown i) = a_grown i)
    (H : post (f_seriesCount, f_safeCount, f_arenaEnd, f_position, f_foundCount, f_foundSum, f_foundLeast, f_foundMost, f_foundGrowth, f_before, f_hasBefore, f_levelNow, a_labelsOf, a_first, a_end, a_safeFirst, a_safeEnd, a_lastTime, a_safeLast, a_having, a_blockCount, upd a_startBit j (a_startBit i), upd a_bitCount j (a_bitCount i), upd a_sampleCount j (a_sampleCount i), upd a_firstNumber j (a_firstNumber i), upd a_fromTime j (a_fromTime i), upd a_toTime j (a_toTime i), upd a_fromValue j (a_fromValue i), upd a_toValue j (a_toValue i), upd a_total j (a_total i), upd a_smallest j (a_smallest i), upd a_greatest j (a_greatest i), upd a_grown j (a_grown i), a_bits, a_lastStep, a_times, a_values)) : wpX_moveBlock post (f_seriesCount, f_safeCount, f_arenaEnd, f_position, f_foundCount, f_foundSum, f_foundLeast, f_foundMost, f_foundGrowth, f_before, f_hasBefore, f_levelNow, a_labelsOf, a_first, a_end, a_safeFirst, a_safeEnd, a_lastTime, a_safeLast, a_having, a_blockCount, a_startBit, a_bitCount, a_sampleCount, a_firstNumber, a_fromTime, a_toTime, a_fromValue, a_toValue, a_total, a_smallest, a_greatest, a_grown, a_bits, a_lastStep, a_times, a_values) (nI i) (nI j) := by
  obtain ⟨h2, h3, h5, h6, h7, h8, h9, h10, h11, h12⟩ := hf
  have hci : (nI i).toNatClampNeg = i := nI_clamp (by omega)
  have hcj : (nI j).toNatClampNeg = j := nI_clamp (by omega)
  have hii : vp_in (nI i) 96 := vp_in_nI hi (by omega)
  have hij : vp_in (nI j) 96 := vp_in_nI hj (by omega)
  refine ⟨hii, hij, nm_r (by rw [hci, hcj]) ⟨hii, hij, nm_r (by rw [hci, hcj, h2]) ⟨hii, hij, nm_r (by rw [hci, hcj, h3]) ⟨hii, hij, nm_r (by rw [hci, hcj]) ?_⟩⟩⟩⟩
  refine ⟨hii, hij, nm_r (by rw [hci, hcj, h5]) ⟨hii, hij, nm_r (by rw [hci, hcj, h6]) ⟨hii, hij, nm_r (by rw [hci, hcj, h7]) ⟨hii, hij, nm_r (by rw [hci, hcj, h8]) ?_⟩⟩⟩⟩
  refine ⟨hii, hij, nm_r (by rw [hci, hcj, h9]) ⟨hii, hij, nm_r (by rw [hci, hcj, h10]) ⟨hii, hij, nm_r (by rw [hci, hcj, h11]) ⟨hii, hij, nm_r (by rw [hci, hcj, h12]) ?_⟩⟩⟩⟩
  exact H
theorem wx_isPresent {post : Int32 → Prop} {s b fn sc F : Nat} (hs : s < 8) (hb : b < 96) (h4 : a_firstNumber b = nI fn) (h3 : a_sampleCount b = nI sc) (hF : a_first s = nI F) (hfn : fn + sc < 2 ^ 31) (hF2 : F < 2 ^ 31) (H1 : F < fn + sc → post 1) (H0 : fn + sc ≤ F → post 0) : wpX_isPresent post (f_seriesCount, f_safeCount, f_arenaEnd, f_position, f_foundCount, f_foundSum, f_foundLeast, f_foundMost, f_foundGrowth, f_before, f_hasBefore, f_levelNow, a_labelsOf, a_first, a_end, a_safeFirst, a_safeEnd, a_lastTime, a_safeLast, a_having, a_blockCount, a_startBit, a_bitCount, a_sampleCount, a_firstNumber, a_fromTime, a_toTime, a_fromValue, a_toValue, a_total, a_smallest, a_greatest, a_grown, a_bits, a_lastStep, a_times, a_values) (nI s) (nI b) := by
  have hcs : (nI s).toNatClampNeg = s := nI_clamp (by omega)
  have hcb : (nI b).toNatClampNeg = b := nI_clamp (by omega)
  have hib : vp_in (nI b) 96 := vp_in_nI hb (by omega)
  refine ⟨hib, hib, vp_in_nI hs (by omega), ?_⟩
  rw [hcs, hcb, h4, h3, hF, nI_add, nI_leI hfn hF2]
  exact ⟨H0, fun z => H1 (by omega)⟩
theorem wx_isSafe {post : Int32 → Prop} {s b fn sc sn SF SE : Nat} (hs : s < 8) (hb : b < 96) (h4 : a_firstNumber b = nI fn) (h3 : a_sampleCount b = nI sc) (hsn : f_safeCount = nI sn) (hsn8 : sn ≤ 8) (hSF : s < sn → a_safeFirst s = nI SF ∧ a_safeEnd s = nI SE ∧ SF < 2 ^ 31 ∧ SE < 2 ^ 31) (hfn : fn + sc < 2 ^ 31)
    (H1 : (s < sn ∧ SF < fn + sc ∧ fn < SE) → post 1) (H0 : ¬ (s < sn ∧ SF < fn + sc ∧ fn < SE) → post 0) : wpX_isSafe post (f_seriesCount, f_safeCount, f_arenaEnd, f_position, f_foundCount, f_foundSum, f_foundLeast, f_foundMost, f_foundGrowth, f_before, f_hasBefore, f_levelNow, a_labelsOf, a_first, a_end, a_safeFirst, a_safeEnd, a_lastTime, a_safeLast, a_having, a_blockCount, a_startBit, a_bitCount, a_sampleCount, a_firstNumber, a_fromTime, a_toTime, a_fromValue, a_toValue, a_total, a_smallest, a_greatest, a_grown, a_bits, a_lastStep, a_times, a_values) (nI s) (nI b) := by
  have hcs : (nI s).toNatClampNeg = s := nI_clamp (by omega)
  have hcb : (nI b).toNatClampNeg = b := nI_clamp (by omega)
  have hib : vp_in (nI b) 96 := vp_in_nI hb (by omega)
  have his : vp_in (nI s) 8 := vp_in_nI hs (by omega)
  rcases Nat.lt_or_ge s sn with z | z
  · obtain ⟨g1, g2, g3, g4⟩ := hSF z
    refine br_f (by rw [hsn]; exact nI_ge z (by omega)) ⟨hib, hib, his, ?_⟩
    rw [hcs, hcb, h4, h3, g1, g2, nI_add, nI_leI hfn g3, nI_leI g4 (by omega)]
    exact ⟨fun y => H0 (by omega), fun y => ⟨hib, his, fun x => H0 (by omega), fun x => H1 (by omega)⟩⟩
  · exact br_t (by rw [hsn]; exact nI_le z (by omega)) (H0 (by omega))
end
def ls_use (F SF SE : Nat) (sf : Bool) (a : bk_T) : Bool := decide (F < a.2.2 + a.2.1) || (sf && (decide (SF < a.2.2 + a.2.1) && decide (a.2.2 < SE)))
theorem ro_mv {a_startBit a_bitCount a_sampleCount a_firstNumber a_fromTime a_toTime a_fromValue a_toValue a_total a_smallest a_greatest a_grown : Nat → Int32} (i j q : Nat) : ro_at (upd a_startBit j (a_startBit i)) (upd a_bitCount j (a_bitCount i)) (upd a_sampleCount j (a_sampleCount i)) (upd a_firstNumber j (a_firstNumber i)) (upd a_fromTime j (a_fromTime i)) (upd a_toTime j (a_toTime i)) (upd a_fromValue j (a_fromValue i)) (upd a_toValue j (a_toValue i)) (upd a_total j (a_total i)) (upd a_smallest j (a_smallest i)) (upd a_greatest j (a_greatest i)) (upd a_grown j (a_grown i)) q = if q = j then ro_at a_startBit a_bitCount a_sampleCount a_firstNumber a_fromTime a_toTime a_fromValue a_toValue a_total a_smallest a_greatest a_grown i else ro_at a_startBit a_bitCount a_sampleCount a_firstNumber a_fromTime a_toTime a_fromValue a_toValue a_total a_smallest a_greatest a_grown q := by
  unfold ro_at
  by_cases e : q = j
  · subst e
    rw [if_pos rfl]
    simp only [pk_us]
  · rw [if_neg e]
    simp only [pk_un e]
theorem wx_drop_l (f_seriesCount f_safeCount f_arenaEnd f_position f_foundCount f_foundSum f_foundLeast f_foundMost f_foundGrowth f_before f_hasBefore f_levelNow : Int32) (a_labelsOf a_first a_end a_safeFirst a_safeEnd a_lastTime a_safeLast a_having a_blockCount a_startBit a_bitCount a_sampleCount a_firstNumber a_fromTime a_toTime a_fromValue a_toValue a_total a_smallest a_greatest a_grown a_bits a_lastStep a_times a_values : Nat → Int32) {s F sn SF SE E : Nat} {T V : Nat → Int32} {P : Nat → Nat} {nb : Nat} (hs : s < 8) (hnb : nb ≤ 12) (hbc : a_blockCount s = nI nb) (hF : a_first s = nI F) (hF2 : F < 2 ^ 31) (hsn : f_safeCount = nI sn) (hsn8 : sn ≤ 8) (hSF : s < sn → a_safeFirst s = nI SF ∧ a_safeEnd s = nI SE ∧ SF < 2 ^ 31 ∧ SE < 2 ^ 31) (hh : ci_hist T V E) :
    ∀ (r k : List bk_T) (i : Nat) (a_startBit0 a_bitCount0 a_sampleCount0 a_firstNumber0 a_fromTime0 a_toTime0 a_fromValue0 a_toValue0 a_total0 a_smallest0 a_greatest0 a_grown0 : Nat → Int32), k.length ≤ i → i + r.length = nb → (∀ (j : Nat) (a : bk_T), k[j]? = some a → ro_at a_startBit0 a_bitCount0 a_sampleCount0 a_firstNumber0 a_fromTime0 a_toTime0 a_fromValue0 a_toValue0 a_total0 a_smallest0 a_greatest0 a_grown0 (12 * s + j) = ro_of (P a.2.2) a T V) → (∀ (j : Nat) (a : bk_T), r[j]? = some a → ro_at a_startBit0 a_bitCount0 a_sampleCount0 a_firstNumber0 a_fromTime0 a_toTime0 a_fromValue0 a_toValue0 a_total0 a_smallest0 a_greatest0 a_grown0 (12 * s + (i + j)) = ro_of (P a.2.2) a T V) →
      (∀ a, a ∈ r → 1 ≤ a.2.1 ∧ a.2.1 ≤ 8 ∧ a.2.2 + a.2.1 ≤ E ∧ a.1 ≤ 210) →
      ∃ (a_startBit1 a_bitCount1 a_sampleCount1 a_firstNumber1 a_fromTime1 a_toTime1 a_fromValue1 a_toValue1 a_total1 a_smallest1 a_greatest1 a_grown1 : Nat → Int32), (∀ (j : Nat) (a : bk_T), (k ++ r.filter (ls_use F SF SE (decide (s < sn))))[j]? = some a → ro_at a_startBit1 a_bitCount1 a_sampleCount1 a_firstNumber1 a_fromTime1 a_toTime1 a_fromValue1 a_toValue1 a_total1 a_smallest1 a_greatest1 a_grown1 (12 * s + j) = ro_of (P a.2.2) a T V) ∧ (∀ q, q < 12 * s ∨ 12 * s + 12 ≤ q → ro_at a_startBit1 a_bitCount1 a_sampleCount1 a_firstNumber1 a_fromTime1 a_toTime1 a_fromValue1 a_toValue1 a_total1 a_smallest1 a_greatest1 a_grown1 q = ro_at a_startBit0 a_bitCount0 a_sampleCount0 a_firstNumber0 a_fromTime0 a_toTime0 a_fromValue0 a_toValue0 a_total0 a_smallest0 a_greatest0 a_grown0 q) ∧
        ∀ post : SX → Prop, post (f_seriesCount, f_safeCount, f_arenaEnd, f_position, f_foundCount, f_foundSum, f_foundLeast, f_foundMost, f_foundGrowth, f_before, f_hasBefore, f_levelNow, a_labelsOf, a_first, a_end, a_safeFirst, a_safeEnd, a_lastTime, a_safeLast, a_having, upd a_blockCount s (nI (k ++ r.filter (ls_use F SF SE (decide (s < sn)))).length), a_startBit1, a_bitCount1, a_sampleCount1, a_firstNumber1, a_fromTime1, a_toTime1, a_fromValue1, a_toValue1, a_total1, a_smallest1, a_greatest1, a_grown1, a_bits, a_lastStep, a_times, a_values) → wX_dropUseless_10 post (nI s) (r.length + 1) (nI (12 * s + k.length)) (nI (12 * s + i)) f_seriesCount f_safeCount f_arenaEnd f_position f_foundCount f_foundSum f_foundLeast f_foundMost f_foundGrowth f_before f_hasBefore f_levelNow a_labelsOf a_first a_end a_safeFirst a_safeEnd a_lastTime a_safeLast a_having a_blockCount a_startBit0 a_bitCount0 a_sampleCount0 a_firstNumber0 a_fromTime0 a_toTime0 a_fromValue0 a_toValue0 a_total0 a_smallest0 a_greatest0 a_grown0 a_bits a_lastStep a_times a_values := by
  have hcs : (nI s).toNatClampNeg = s := nI_clamp (by omega)
  have his : vp_in (nI s) 8 := vp_in_nI hs (by omega)
  have hE := ci_hist_E hh
  have he : 12 * nI s + a_blockCount (nI s).toNatClampNeg = nI (12 * s + nb) := by rw [hcs, hbc, ba_12]
  intro r
  induction r with
  | nil =>
    intro k i a_startBit0 a_bitCount0 a_sampleCount0 a_firstNumber0 a_fromTime0 a_toTime0 a_fromValue0 a_toValue0 a_total0 a_smallest0 a_greatest0 a_grown0 hki hi hk hr hfit
    refine ⟨a_startBit0, a_bitCount0, a_sampleCount0, a_firstNumber0, a_fromTime0, a_toTime0, a_fromValue0, a_toValue0, a_total0, a_smallest0, a_greatest0, a_grown0, ?_, fun _ _ => rfl, fun post hp => ⟨his, br_t ?_ ⟨his, nm_r (e' := upd a_blockCount s (nI k.length)) ?_ ?_⟩⟩⟩
    · rw [List.filter_nil, List.append_nil]; exact hk
    · rw [he]
      rw [List.length_nil] at hi
      exact nI_le (by omega) (by omega)
    · rw [List.length_nil] at hi
      rw [hcs, show 12 * nI s = nI (12 * s) from by rw [show (12 : Int32) = nI 12 from rfl, pk_mul], pk_sub (by omega), Nat.add_sub_cancel_left, ba_bn (by omega)]
    · rw [List.filter_nil, List.append_nil] at hp; exact hp
  | cons a r ih =>
    intro k i a_startBit0 a_bitCount0 a_sampleCount0 a_firstNumber0 a_fromTime0 a_toTime0 a_fromValue0 a_toValue0 a_total0 a_smallest0 a_greatest0 a_grown0 hki hi hk hr hfit
    rw [List.length_cons] at hi
    have ra := hr 0 a rfl
    rw [Nat.add_zero] at ra
    have fa := hfit a (List.mem_cons_self ..)
    have rfa := ro_fit ra hh ⟨fa.1, fa.2.1, fa.2.2.1⟩ fa.2.2.2
    obtain ⟨_, _, r3, r4, _⟩ := ro_e ra
    have hcond : ∀ {Q0 Q1 : Prop}, (ls_use F SF SE (decide (s < sn)) a = true → Q1) → (ls_use F SF SE (decide (s < sn)) a = false → Q0) → (F < a.2.2 + a.2.1 → Q1) ∧ (a.2.2 + a.2.1 ≤ F → (s < sn ∧ SF < a.2.2 + a.2.1 ∧ a.2.2 < SE) → Q1) ∧ (a.2.2 + a.2.1 ≤ F → ¬ (s < sn ∧ SF < a.2.2 + a.2.1 ∧ a.2.2 < SE) → Q0) := by
      intro Q0 Q1 h1 h0
      refine ⟨fun z => h1 ?_, fun z y => h1 ?_, fun z y => h0 ?_⟩
      · unfold ls_use; rw [decide_eq_true z, Bool.true_or]
      · unfold ls_use; rw [decide_eq_true y.1, decide_eq_true y.2.1, decide_eq_true y.2.2, Bool.and_self, Bool.and_self, Bool.or_true]
      · unfold ls_use
        rw [decide_eq_false (by omega), Bool.false_or]
        by_cases y1 : s < sn
        · by_cases y2 : SF < a.2.2 + a.2.1
          · rw [decide_eq_false (p := a.2.2 < SE) (by omega), Bool.and_false, Bool.and_false]
          · rw [decide_eq_false y2, Bool.false_and, Bool.and_false]
        · rw [decide_eq_false y1, Bool.false_and]
    have hlt : ¬ 12 * nI s + a_blockCount (nI s).toNatClampNeg ≤ nI (12 * s + i) := by rw [he]; exact nI_ge (by omega) (by omega)
    cases hu : ls_use F SF SE (decide (s < sn)) a with
    | false =>
      rw [List.filter_cons_of_neg (by rw [hu]; decide)]
      obtain ⟨a_startBit1, a_bitCount1, a_sampleCount1, a_firstNumber1, a_fromTime1, a_toTime1, a_fromValue1, a_toValue1, a_total1, a_smallest1, a_greatest1, a_grown1, q1, q2, W⟩ := ih k (i + 1) a_startBit0 a_bitCount0 a_sampleCount0 a_firstNumber0 a_fromTime0 a_toTime0 a_fromValue0 a_toValue0 a_total0 a_smallest0 a_greatest0 a_grown0 (by omega) (by omega) hk (fun j a' hj => by
        have := hr (j + 1) a' (by simpa using hj)
        rw [show i + 1 + j = i + (j + 1) from by omega]; exact this) (fun a' ha' => hfit a' (List.mem_cons_of_mem _ ha'))
      refine ⟨a_startBit1, a_bitCount1, a_sampleCount1, a_firstNumber1, a_fromTime1, a_toTime1, a_fromValue1, a_toValue1, a_total1, a_smallest1, a_greatest1, a_grown1, q1, q2, fun post hp => ⟨his, br_f hlt (wx_isPresent hs (by omega) r4 r3 hF (by omega) hF2 (fun z => ?_) (fun z => br_t rfl (wx_isSafe hs (by omega) r4 r3 hsn hsn8 hSF (by omega) (fun y => ?_) (fun y => br_t rfl (nm_r (nI_1 _) (W post hp))))))⟩⟩
      · exact absurd ((hcond (Q0 := True) (Q1 := False) (fun h => by rw [hu] at h; cases h) (fun _ => trivial)).1 z) id
      · exact absurd ((hcond (Q0 := True) (Q1 := False) (fun h => by rw [hu] at h; cases h) (fun _ => trivial)).2.1 z y) id
    | true =>
      rw [List.filter_cons_of_pos hu]
      obtain ⟨a_startBit1, a_bitCount1, a_sampleCount1, a_firstNumber1, a_fromTime1, a_toTime1, a_fromValue1, a_toValue1, a_total1, a_smallest1, a_greatest1, a_grown1, q1, q2, W⟩ := ih (k ++ [a]) (i + 1) (upd a_startBit0 (12 * s + k.length) (a_startBit0 (12 * s + i))) (upd a_bitCount0 (12 * s + k.length) (a_bitCount0 (12 * s + i))) (upd a_sampleCount0 (12 * s + k.length) (a_sampleCount0 (12 * s + i))) (upd a_firstNumber0 (12 * s + k.length) (a_firstNumber0 (12 * s + i))) (upd a_fromTime0 (12 * s + k.length) (a_fromTime0 (12 * s + i))) (upd a_toTime0 (12 * s + k.length) (a_toTime0 (12 * s + i))) (upd a_fromValue0 (12 * s + k.length) (a_fromValue0 (12 * s + i))) (upd a_toValue0 (12 * s + k.length) (a_toValue0 (12 * s + i))) (upd a_total0 (12 * s + k.length) (a_total0 (12 * s + i))) (upd a_smallest0 (12 * s + k.length) (a_smallest0 (12 * s + i))) (upd a_greatest0 (12 * s + k.length) (a_greatest0 (12 * s + i))) (upd a_grown0 (12 * s + k.length) (a_grown0 (12 * s + i))) (by rw [List.length_append]; show k.length + 1 ≤ i + 1; omega) (by omega) (fun j a' hj => by
          rw [ro_mv]
          rcases ls_snoc hj with ⟨z, hj2⟩ | ⟨z, hj2⟩
          · rw [if_neg (by omega)]; exact hk j a' hj2
          · rw [if_pos (by omega), hj2]; exact ra) (fun j a' hj => by
          rw [ro_mv, if_neg (by omega)]
          have := hr (j + 1) a' (by simpa using hj)
          rw [show i + 1 + j = i + (j + 1) from by omega]; exact this) (fun a' ha' => hfit a' (List.mem_cons_of_mem _ ha'))
      rw [List.append_assoc] at q1
      refine ⟨a_startBit1, a_bitCount1, a_sampleCount1, a_firstNumber1, a_fromTime1, a_toTime1, a_fromValue1, a_toValue1, a_total1, a_smallest1, a_greatest1, a_grown1, q1, fun q hq => by rw [q2 q hq, ro_mv, if_neg (by omega)], fun post hp => ⟨his, br_f hlt ?_⟩⟩
      have key : wX_dropUseless_46 post (wX_dropUseless_10 post (nI s) (r.length + 1)) (nI s) (nI (12 * s + k.length)) (nI (12 * s + i)) f_seriesCount f_safeCount f_arenaEnd f_position f_foundCount f_foundSum f_foundLeast f_foundMost f_foundGrowth f_before f_hasBefore f_levelNow a_labelsOf a_first a_end a_safeFirst a_safeEnd a_lastTime a_safeLast a_having a_blockCount a_startBit0 a_bitCount0 a_sampleCount0 a_firstNumber0 a_fromTime0 a_toTime0 a_fromValue0 a_toValue0 a_total0 a_smallest0 a_greatest0 a_grown0 a_bits a_lastStep a_times a_values := by
        refine wx_moveBlock (by omega) (by omega) rfa (nm_r (nI_1 _) (nm_r (nI_1 _) ?_))
        have W' := W post (by rw [List.append_assoc]; exact hp)
        rw [List.length_append] at W'
        exact W'
      exact wx_isPresent hs (by omega) r4 r3 hF (by omega) hF2 (fun z => br_f (by decide) key) (fun z => br_t rfl (wx_isSafe hs (by omega) r4 r3 hsn hsn8 hSF (by omega) (fun y => br_f (by decide) key) (fun y => absurd ((hcond (Q0 := False) (Q1 := True) (fun _ => trivial) (fun h => by rw [hu] at h; cases h)).2.2 z y) id)))
theorem cx_drop (f_seriesCount f_safeCount f_arenaEnd f_position f_foundCount f_foundSum f_foundLeast f_foundMost f_foundGrowth f_before f_hasBefore f_levelNow : Int32) (a_labelsOf a_first a_end a_safeFirst a_safeEnd a_lastTime a_safeLast a_having a_blockCount a_startBit a_bitCount a_sampleCount a_firstNumber a_fromTime a_toTime a_fromValue a_toValue a_total a_smallest a_greatest a_grown a_bits a_lastStep a_times a_values : Nat → Int32) {cn : Nat} {T V : Nat → Nat → Int32} {L : Nat → List bk_T} {P : Nat → Nat → Nat} {E : Nat → Nat} {ae s F sn SF SE : Nat} (I : ci_ok cn T V L P E ae a_blockCount a_startBit a_bitCount a_sampleCount a_firstNumber a_fromTime a_toTime a_fromValue a_toValue a_total a_smallest a_greatest a_grown a_bits a_lastStep) (hs : s < cn) (hF : a_first s = nI F) (hF2 : F < 2 ^ 31) (hsn : f_safeCount = nI sn) (hsn8 : sn ≤ 8) (hSF : s < sn → a_safeFirst s = nI SF ∧ a_safeEnd s = nI SE ∧ SF < 2 ^ 31 ∧ SE < 2 ^ 31) :
    ∃ (a_blockCount1 a_startBit1 a_bitCount1 a_sampleCount1 a_firstNumber1 a_fromTime1 a_toTime1 a_fromValue1 a_toValue1 a_total1 a_smallest1 a_greatest1 a_grown1 : Nat → Int32), ci_ok cn T V (up_f L s ((L s).filter (ls_use F SF SE (decide (s < sn))))) P E ae a_blockCount1 a_startBit1 a_bitCount1 a_sampleCount1 a_firstNumber1 a_fromTime1 a_toTime1 a_fromValue1 a_toValue1 a_total1 a_smallest1 a_greatest1 a_grown1 a_bits a_lastStep ∧
      ∀ post : SX → Prop, post (f_seriesCount, f_safeCount, f_arenaEnd, f_position, f_foundCount, f_foundSum, f_foundLeast, f_foundMost, f_foundGrowth, f_before, f_hasBefore, f_levelNow, a_labelsOf, a_first, a_end, a_safeFirst, a_safeEnd, a_lastTime, a_safeLast, a_having, a_blockCount1, a_startBit1, a_bitCount1, a_sampleCount1, a_firstNumber1, a_fromTime1, a_toTime1, a_fromValue1, a_toValue1, a_total1, a_smallest1, a_greatest1, a_grown1, a_bits, a_lastStep, a_times, a_values) → wpX_dropUseless post (f_seriesCount, f_safeCount, f_arenaEnd, f_position, f_foundCount, f_foundSum, f_foundLeast, f_foundMost, f_foundGrowth, f_before, f_hasBefore, f_levelNow, a_labelsOf, a_first, a_end, a_safeFirst, a_safeEnd, a_lastTime, a_safeLast, a_having, a_blockCount, a_startBit, a_bitCount, a_sampleCount, a_firstNumber, a_fromTime, a_toTime, a_fromValue, a_toValue, a_total, a_smallest, a_greatest, a_grown, a_bits, a_lastStep, a_times, a_values) (nI s) := by
  obtain ⟨hcn, hae, hrow, hse, henc, hdis⟩ := I
  obtain ⟨hhs, hl1, hl2, hl3⟩ := hse s hs
  have e12 : 12 * nI s = nI (12 * s + 0) := by rw [show (12 : Int32) = nI 12 from rfl, pk_mul]; rfl
  obtain ⟨a_startBit1, a_bitCount1, a_sampleCount1, a_firstNumber1, a_fromTime1, a_toTime1, a_fromValue1, a_toValue1, a_total1, a_smallest1, a_greatest1, a_grown1, q1, q2, W⟩ := wx_drop_l f_seriesCount f_safeCount f_arenaEnd f_position f_foundCount f_foundSum f_foundLeast f_foundMost f_foundGrowth f_before f_hasBefore f_levelNow a_labelsOf a_first a_end a_safeFirst a_safeEnd a_lastTime a_safeLast a_having a_blockCount a_startBit a_bitCount a_sampleCount a_firstNumber a_fromTime a_toTime a_fromValue a_toValue a_total a_smallest a_greatest a_grown a_bits a_lastStep a_times a_values (P := P s) (by omega) hl1 (hrow s hs).1 hF hF2 hsn hsn8 hSF hhs (L s) [] 0 a_startBit a_bitCount a_sampleCount a_firstNumber a_fromTime a_toTime a_fromValue a_toValue a_total a_smallest a_greatest a_grown (Nat.le_refl 0) (by omega) (fun j a hj => by simp at hj) (fun j a hj => by rw [Nat.zero_add]; exact (hrow s hs).2 j a hj) (fun a ha => by
    have h1 := hl3 a ha
    have h2 := en_ok_bc (henc s hs a ha).1
    exact ⟨h1.1, h1.2.1, h1.2.2.1, by omega⟩)
  have hsub : ∀ s', s' < cn → ∀ a, a ∈ up_f L s ((L s).filter (ls_use F SF SE (decide (s < sn)))) s' → a ∈ L s' := fun s' _ a ha => by
    by_cases e : s' = s
    · subst e; rw [up_s] at ha; exact (List.mem_filter.mp ha).1
    · rw [up_o e] at ha; exact ha
  refine ⟨upd a_blockCount s (nI ((L s).filter (ls_use F SF SE (decide (s < sn)))).length), a_startBit1, a_bitCount1, a_sampleCount1, a_firstNumber1, a_fromTime1, a_toTime1, a_fromValue1, a_toValue1, a_total1, a_smallest1, a_greatest1, a_grown1, ⟨hcn, hae, fun s' hs' => ?_, fun s' hs' => ?_, fun s' hs' a ha => henc s' hs' a (hsub s' hs' a ha), fun s1 h1 a1 ha1 s2 h2 a2 ha2 => hdis s1 h1 a1 (hsub s1 h1 a1 ha1) s2 h2 a2 (hsub s2 h2 a2 ha2)⟩, fun post hp => nm_r e12 (nm_r e12 ⟨(L s).length + 1, W post hp⟩)⟩
  · by_cases e : s' = s
    · subst e
      rw [up_s, pk_us]
      exact ⟨rfl, q1⟩
    · rw [up_o e, pk_un e]
      refine ⟨(hrow s' hs').1, fun k a hk => ?_⟩
      have := (ls_mem hk).2
      have := (hse s' hs').2.1
      rw [q2 _ (by omega)]
      exact (hrow s' hs').2 k a hk
  · by_cases e : s' = s
    · subst e
      rw [up_s]
      exact ⟨hhs, Nat.le_trans (List.length_filter_le _ _) hl1, hl2.filter _, fun a ha => hl3 a ((List.mem_filter.mp ha).1)⟩
    · rw [up_o e]; exact hse s' hs'
end
section
/-! firstFrom, cutBack -/
theorem wx_ff115 {f_seriesCount f_safeCount f_arenaEnd f_position f_foundCount f_foundSum f_foundLeast f_foundMost f_foundGrowth f_before f_hasBefore f_levelNow : Int32} {a_labelsOf a_first a_end a_safeFirst a_safeEnd a_lastTime a_safeLast a_having a_blockCount a_startBit a_bitCount a_sampleCount a_firstNumber a_fromTime a_toTime a_fromValue a_toValue a_total a_smallest a_greatest a_grown a_bits a_lastStep a_times a_values : Nat → Int32} {post : Int32 → SX → Prop} {t : Int32} {num b fn K : Nat} (hb : b < 96) (hK : K < 8) (hfn : a_firstNumber b = nI fn) (hb2 : fn + K < 2 ^ 31) (hn2 : num < 2 ^ 31) (h1 : t ≤ a_times K) (h0 : ∀ j, j < K → ¬ t ≤ a_times j)
    (H : post (nI (if num ≤ fn + K then fn + K else num)) (f_seriesCount, f_safeCount, f_arenaEnd, f_position, f_foundCount, f_foundSum, f_foundLeast, f_foundMost, f_foundGrowth, f_before, f_hasBefore, f_levelNow, a_labelsOf, a_first, a_end, a_safeFirst, a_safeEnd, a_lastTime, a_safeLast, a_having, a_blockCount, a_startBit, a_bitCount, a_sampleCount, a_firstNumber, a_fromTime, a_toTime, a_fromValue, a_toValue, a_total, a_smallest, a_greatest, a_grown, a_bits, a_lastStep, a_times, a_values)) : ∀ d k : Nat, k + d = K → wX_firstFrom_115 post t (nI num) (nI b) f_seriesCount f_safeCount f_arenaEnd f_position f_foundCount f_foundSum f_foundLeast f_foundMost f_foundGrowth f_before f_hasBefore f_levelNow a_labelsOf a_first a_end a_safeFirst a_safeEnd a_lastTime a_safeLast a_having a_blockCount a_startBit a_bitCount a_sampleCount a_firstNumber a_fromTime a_toTime a_fromValue a_toValue a_total a_smallest a_greatest a_grown a_bits a_lastStep a_times a_values (d + 1) (nI k) := by
  have hcb : (nI b).toNatClampNeg = b := nI_clamp (by omega)
  have hib : vp_in (nI b) 96 := vp_in_nI hb (by omega)
  intro d
  induction d with
  | zero =>
    intro k hk
    have e : k = K := by omega
    subst e
    have hck : (nI k).toNatClampNeg = k := nI_clamp (by omega)
    refine ⟨vp_in_nI hK (by omega), br_t (by rw [hck]; exact h1) ⟨hib, ?_⟩⟩
    rw [hcb, hfn, nI_add, nI_leI hn2 hb2]
    refine ⟨fun z => ⟨hib, ?_⟩, fun z => ?_⟩
    · rw [if_pos z] at H; exact H
    · rw [if_neg z] at H; exact H
  | succ d ih =>
    intro k hk
    have hck : (nI k).toNatClampNeg = k := nI_clamp (by omega)
    exact ⟨vp_in_nI (by omega) (by omega), br_f (by rw [hck]; exact h0 k (by omega)) (nm_r (nI_1 k) (ih (k + 1) (by omega)))⟩
theorem cx_first_l (f_seriesCount f_safeCount f_arenaEnd f_position f_foundCount f_foundSum f_foundLeast f_foundMost f_foundGrowth f_before f_hasBefore f_levelNow : Int32) (a_labelsOf a_first a_end a_safeFirst a_safeEnd a_lastTime a_safeLast a_having a_blockCount a_startBit a_bitCount a_sampleCount a_firstNumber a_fromTime a_toTime a_fromValue a_toValue a_total a_smallest a_greatest a_grown a_bits a_lastStep a_times a_values : Nat → Int32) {cn : Nat} {T V : Nat → Nat → Int32} {L : Nat → List bk_T} {P : Nat → Nat → Nat} {E : Nat → Nat} {ae s F : Nat} (I : ci_ok cn T V L P E ae a_blockCount a_startBit a_bitCount a_sampleCount a_firstNumber a_fromTime a_toTime a_fromValue a_toValue a_total a_smallest a_greatest a_grown a_bits a_lastStep) (hs : s < cn) (hF : a_first s = nI F) (t : Int32) :
    ∀ (r pre : List bk_T) (num : Nat), L s = pre ++ r → cv_inv F (E s) num r → (∀ n, F ≤ n → n < num → (T s n).toInt < t.toInt) →
      ∃ (m : Nat) (p' : Int32) (ts vs : Nat → Int32), F ≤ m ∧ m ≤ E s ∧ (∀ n, F ≤ n → n < m → (T s n).toInt < t.toInt) ∧ (∀ n, m ≤ n → n < E s → t.toInt ≤ (T s n).toInt) ∧
        ∀ post : Int32 → SX → Prop, post (nI m) (f_seriesCount, f_safeCount, f_arenaEnd, p', f_foundCount, f_foundSum, f_foundLeast, f_foundMost, f_foundGrowth, f_before, f_hasBefore, f_levelNow, a_labelsOf, a_first, a_end, a_safeFirst, a_safeEnd, a_lastTime, a_safeLast, a_having, a_blockCount, a_startBit, a_bitCount, a_sampleCount, a_firstNumber, a_fromTime, a_toTime, a_fromValue, a_toValue, a_total, a_smallest, a_greatest, a_grown, a_bits, a_lastStep, ts, vs) → wX_firstFrom_13 post (nI s) t f_seriesCount f_safeCount f_arenaEnd f_position f_foundCount f_foundSum f_foundLeast f_foundMost f_foundGrowth f_before f_hasBefore f_levelNow a_labelsOf a_first a_end a_safeFirst a_safeEnd a_lastTime a_safeLast a_having a_blockCount a_startBit a_bitCount a_sampleCount a_firstNumber a_fromTime a_toTime a_fromValue a_toValue a_total a_smallest a_greatest a_grown a_bits a_lastStep a_times a_values (r.length + 1) (nI num) (nI (12 * s + pre.length)) := by
  have I0 := I
  obtain ⟨hcn, hae, hrow, hse, henc, hdis⟩ := I
  obtain ⟨hhs, hl1, hl2, hl3⟩ := hse s hs
  have hE := ci_hist_E hhs
  have hcs : (nI s).toNatClampNeg = s := nI_clamp (by omega)
  have his : vp_in (nI s) 8 := vp_in_nI (by omega) (by omega)
  have he : 12 * nI s + a_blockCount (nI s).toNatClampNeg = nI (12 * s + (L s).length) := by rw [hcs, (hrow s hs).1, ba_12]
  intro r
  induction r with
  | nil =>
    intro pre num hL hv hlt
    have e := cv_nil hv
    subst e
    refine ⟨E s, f_position, a_times, a_values, hv.1, Nat.le_refl _, hlt, fun n h1 h2 => by omega, fun post hp => ⟨his, br_t ?_ hp⟩⟩
    rw [he, hL, List.append_nil]; exact Int32.le_refl _
  | cons a r ih =>
    intro pre num hL hv hlt
    have hk : (L s)[pre.length]? = some a := by rw [hL]; exact ls_mid _ _ _
    have hm := (ls_mem hk).1
    have hkl := (ls_mem hk).2
    have hb := hl3 a hm
    obtain ⟨r1, r2, r3, r4, r5, r6, _⟩ := ro_e ((hrow s hs).2 _ a hk)
    have hcb : (nI (12 * s + pre.length)).toNatClampNeg = 12 * s + pre.length := nI_clamp (by omega)
    have hib : vp_in (nI (12 * s + pre.length)) 96 := vp_in_nI (by omega) (by omega)
    have hnext : ∀ num' : Nat, cv_inv F (E s) num' r → (∀ n, F ≤ n → n < num' → (T s n).toInt < t.toInt) → ∃ (m : Nat) (p' : Int32) (ts vs : Nat → Int32), F ≤ m ∧ m ≤ E s ∧ (∀ n, F ≤ n → n < m → (T s n).toInt < t.toInt) ∧ (∀ n, m ≤ n → n < E s → t.toInt ≤ (T s n).toInt) ∧
        ∀ post : Int32 → SX → Prop, post (nI m) (f_seriesCount, f_safeCount, f_arenaEnd, p', f_foundCount, f_foundSum, f_foundLeast, f_foundMost, f_foundGrowth, f_before, f_hasBefore, f_levelNow, a_labelsOf, a_first, a_end, a_safeFirst, a_safeEnd, a_lastTime, a_safeLast, a_having, a_blockCount, a_startBit, a_bitCount, a_sampleCount, a_firstNumber, a_fromTime, a_toTime, a_fromValue, a_toValue, a_total, a_smallest, a_greatest, a_grown, a_bits, a_lastStep, ts, vs) → wX_firstFrom_13 post (nI s) t f_seriesCount f_safeCount f_arenaEnd f_position f_foundCount f_foundSum f_foundLeast f_foundMost f_foundGrowth f_before f_hasBefore f_levelNow a_labelsOf a_first a_end a_safeFirst a_safeEnd a_lastTime a_safeLast a_having a_blockCount a_startBit a_bitCount a_sampleCount a_firstNumber a_fromTime a_toTime a_fromValue a_toValue a_total a_smallest a_greatest a_grown a_bits a_lastStep a_times a_values (r.length + 1) (nI num') (nI (12 * s + pre.length + 1)) := fun num' h1 h2 => by
      have := ih (pre ++ [a]) num' (by rw [hL, List.append_assoc]; rfl) h1 h2
      rw [List.length_append] at this
      exact this
    have hpw : ∀ b, b ∈ r → ci_lt a b := by
      rw [hL] at hl2
      exact (List.pairwise_cons.mp (List.pairwise_append.mp hl2).2.1).1
    have hblt : ¬ 12 * nI s + a_blockCount (nI s).toNatClampNeg ≤ nI (12 * s + pre.length) := by rw [he]; exact nI_ge (by omega) (by omega)
    have hvv := hv.2.1
    by_cases hp : F < a.2.2 + a.2.1
    · obtain ⟨⟨v1, v2, v3⟩, v4⟩ := cv_take hv hp hb.2.2.1 hb.1 hb.2.1 hpw
      have pres : ∀ {post : Int32 → Prop}, post 1 → wpX_isPresent post (f_seriesCount, f_safeCount, f_arenaEnd, f_position, f_foundCount, f_foundSum, f_foundLeast, f_foundMost, f_foundGrowth, f_before, f_hasBefore, f_levelNow, a_labelsOf, a_first, a_end, a_safeFirst, a_safeEnd, a_lastTime, a_safeLast, a_having, a_blockCount, a_startBit, a_bitCount, a_sampleCount, a_firstNumber, a_fromTime, a_toTime, a_fromValue, a_toValue, a_total, a_smallest, a_greatest, a_grown, a_bits, a_lastStep, a_times, a_values) (nI s) (nI (12 * s + pre.length)) := fun h => wx_isPresent (by omega) (by omega) r4 r3 hF (by omega) (by have := hv.1; omega) (fun _ => h) (fun z => by omega)
      by_cases ht : t ≤ a_toTime (12 * s + pre.length)
      · have ht2 : t.toInt ≤ (T s (a.2.2 + (a.2.1 - 1))).toInt := by rw [r6] at ht; exact ba_le.mp ht
        by_cases hf : a_fromTime (12 * s + pre.length) < t
        · -- it is within this block
          obtain ⟨p', ts, vs, hts, W⟩ := cx_unpack f_seriesCount f_safeCount f_arenaEnd f_position f_foundCount f_foundSum f_foundLeast f_foundMost f_foundGrowth f_before f_hasBefore f_levelNow a_labelsOf a_first a_end a_safeFirst a_safeEnd a_lastTime a_safeLast a_having a_blockCount a_startBit a_bitCount a_sampleCount a_firstNumber a_fromTime a_toTime a_fromValue a_toValue a_total a_smallest a_greatest a_grown a_bits a_lastStep a_times a_values I0 hs hk
          obtain ⟨K, ⟨hK1, hK2⟩, hK3⟩ := pk_least (fun j => j < a.2.1 ∧ t ≤ ts j) ⟨a.2.1 - 1, by omega, by rw [(hts _ (by omega)).1, ← r6]; exact ht⟩
          have hK4 : ∀ j, j < K → ¬ t ≤ ts j := fun j hj h => hK3 j hj ⟨by omega, h⟩
          have hK5 : ∀ j, j < K → (T s (a.2.2 + j)).toInt < t.toInt := fun j hj => by
            have h1 := hK4 j hj
            rw [(hts j (by omega)).1, ba_le] at h1
            omega
          have hK6 : t.toInt ≤ (T s (a.2.2 + K)).toInt := by rw [(hts K hK1).1] at hK2; exact ba_le.mp hK2
          refine ⟨if num ≤ a.2.2 + K then a.2.2 + K else num, p', ts, vs, ?_, ?_, ?_, ?_, fun post hpost => ⟨his, br_f hblt (pres (br_f (by decide) ⟨hib, br_t (by rw [hcb]; exact ht) ⟨hib, br_t (by rw [hcb]; exact hf) (W _ ⟨K + 1, ?_⟩)⟩⟩))⟩⟩
          · have := hv.1
            split <;> omega
          · split <;> omega
          · intro n h1 h2
            by_cases z : num ≤ a.2.2 + K
            · rw [if_pos z] at h2
              rcases Nat.lt_or_ge n num with y | y
              · exact hlt n h1 y
              · have := hK5 (n - a.2.2) (by omega)
                rw [show a.2.2 + (n - a.2.2) = n from by omega] at this
                exact this
            · rw [if_neg z] at h2; exact hlt n h1 h2
          · intro n h1 h2
            have h3 : a.2.2 + K ≤ n := by
              by_cases z : num ≤ a.2.2 + K
              · rw [if_pos z] at h1; exact h1
              · rw [if_neg z] at h1; omega
            have := ci_hist_le hhs h3 h2
            omega
          · exact wx_ff115 (by omega) (by omega) r4 (by omega) (by omega) hK2 hK4 hpost K 0 (by omega)
        · -- the block begins behind
          have hf2 : t.toInt ≤ (T s a.2.2).toInt := by rw [r5, ba_lt] at hf; omega
          refine ⟨num, f_position, a_times, a_values, hv.1, hvv, hlt, fun n h1 h2 => ?_, fun post hpost => ⟨his, br_f hblt (pres (br_f (by decide) ⟨hib, br_t (by rw [hcb]; exact ht) ⟨hib, br_f (by rw [hcb]; exact hf) ⟨hib, ?_⟩⟩⟩))⟩⟩
          · have := ci_hist_le hhs (m := a.2.2) (n := n) (by omega) h2
            omega
          · rw [hcb, r4, nI_leI (by omega) (by omega)]
            refine ⟨fun z => ⟨hib, ?_⟩, fun z => hpost⟩
            have e : num = a.2.2 := by omega
            rw [← e]; exact hpost
      · have ht2 : (T s (a.2.2 + (a.2.1 - 1))).toInt < t.toInt := by rw [r6, ba_le] at ht; omega
        obtain ⟨m, p', ts, vs, m1, m2, m3, m4, W⟩ := hnext (a.2.2 + a.2.1) v4 (fun n h1 h2 => by
          have := ci_hist_le hhs (m := n) (n := a.2.2 + (a.2.1 - 1)) (by omega) (by omega)
          omega)
        refine ⟨m, p', ts, vs, m1, m2, m3, m4, fun post hpost => ⟨his, br_f hblt (pres (br_f (by decide) ⟨hib, br_f (by rw [hcb]; exact ht) ⟨hib, hib, nm_r (e' := nI (a.2.2 + a.2.1)) ?_ (nm_r (nI_1 _) (W post hpost))⟩⟩))⟩⟩
        rw [hcb, r4, r3, nI_add]
    · obtain ⟨v1, v2⟩ := cv_skip hv (by omega) hb.1
      obtain ⟨m, p', ts, vs, m1, m2, m3, m4, W⟩ := hnext num v2 hlt
      refine ⟨m, p', ts, vs, m1, m2, m3, m4, fun post hpost => ⟨his, br_f hblt (wx_isPresent (by omega) (by omega) r4 r3 hF (by omega) (by have := hv.1; omega) (fun z => absurd z hp) (fun _ => br_t rfl (nm_r (nI_1 _) (W post hpost))))⟩⟩
theorem cx_first (f_seriesCount f_safeCount f_arenaEnd f_position f_foundCount f_foundSum f_foundLeast f_foundMost f_foundGrowth f_before f_hasBefore f_levelNow : Int32) (a_labelsOf a_first a_end a_safeFirst a_safeEnd a_lastTime a_safeLast a_having a_blockCount a_startBit a_bitCount a_sampleCount a_firstNumber a_fromTime a_toTime a_fromValue a_toValue a_total a_smallest a_greatest a_grown a_bits a_lastStep a_times a_values : Nat → Int32) {cn : Nat} {T V : Nat → Nat → Int32} {L : Nat → List bk_T} {P : Nat → Nat → Nat} {E : Nat → Nat} {ae s F : Nat} (I : ci_ok cn T V L P E ae a_blockCount a_startBit a_bitCount a_sampleCount a_firstNumber a_fromTime a_toTime a_fromValue a_toValue a_total a_smallest a_greatest a_grown a_bits a_lastStep) (hs : s < cn) (hF : a_first s = nI F) (hFE : F ≤ E s) (hc : cv_all (L s) F (E s)) (t : Int32) :
      ∃ (m : Nat) (p' : Int32) (ts vs : Nat → Int32), F ≤ m ∧ m ≤ E s ∧ (∀ n, F ≤ n → n < m → (T s n).toInt < t.toInt) ∧ (∀ n, m ≤ n → n < E s → t.toInt ≤ (T s n).toInt) ∧
        ∀ post : Int32 → SX → Prop, post (nI m) (f_seriesCount, f_safeCount, f_arenaEnd, p', f_foundCount, f_foundSum, f_foundLeast, f_foundMost, f_foundGrowth, f_before, f_hasBefore, f_levelNow, a_labelsOf, a_first, a_end, a_safeFirst, a_safeEnd, a_lastTime, a_safeLast, a_having, a_blockCount, a_startBit, a_bitCount, a_sampleCount, a_firstNumber, a_fromTime, a_toTime, a_fromValue, a_toValue, a_total, a_smallest, a_greatest, a_grown, a_bits, a_lastStep, ts, vs) → wpX_firstFrom post (f_seriesCount, f_safeCount, f_arenaEnd, f_position, f_foundCount, f_foundSum, f_foundLeast, f_foundMost, f_foundGrowth, f_before, f_hasBefore, f_levelNow, a_labelsOf, a_first, a_end, a_safeFirst, a_safeEnd, a_lastTime, a_safeLast, a_having, a_blockCount, a_startBit, a_bitCount, a_sampleCount, a_firstNumber, a_fromTime, a_toTime, a_fromValue, a_toValue, a_total, a_smallest, a_greatest, a_grown, a_bits, a_lastStep, a_times, a_values) (nI s) t := by
  obtain ⟨m, p', ts, vs, m1, m2, m3, m4, W⟩ := cx_first_l f_seriesCount f_safeCount f_arenaEnd f_position f_foundCount f_foundSum f_foundLeast f_foundMost f_foundGrowth f_before f_hasBefore f_levelNow a_labelsOf a_first a_end a_safeFirst a_safeEnd a_lastTime a_safeLast a_having a_blockCount a_startBit a_bitCount a_sampleCount a_firstNumber a_fromTime a_toTime a_fromValue a_toValue a_total a_smallest a_greatest a_grown a_bits a_lastStep a_times a_values I hs hF t (L s) [] F rfl (cv_0 hc hFE) (fun n h1 h2 => by omega)
  have hcn := I.1
  have hcs : (nI s).toNatClampNeg = s := nI_clamp (by omega)
  exact ⟨m, p', ts, vs, m1, m2, m3, m4, fun post hp => ⟨vp_in_nI (by omega) (by omega), nm_r (e' := nI F) (by rw [hcs, hF]) (nm_r (e' := nI (12 * s + 0)) (by rw [show (12 : Int32) = nI 12 from rfl, pk_mul]; rfl) ⟨(L s).length + 1, W post hp⟩)⟩⟩
end
section
/-! cutBack -/
theorem up_up {α : Type} {f : Nat → α} {k : Nat} {x y : α} : up_f (up_f f k x) k y = up_f f k y := funext fun j => by
  by_cases e : j = k
  · rw [e, up_s, up_s]
  · rw [up_o e, up_o e, up_o e]
/-- fewer blocks, an earlier end -/
theorem ci_sub {a_blockCount a_startBit a_bitCount a_sampleCount a_firstNumber a_fromTime a_toTime a_fromValue a_toValue a_total a_smallest a_greatest a_grown a_bits a_lastStep : Nat → Int32} {cn : Nat} {T V : Nat → Nat → Int32} {L : Nat → List bk_T} {P : Nat → Nat → Nat} {E : Nat → Nat} {ae s e' : Nat} {l' : List bk_T} {bc' : Nat → Int32} (I : ci_ok cn T V L P E ae a_blockCount a_startBit a_bitCount a_sampleCount a_firstNumber a_fromTime a_toTime a_fromValue a_toValue a_total a_smallest a_greatest a_grown a_bits a_lastStep) (hs : s < cn) (hp : ∀ (k : Nat) (a : bk_T), l'[k]? = some a → (L s)[k]? = some a) (hl : ci_list l' e') (he : e' ≤ E s)
    (hb : bc' s = nI l'.length) (hb2 : ∀ s', s' ≠ s → bc' s' = a_blockCount s') : ci_ok cn T V (up_f L s l') P (up_f E s e') ae bc' a_startBit a_bitCount a_sampleCount a_firstNumber a_fromTime a_toTime a_fromValue a_toValue a_total a_smallest a_greatest a_grown a_bits a_lastStep := by
  obtain ⟨hcn, hae, hrow, hse, henc, hdis⟩ := I
  have hsub : ∀ s', s' < cn → ∀ a, a ∈ up_f L s l' s' → a ∈ L s' := fun s' _ a ha => by
    by_cases e : s' = s
    · subst e
      rw [up_s] at ha
      obtain ⟨k, hk⟩ := ls_idx ha
      exact (ls_mem (hp k a hk)).1
    · rw [up_o e] at ha; exact ha
  refine ⟨hcn, hae, fun s' hs' => ?_, fun s' hs' => ?_, fun s' hs' a ha => henc s' hs' a (hsub s' hs' a ha), fun s1 h1 a1 ha1 s2 h2 a2 ha2 => hdis s1 h1 a1 (hsub s1 h1 a1 ha1) s2 h2 a2 (hsub s2 h2 a2 ha2)⟩
  · by_cases e : s' = s
    · subst e
      rw [up_s]
      exact ⟨hb, fun k a hk => (hrow s' hs').2 k a (hp k a hk)⟩
    · rw [up_o e, hb2 s' e]; exact hrow s' hs'
  · by_cases e : s' = s
    · subst e
      rw [up_s, up_s]
      exact ⟨ci_hist_mono (hse s' hs').1 he, hl⟩
    · rw [up_o e, up_o e]; exact hse s' hs'
theorem cx_cut0 (f_seriesCount f_safeCount f_arenaEnd f_position f_foundCount f_foundSum f_foundLeast f_foundMost f_foundGrowth f_before f_hasBefore f_levelNow : Int32) (a_labelsOf a_first a_end a_safeFirst a_safeEnd a_lastTime a_safeLast a_having a_blockCount a_startBit a_bitCount a_sampleCount a_firstNumber a_fromTime a_toTime a_fromValue a_toValue a_total a_smallest a_greatest a_grown a_bits a_lastStep a_times a_values : Nat → Int32) {s number : Nat} {l : List bk_T} (hs : s < 8) (hl : l.length ≤ 12) (hfn : ∀ (k : Nat) (a : bk_T), l[k]? = some a → a_firstNumber (12 * s + k) = nI a.2.2 ∧ a.2.2 < 2 ^ 31) (hn : number < 2 ^ 31) :
    ∀ (m : Nat) (bcA : Nat → Int32), bcA s = nI m → (∀ s', s' ≠ s → bcA s' = a_blockCount s') → m ≤ l.length → (∀ (j : Nat) (a : bk_T), l[j]? = some a → m ≤ j → number ≤ a.2.2) →
      ∃ (m' : Nat) (bc' : Nat → Int32), m' ≤ m ∧ bc' s = nI m' ∧ (∀ s', s' ≠ s → bc' s' = a_blockCount s') ∧ (∀ (j : Nat) (a : bk_T), l[j]? = some a → m' ≤ j → number ≤ a.2.2) ∧ (m' = 0 ∨ ∃ a, l[m' - 1]? = some a ∧ a.2.2 < number) ∧
        ∀ post : SX → Prop, wX_cutBack_45 post (nI s) (nI number) f_seriesCount f_safeCount f_arenaEnd f_position f_foundCount f_foundSum f_foundLeast f_foundMost f_foundGrowth f_before f_hasBefore f_levelNow a_labelsOf a_first a_end a_safeFirst a_safeEnd a_lastTime a_safeLast a_having bc' a_startBit a_bitCount a_sampleCount a_firstNumber a_fromTime a_toTime a_fromValue a_toValue a_total a_smallest a_greatest a_grown a_bits a_lastStep a_times a_values → wX_cutBack_0 post (nI s) (nI number) f_seriesCount f_safeCount f_arenaEnd f_position f_foundCount f_foundSum f_foundLeast f_foundMost f_foundGrowth f_before f_hasBefore f_levelNow (m + 1) a_labelsOf a_first a_end a_safeFirst a_safeEnd a_lastTime a_safeLast a_having bcA a_startBit a_bitCount a_sampleCount a_firstNumber a_fromTime a_toTime a_fromValue a_toValue a_total a_smallest a_greatest a_grown a_bits a_lastStep a_times a_values := by
  have hcs : (nI s).toNatClampNeg = s := nI_clamp (by omega)
  have his : vp_in (nI s) 8 := vp_in_nI hs (by omega)
  intro m
  induction m with
  | zero =>
    intro bcA h1 h2 h3 h4
    refine ⟨0, bcA, Nat.le_refl _, h1, h2, h4, Or.inl rfl, fun post hp => ⟨his, br_t ?_ hp⟩⟩
    rw [hcs, h1]; decide
  | succ m ih =>
    intro bcA h1 h2 h3 h4
    obtain ⟨a, ha⟩ : ∃ a, l[m]? = some a := ⟨l[m]'(by omega), List.getElem?_eq_getElem (by omega)⟩
    obtain ⟨f1, f2⟩ := hfn m a ha
    have hcb : (nI (12 * s + m)).toNatClampNeg = 12 * s + m := nI_clamp (by omega)
    have e4 : 12 * nI s + bcA (nI s).toNatClampNeg - 1 = nI (12 * s + m) := by rw [hcs, h1, ba_12]; exact nI_pred (12 * s + m)
    have hib : vp_in (12 * nI s + bcA (nI s).toNatClampNeg - 1) 96 := by rw [e4]; exact vp_in_nI (by omega) (by omega)
    have hnz : ¬ bcA (nI s).toNatClampNeg ≤ 0 := by rw [hcs, h1]; exact nI_nle (by omega) (by omega)
    by_cases z : a.2.2 < number
    · refine ⟨m + 1, bcA, Nat.le_refl _, h1, h2, h4, Or.inr ⟨a, ha, z⟩, fun post hp => ⟨his, br_f hnz ⟨his, hib, br_t ?_ hp⟩⟩⟩
      rw [e4, hcb, f1]; exact nI_lt z hn
    · obtain ⟨m', bc', q1, q2, q3, q4, q5, W⟩ := ih (upd bcA s (nI m)) pk_us (fun s' e => by rw [pk_un e]; exact h2 s' e) (by omega) (fun j b hj hmj => by
        rcases Nat.lt_or_ge m j with y | y
        · exact h4 j b hj y
        · have e : j = m := by omega
          subst e
          rw [ha] at hj
          rw [← Option.some.inj hj]; omega)
      refine ⟨m', bc', by omega, q2, q3, q4, q5, fun post hp => ⟨his, br_f hnz ⟨his, hib, br_f ?_ ⟨his, his, nm_r (e' := upd bcA s (nI m)) ?_ (W post hp)⟩⟩⟩⟩
      · rw [e4, hcb, f1]; exact nI_nlt (by omega) f2
      · rw [hcs, h1, nI_pred, ba_bn (by omega)]
theorem cx_repack (f_seriesCount f_safeCount f_arenaEnd f_position f_foundCount f_foundSum f_foundLeast f_foundMost f_foundGrowth f_before f_hasBefore f_levelNow : Int32) (a_labelsOf a_first a_end a_safeFirst a_safeEnd a_lastTime a_safeLast a_having a_blockCount a_startBit a_bitCount a_sampleCount a_firstNumber a_fromTime a_toTime a_fromValue a_toValue a_total a_smallest a_greatest a_grown a_bits a_lastStep a_times a_values : Nat → Int32) {cn : Nat} {T V : Nat → Nat → Int32} {L : Nat → List bk_T} {E : Nat → Nat} {s fn sc kept : Nat} {l0 : List bk_T} (hfs : f_seriesCount = nI cn) (hs : s < cn) (hh : ci_hist (T s) (V s) (E s)) (hlen : ∀ s', s' < cn → (L s').length ≤ 10) (hl0 : l0.length + 1 ≤ 10) (h8 : ∀ a, a ∈ l0 → a.2.1 = 8) (hsc : sc ≤ 8) (hkept : kept < sc) (hE : fn + sc ≤ E s)
    (hts : ∀ j, j < sc → a_times j = T s (fn + j) ∧ a_values j = V s (fn + j)) :
    ∀ (d k : Nat) (lk : List bk_T) (P : Nat → Nat → Nat) (ae : Nat) (f_position0 : Int32) (a_end0 a_blockCount0 a_startBit0 a_bitCount0 a_sampleCount0 a_firstNumber0 a_fromTime0 a_toTime0 a_fromValue0 a_toValue0 a_total0 a_smallest0 a_greatest0 a_grown0 a_bits0 a_lastStep0 : Nat → Int32), k + d = kept → ci_ok cn T V (up_f L s lk) P (up_f E s (fn + k)) ae a_blockCount0 a_startBit0 a_bitCount0 a_sampleCount0 a_firstNumber0 a_fromTime0 a_toTime0 a_fromValue0 a_toValue0 a_total0 a_smallest0 a_greatest0 a_grown0 a_bits0 a_lastStep0 → ((k = 0 ∧ lk = l0) ∨ ∃ b, lk = l0 ++ [(b, k, fn)]) → a_end0 s = nI (fn + k) → (∀ s', s' ≠ s → a_end0 s' = a_end s') →
      ∃ (l' : List bk_T) (P' : Nat → Nat → Nat) (ae' : Nat), ∃ (f_position1 : Int32) (a_end1 a_blockCount1 a_startBit1 a_bitCount1 a_sampleCount1 a_firstNumber1 a_fromTime1 a_toTime1 a_fromValue1 a_toValue1 a_total1 a_smallest1 a_greatest1 a_grown1 a_bits1 a_lastStep1 : Nat → Int32), ci_ok cn T V (up_f L s l') P' (up_f E s (fn + kept)) ae' a_blockCount1 a_startBit1 a_bitCount1 a_sampleCount1 a_firstNumber1 a_fromTime1 a_toTime1 a_fromValue1 a_toValue1 a_total1 a_smallest1 a_greatest1 a_grown1 a_bits1 a_lastStep1 ∧ ((kept = 0 ∧ l' = l0) ∨ ∃ b, l' = l0 ++ [(b, kept, fn)]) ∧ (∀ s', s' ≠ s → a_end1 s' = a_end s') ∧
        ∀ post : SX → Prop, post (f_seriesCount, f_safeCount, nI ae', f_position1, f_foundCount, f_foundSum, f_foundLeast, f_foundMost, f_foundGrowth, f_before, f_hasBefore, f_levelNow, a_labelsOf, a_first, a_end1, a_safeFirst, a_safeEnd, a_lastTime, a_safeLast, a_having, a_blockCount1, a_startBit1, a_bitCount1, a_sampleCount1, a_firstNumber1, a_fromTime1, a_toTime1, a_fromValue1, a_toValue1, a_total1, a_smallest1, a_greatest1, a_grown1, a_bits1, a_lastStep1, a_times, a_values) → wX_cutBack_122 post (nI s) (nI kept) (d + 1) (nI k) f_seriesCount f_safeCount (nI ae) f_position0 f_foundCount f_foundSum f_foundLeast f_foundMost f_foundGrowth f_before f_hasBefore f_levelNow a_labelsOf a_first a_end0 a_safeFirst a_safeEnd a_lastTime a_safeLast a_having a_blockCount0 a_startBit0 a_bitCount0 a_sampleCount0 a_firstNumber0 a_fromTime0 a_toTime0 a_fromValue0 a_toValue0 a_total0 a_smallest0 a_greatest0 a_grown0 a_bits0 a_lastStep0 a_times a_values := by
  intro d
  induction d with
  | zero =>
    intro k lk P ae f_position0 a_end0 a_blockCount0 a_startBit0 a_bitCount0 a_sampleCount0 a_firstNumber0 a_fromTime0 a_toTime0 a_fromValue0 a_toValue0 a_total0 a_smallest0 a_greatest0 a_grown0 a_bits0 a_lastStep0 hk I hlk he he2
    have e : k = kept := by omega
    subst e
    exact ⟨lk, P, ae, f_position0, a_end0, a_blockCount0, a_startBit0, a_bitCount0, a_sampleCount0, a_firstNumber0, a_fromTime0, a_toTime0, a_fromValue0, a_toValue0, a_total0, a_smallest0, a_greatest0, a_grown0, a_bits0, a_lastStep0, I, hlk, he2, fun post hp => br_t (nI_le (by omega) (by omega)) hp⟩
  | succ d ih =>
    intro k lk P ae f_position0 a_end0 a_blockCount0 a_startBit0 a_bitCount0 a_sampleCount0 a_firstNumber0 a_fromTime0 a_toTime0 a_fromValue0 a_toValue0 a_total0 a_smallest0 a_greatest0 a_grown0 a_bits0 a_lastStep0 hk I hlk he he2
    have hcn := I.1
    have hcs : (nI s).toNatClampNeg = s := nI_clamp (by omega)
    have his : vp_in (nI s) 8 := vp_in_nI (by omega) (by omega)
    have hck : (nI k).toNatClampNeg = k := nI_clamp (by omega)
    have hik : vp_in (nI k) 8 := vp_in_nI (by omega) (by omega)
    have hll : lk.length ≤ 10 := by
      rcases hlk with ⟨_, z⟩ | ⟨b, z⟩
      · rw [z]; omega
      · rw [z, List.length_append]; exact hl0
    obtain ⟨l2, P2, ae2, f_position2, a_blockCount2, a_startBit2, a_bitCount2, a_sampleCount2, a_firstNumber2, a_fromTime2, a_toTime2, a_fromValue2, a_toValue2, a_total2, a_smallest2, a_greatest2, a_grown2, a_bits2, a_lastStep2, I2, hto, W⟩ := cx_pack f_seriesCount f_safeCount (nI ae) f_position0 f_foundCount f_foundSum f_foundLeast f_foundMost f_foundGrowth f_before f_hasBefore f_levelNow a_labelsOf a_first a_end0 a_safeFirst a_safeEnd a_lastTime a_safeLast a_having a_blockCount0 a_startBit0 a_bitCount0 a_sampleCount0 a_firstNumber0 a_fromTime0 a_toTime0 a_fromValue0 a_toValue0 a_total0 a_smallest0 a_greatest0 a_grown0 a_bits0 a_lastStep0 a_times a_values I hfs rfl hs (fun s' hs' => by
        by_cases e : s' = s
        · subst e; rw [up_s]; exact hll
        · rw [up_o e]; exact hlen s' hs') (by rw [up_s]; exact he) (by rw [up_s]; exact ci_hist_mono hh (by omega))
    rw [up_s] at W
    rw [up_s, up_s] at hto
    rw [up_s, up_up, up_up] at I2
    have hl2 : ∃ b, l2 = l0 ++ [(b, k + 1, fn)] := by
      rcases hto with ⟨ha, hl⟩ | ⟨l0', bc, sc', fn', bc', g1, g2, g3, g4⟩
      · rcases hlk with ⟨z1, z2⟩ | ⟨b, z⟩
        · subst z1 z2
          exact ⟨21, hl⟩
        · have := ha (b, k, fn) (by rw [z]; simp)
          dsimp only at this
          omega
      · rcases hlk with ⟨z1, z2⟩ | ⟨b, z⟩
        · rw [z2] at g1
          have := h8 (bc, sc', fn') (by rw [g1]; simp)
          dsimp only at this
          omega
        · rw [z] at g1
          obtain ⟨y1, y2⟩ := List.append_inj' g1 rfl
          have y3 : (b, k, fn) = (bc, sc', fn') := List.cons.inj y2 |>.1
          rw [Prod.mk.injEq, Prod.mk.injEq] at y3
          refine ⟨bc', ?_⟩
          rw [g4, ← y1, ← y3.2.1, ← y3.2.2]
    obtain ⟨l', P', ae', f_position1, a_end1, a_blockCount1, a_startBit1, a_bitCount1, a_sampleCount1, a_firstNumber1, a_fromTime1, a_toTime1, a_fromValue1, a_toValue1, a_total1, a_smallest1, a_greatest1, a_grown1, a_bits1, a_lastStep1, I1, hl', he1, W1⟩ := ih (k + 1) l2 P2 ae2 f_position2 (upd a_end0 s (nI (fn + (k + 1)))) a_blockCount2 a_startBit2 a_bitCount2 a_sampleCount2 a_firstNumber2 a_fromTime2 a_toTime2 a_fromValue2 a_toValue2 a_total2 a_smallest2 a_greatest2 a_grown2 a_bits2 a_lastStep2 (by omega) I2 (Or.inr hl2) pk_us (fun s' e => by rw [pk_un e]; exact he2 s' e)
    refine ⟨l', P', ae', f_position1, a_end1, a_blockCount1, a_startBit1, a_bitCount1, a_sampleCount1, a_firstNumber1, a_fromTime1, a_toTime1, a_fromValue1, a_toValue1, a_total1, a_smallest1, a_greatest1, a_grown1, a_bits1, a_lastStep1, I1, hl', he1, fun post hp => br_f (nI_ge (by omega) (by omega)) ⟨hik, hik, ?_⟩⟩
    rw [hck, (hts k (by omega)).1, (hts k (by omega)).2]
    refine W _ ⟨his, his, nm_r (e' := upd a_end0 s (nI (fn + (k + 1)))) ?_ (nm_r (nI_1 k) (W1 post hp))⟩
    rw [hcs, he, nI_1]; rfl
theorem cx_cutBack (f_seriesCount f_safeCount f_arenaEnd f_position f_foundCount f_foundSum f_foundLeast f_foundMost f_foundGrowth f_before f_hasBefore f_levelNow : Int32) (a_labelsOf a_first a_end a_safeFirst a_safeEnd a_lastTime a_safeLast a_having a_blockCount a_startBit a_bitCount a_sampleCount a_firstNumber a_fromTime a_toTime a_fromValue a_toValue a_total a_smallest a_greatest a_grown a_bits a_lastStep a_times a_values : Nat → Int32) {cn : Nat} {T V : Nat → Nat → Int32} {L : Nat → List bk_T} {P : Nat → Nat → Nat} {E : Nat → Nat} {ae s number : Nat} (I : ci_ok cn T V L P E ae a_blockCount a_startBit a_bitCount a_sampleCount a_firstNumber a_fromTime a_toTime a_fromValue a_toValue a_total a_smallest a_greatest a_grown a_bits a_lastStep) (hfs : f_seriesCount = nI cn) (hfa : f_arenaEnd = nI ae) (hs : s < cn) (hlen : ∀ s', s' < cn → (L s').length ≤ 10) (hnum : number ≤ E s) :
    ∃ (l' : List bk_T) (P' : Nat → Nat → Nat) (ae' : Nat), ∃ (f_position1 : Int32) (a_end1 a_blockCount1 a_startBit1 a_bitCount1 a_sampleCount1 a_firstNumber1 a_fromTime1 a_toTime1 a_fromValue1 a_toValue1 a_total1 a_smallest1 a_greatest1 a_grown1 a_bits1 a_lastStep1 a_times1 a_values1 : Nat → Int32), ci_ok cn T V (up_f L s l') P' (up_f E s number) ae' a_blockCount1 a_startBit1 a_bitCount1 a_sampleCount1 a_firstNumber1 a_fromTime1 a_toTime1 a_fromValue1 a_toValue1 a_total1 a_smallest1 a_greatest1 a_grown1 a_bits1 a_lastStep1 ∧ (∀ n, n < number → (∃ b, b ∈ L s ∧ b.2.2 ≤ n ∧ n < b.2.2 + b.2.1) → ∃ b, b ∈ l' ∧ b.2.2 ≤ n ∧ n < b.2.2 + b.2.1) ∧ l'.length ≤ 10 ∧ (∀ s', s' ≠ s → a_end1 s' = a_end s') ∧
      ∀ post : SX → Prop, post (f_seriesCount, f_safeCount, nI ae', f_position1, f_foundCount, f_foundSum, f_foundLeast, f_foundMost, f_foundGrowth, f_before, f_hasBefore, f_levelNow, a_labelsOf, a_first, a_end1, a_safeFirst, a_safeEnd, a_lastTime, a_safeLast, a_having, a_blockCount1, a_startBit1, a_bitCount1, a_sampleCount1, a_firstNumber1, a_fromTime1, a_toTime1, a_fromValue1, a_toValue1, a_total1, a_smallest1, a_greatest1, a_grown1, a_bits1, a_lastStep1, a_times1, a_values1) → wpX_cutBack post (f_seriesCount, f_safeCount, f_arenaEnd, f_position, f_foundCount, f_foundSum, f_foundLeast, f_foundMost, f_foundGrowth, f_before, f_hasBefore, f_levelNow, a_labelsOf, a_first, a_end, a_safeFirst, a_safeEnd, a_lastTime, a_safeLast, a_having, a_blockCount, a_startBit, a_bitCount, a_sampleCount, a_firstNumber, a_fromTime, a_toTime, a_fromValue, a_toValue, a_total, a_smallest, a_greatest, a_grown, a_bits, a_lastStep, a_times, a_values) (nI s) (nI number) := by
  have I0 := I
  obtain ⟨hcn, hae, hrow, hse, henc, hdis⟩ := I
  obtain ⟨hhs, hl1, hl2, hl3⟩ := hse s hs
  have hE := ci_hist_E hhs
  have hls := hlen s hs
  have hcs : (nI s).toNatClampNeg = s := nI_clamp (by omega)
  have his : vp_in (nI s) 8 := vp_in_nI (by omega) (by omega)
  obtain ⟨m, bc', m1, m2, m3, m4, m5, W⟩ := cx_cut0 f_seriesCount f_safeCount f_arenaEnd f_position f_foundCount f_foundSum f_foundLeast f_foundMost f_foundGrowth f_before f_hasBefore f_levelNow a_labelsOf a_first a_end a_safeFirst a_safeEnd a_lastTime a_safeLast a_having a_blockCount a_startBit a_bitCount a_sampleCount a_firstNumber a_fromTime a_toTime a_fromValue a_toValue a_total a_smallest a_greatest a_grown a_bits a_lastStep a_times a_values (s := s) (number := number) (l := L s) (by omega) hl1 (fun k a hk => ⟨(ro_e ((hrow s hs).2 k a hk)).2.2.2.1, by have := hl3 a (ls_mem hk).1; omega⟩) (by omega) (L s).length a_blockCount (hrow s hs).1 (fun _ _ => rfl) (Nat.le_refl _) (fun j a hj hm => by have := (ls_mem hj).2; omega)
  obtain ⟨l1, l2, hL, hlm⟩ : ∃ l1 l2, L s = l1 ++ l2 ∧ l1.length = m := ⟨(L s).take m, (L s).drop m, (List.take_append_drop m _).symm, by rw [List.length_take]; omega⟩
  have hpre : ∀ (k : Nat) (a : bk_T), l1[k]? = some a → (L s)[k]? = some a := fun k a hk => by rw [hL]; exact ls_app hk
  have hl2n : ∀ b, b ∈ l2 → number ≤ b.2.2 := fun b hb => by
    obtain ⟨j, hj⟩ := ls_idx hb
    refine m4 (l1.length + j) b ?_ (by omega)
    rw [hL, List.getElem?_append_right (by omega), Nat.add_sub_cancel_left]; exact hj
  rw [hL] at hl2
  have hpw1 := (List.pairwise_append.mp hl2).1
  rcases ls_last l1 with z | ⟨l0, a, z⟩
  · -- nothing is left
    subst z
    have hm0 : m = 0 := hlm.symm
    have I1 := ci_sub (l' := []) (e' := number) (bc' := bc') I0 hs (fun k a hk => by simp at hk) ⟨Nat.zero_le _, List.Pairwise.nil, fun a ha => by cases ha⟩ hnum (by rw [m2, hm0]; rfl) m3
    refine ⟨[], P, ae, f_position, a_end, bc', a_startBit, a_bitCount, a_sampleCount, a_firstNumber, a_fromTime, a_toTime, a_fromValue, a_toValue, a_total, a_smallest, a_greatest, a_grown, a_bits, a_lastStep, a_times, a_values, I1, fun n hn ⟨b, hb, h1, h2⟩ => ?_, Nat.zero_le _, fun _ _ => rfl, fun post hp => ⟨(L s).length + 1, W post ⟨his, br_t ?_ ?_⟩⟩⟩
    · rw [hL, List.nil_append] at hb
      have := hl2n b hb
      omega
    · rw [hcs, m2, hm0]; rfl
    · rw [← hfa] at hp; exact hp
  · have hm1 : m = l0.length + 1 := by rw [← hlm, z, List.length_append]; rfl
    have hka1 : l1[l0.length]? = some a := by rw [z]; exact ls_mid _ _ _
    have hka := hpre _ _ hka1
    have ham := (ls_mem hka).1
    have hb := hl3 a ham
    have hfa2 : a.2.2 < number := by
      rcases m5 with y | ⟨b, y1, y2⟩
      · omega
      · rw [hm1, Nat.add_sub_cancel, hka] at y1
        rw [Option.some.inj y1]; exact y2
    rw [z] at hpw1
    have hp0 := (List.pairwise_append.mp hpw1).1
    have hpa : ∀ b, b ∈ l0 → b.2.1 = 8 ∧ b.2.2 + 8 ≤ a.2.2 := fun b hb => (List.pairwise_append.mp hpw1).2.2 b hb a (List.mem_singleton.mpr rfl)
    have hb0 : ∀ b, b ∈ l0 → 1 ≤ b.2.1 ∧ b.2.1 ≤ 8 ∧ b.2.2 + b.2.1 ≤ E s := fun b hb => by
      have := hl3 b (by rw [hL, z]; simp [hb])
      exact ⟨this.1, this.2.1, this.2.2.1⟩
    obtain ⟨r1, r2, r3, r4, _⟩ := ro_e ((hrow s hs).2 _ a hka)
    have hcb : (nI (12 * s + l0.length)).toNatClampNeg = 12 * s + l0.length := nI_clamp (by omega)
    have hib : vp_in (nI (12 * s + l0.length)) 96 := vp_in_nI (by omega) (by omega)
    have e4 : 12 * nI s + bc' (nI s).toNatClampNeg - 1 = nI (12 * s + l0.length) := by rw [hcs, m2, hm1, ba_12]; exact nI_pred (12 * s + l0.length)
    have e5 : nI number - a_firstNumber (nI (12 * s + l0.length)).toNatClampNeg = nI (number - a.2.2) := by rw [hcb, r4, pk_sub (by omega)]
    have hnz : ¬ bc' (nI s).toNatClampNeg = 0 := by rw [hcs, m2]; exact nI_ne0 (by omega) (by omega)
    have cov : ∀ (l' : List bk_T) (x : bk_T), l' = l0 ++ [x] → x.2.2 = a.2.2 → (∀ n, n < number → n < a.2.2 + a.2.1 → n < x.2.2 + x.2.1) → ∀ n, n < number → (∃ b, b ∈ L s ∧ b.2.2 ≤ n ∧ n < b.2.2 + b.2.1) → ∃ b, b ∈ l' ∧ b.2.2 ≤ n ∧ n < b.2.2 + b.2.1 := by
      intro l' x hl' hx1 hx2 n hn ⟨b, hb, h1, h2⟩
      rw [hL, z] at hb
      rcases List.mem_append.mp hb with y | y
      · rcases List.mem_append.mp y with w | w
        · exact ⟨b, by rw [hl']; exact List.mem_append_left _ w, h1, h2⟩
        · rw [List.mem_singleton] at w
          subst w
          exact ⟨x, by rw [hl']; simp, by omega, hx2 n hn h2⟩
      · have := hl2n b y
        omega
    by_cases hkp : a.2.1 ≤ number - a.2.2
    · have I1 := ci_sub (l' := l1) (e' := number) (bc' := bc') I0 hs hpre ⟨by omega, by rw [z]; exact hpw1, fun b hbm => by
        rw [z] at hbm
        rcases List.mem_append.mp hbm with y | y
        · have h1 := hb0 b y
          have h2 := hpa b y
          exact ⟨h1.1, h1.2.1, by omega, fun x => by omega⟩
        · rw [List.mem_singleton] at y
          subst y
          exact ⟨hb.1, hb.2.1, by omega, fun x => by have := hb.2.2.2 x; omega⟩⟩ hnum (by rw [m2, hlm]) m3
      refine ⟨l1, P, ae, f_position, a_end, bc', a_startBit, a_bitCount, a_sampleCount, a_firstNumber, a_fromTime, a_toTime, a_fromValue, a_toValue, a_total, a_smallest, a_greatest, a_grown, a_bits, a_lastStep, a_times, a_values, I1, cov l1 a z rfl (fun n _ h => h), by omega, fun _ _ => rfl, fun post hp => ⟨(L s).length + 1, W post ⟨his, br_f hnz ⟨his, nm_r e4 ⟨hib, nm_r e5 ⟨hib, br_f ?_ ?_⟩⟩⟩⟩⟩⟩
      · rw [hcb, r3]; exact nI_nlt hkp (by omega)
      · rw [← hfa] at hp; exact hp
    · -- the last block is packed anew
      obtain ⟨p2, ts, vs, hts, W2⟩ := cx_unpack f_seriesCount f_safeCount f_arenaEnd f_position f_foundCount f_foundSum f_foundLeast f_foundMost f_foundGrowth f_before f_hasBefore f_levelNow a_labelsOf a_first a_end a_safeFirst a_safeEnd a_lastTime a_safeLast a_having bc' a_startBit a_bitCount a_sampleCount a_firstNumber a_fromTime a_toTime a_fromValue a_toValue a_total a_smallest a_greatest a_grown a_bits a_lastStep a_times a_values (ci_sub (l' := l1) (e' := E s) (bc' := bc') I0 hs hpre ⟨by omega, by rw [z]; exact hpw1, fun b hbm => hl3 b (by rw [hL]; exact List.mem_append_left _ hbm)⟩ (Nat.le_refl _) (by rw [m2, hlm]) m3) hs (k := l0.length) (a := a) (by rw [up_s]; exact hka1)
      have I2 := ci_sub (l' := l0) (e' := a.2.2) (bc' := upd bc' s (nI l0.length)) I0 hs (fun k b hk => hpre k b (by rw [z]; exact ls_app hk)) ⟨by omega, hp0, fun b hbm => by
        have h1 := hb0 b hbm
        have h2 := hpa b hbm
        exact ⟨h1.1, h1.2.1, by omega, fun x => by omega⟩⟩ (by omega) pk_us (fun s' e => by rw [pk_un e]; exact m3 s' e)
      obtain ⟨l', P', ae', f_position1, a_end1, a_blockCount1, a_startBit1, a_bitCount1, a_sampleCount1, a_firstNumber1, a_fromTime1, a_toTime1, a_fromValue1, a_toValue1, a_total1, a_smallest1, a_greatest1, a_grown1, a_bits1, a_lastStep1, I1, hl', he1, W1⟩ := cx_repack f_seriesCount f_safeCount f_arenaEnd f_position f_foundCount f_foundSum f_foundLeast f_foundMost f_foundGrowth f_before f_hasBefore f_levelNow a_labelsOf a_first a_end a_safeFirst a_safeEnd a_lastTime a_safeLast a_having a_blockCount a_startBit a_bitCount a_sampleCount a_firstNumber a_fromTime a_toTime a_fromValue a_toValue a_total a_smallest a_greatest a_grown a_bits a_lastStep ts vs (kept := number - a.2.2) hfs hs hhs hlen (by omega) (fun b hb => (hpa b hb).1) hb.2.1 (by omega) hb.2.2.1 hts (number - a.2.2) 0 l0 P ae p2 (upd a_end s (nI a.2.2)) (upd bc' s (nI l0.length)) a_startBit a_bitCount a_sampleCount a_firstNumber a_fromTime a_toTime a_fromValue a_toValue a_total a_smallest a_greatest a_grown a_bits a_lastStep (by omega) I2 (Or.inl ⟨rfl, rfl⟩) pk_us (fun s' e => pk_un e)
      rw [show a.2.2 + (number - a.2.2) = number from by omega] at I1
      obtain ⟨b, hlb⟩ : ∃ b, l' = l0 ++ [(b, number - a.2.2, a.2.2)] := by
        rcases hl' with ⟨y, _⟩ | y
        · omega
        · exact y
      refine ⟨l', P', ae', f_position1, a_end1, a_blockCount1, a_startBit1, a_bitCount1, a_sampleCount1, a_firstNumber1, a_fromTime1, a_toTime1, a_fromValue1, a_toValue1, a_total1, a_smallest1, a_greatest1, a_grown1, a_bits1, a_lastStep1, ts, vs, I1, cov l' _ hlb rfl (fun n h1 h2 => by show n < a.2.2 + (number - a.2.2); omega), by rw [hlb, List.length_append]; show l0.length + 1 ≤ 10; omega, he1, fun post hp => ⟨(L s).length + 1, W post ⟨his, br_f hnz ⟨his, nm_r e4 ⟨hib, nm_r e5 ⟨hib, br_t ?_ (W2 _ ?_)⟩⟩⟩⟩⟩⟩
      · rw [hcb, r3]; exact nI_lt (by omega) (by omega)
      · refine ⟨his, his, nm_r (e' := upd bc' s (nI l0.length)) ?_ ⟨hib, his, nm_r (e' := upd a_end s (nI a.2.2)) ?_ ⟨number - a.2.2 + 1, ?_⟩⟩⟩
        · rw [hcs, m2, hm1, nI_pred, ba_bn (by omega)]
        · rw [hcs, hcb, r4]
        · have := W1 post hp
          rw [← hfa] at this
          exact this
end
section
/-! the relation -/
/-- what holds of a series, but that all its blocks are of use -/
def se_pre (T : Nat → Int32) (l : List bk_T) (F E SF SE : Nat) (LT SLT : Int32) (sf : Bool) : Prop :=
  F ≤ E ∧ E ≤ F + 32 ∧ (∀ n, n < E → (T n).toInt ≤ LT.toInt) ∧ -1 ≤ LT.toInt ∧ LT.toInt ≤ 999 ∧ cv_all l F E ∧
  (sf = true → SF ≤ SE ∧ SE ≤ E ∧ SE ≤ SF + 32 ∧ (∀ n, n < SE → (T n).toInt ≤ SLT.toInt) ∧ -1 ≤ SLT.toInt ∧ SLT.toInt ≤ 999 ∧ cv_all l SF SE)
def se_ok (T : Nat → Int32) (l : List bk_T) (F E SF SE : Nat) (LT SLT : Int32) (sf : Bool) : Prop :=
  se_pre T l F E SF SE LT SLT sf ∧ ∀ a, a ∈ l → ls_use F SF SE sf a = true
theorem ls_use_p {F SF SE : Nat} {sf : Bool} {a : bk_T} (h : F < a.2.2 + a.2.1) : ls_use F SF SE sf a = true := by unfold ls_use; rw [decide_eq_true h, Bool.true_or]
theorem ls_use_s {F SF SE : Nat} {a : bk_T} (h1 : SF < a.2.2 + a.2.1) (h2 : a.2.2 < SE) : ls_use F SF SE true a = true := by
  unfold ls_use; rw [decide_eq_true h1, decide_eq_true h2, Bool.and_self, Bool.and_self, Bool.or_true]
theorem ls_use_e {F SF SE : Nat} {sf : Bool} {a : bk_T} (h : ls_use F SF SE sf a = true) : F < a.2.2 + a.2.1 ∨ (sf = true ∧ SF < a.2.2 + a.2.1 ∧ a.2.2 < SE) := by
  unfold ls_use at h
  rw [Bool.or_eq_true, Bool.and_eq_true, Bool.and_eq_true, decide_eq_true_eq, decide_eq_true_eq, decide_eq_true_eq] at h
  exact h
theorem se_drop {T : Nat → Int32} {l : List bk_T} {F E SF SE : Nat} {LT SLT : Int32} {sf : Bool} (h : se_pre T l F E SF SE LT SLT sf) : se_ok T (l.filter (ls_use F SF SE sf)) F E SF SE LT SLT sf := by
  obtain ⟨h1, h2, h3, h4, h5, h6, h7⟩ := h
  refine ⟨⟨h1, h2, h3, h4, h5, fun n n1 n2 => ?_, fun hs => ?_⟩, fun a ha => (List.mem_filter.mp ha).2⟩
  · obtain ⟨b, b1, b2, b3⟩ := h6 n n1 n2
    exact ⟨b, List.mem_filter.mpr ⟨b1, ls_use_p (by omega)⟩, b2, b3⟩
  · obtain ⟨k1, k2, k3, k4, k5, k6, k7⟩ := h7 hs
    refine ⟨k1, k2, k3, k4, k5, k6, fun n n1 n2 => ?_⟩
    obtain ⟨b, b1, b2, b3⟩ := k7 n n1 n2
    refine ⟨b, List.mem_filter.mpr ⟨b1, ?_⟩, b2, b3⟩
    rw [hs]
    exact ls_use_s (by omega) (by omega)
theorem se_five {l : List bk_T} {F : Nat} (hp : l.Pairwise ci_lt) (h : ∀ a, a ∈ l → F < a.2.2 + 8 ∧ a.2.2 < F + 32) : l.length ≤ 5 := by
  rcases Nat.lt_or_ge l.length 6 with z | z
  · omega
  · have g : ∀ k, k < 6 → ∃ a, l[k]? = some a := fun k hk => ⟨l[k]'(by omega), List.getElem?_eq_getElem (by omega)⟩
    obtain ⟨a0, g0⟩ := g 0 (by omega)
    obtain ⟨a1, g1⟩ := g 1 (by omega)
    obtain ⟨a2, g2⟩ := g 2 (by omega)
    obtain ⟨a3, g3⟩ := g 3 (by omega)
    obtain ⟨a4, g4⟩ := g 4 (by omega)
    obtain ⟨a5, g5⟩ := g 5 (by omega)
    have p0 := (ls_pw hp (by omega) g0 g1).2
    have p1 := (ls_pw hp (by omega) g1 g2).2
    have p2 := (ls_pw hp (by omega) g2 g3).2
    have p3 := (ls_pw hp (by omega) g3 g4).2
    have p4 := (ls_pw hp (by omega) g4 g5).2
    have q0 := h a0 (ls_mem g0).1
    have q5 := h a5 (ls_mem g5).1
    omega
theorem se_two {p q : bk_T → Bool} : ∀ l : List bk_T, (∀ a, a ∈ l → p a = true ∨ q a = true) → l.length ≤ (l.filter p).length + (l.filter q).length
  | [], _ => Nat.zero_le _
  | a :: r, h => by
    have ih := se_two r (fun b hb => h b (List.mem_cons_of_mem _ hb))
    have ha := h a (List.mem_cons_self ..)
    rw [List.filter_cons, List.filter_cons]
    rcases ha with z | z
    · rw [z, if_pos rfl]
      split <;> simp only [List.length_cons] <;> omega
    · rw [z, if_pos (rfl : true = true)]
      split <;> simp only [List.length_cons] <;> omega
theorem se_len {T V : Nat → Int32} {l : List bk_T} {F E SF SE : Nat} {LT SLT : Int32} {sf : Bool} (hl : ci_list l E) (h : se_ok T l F E SF SE LT SLT sf) : l.length ≤ 10 := by
  obtain ⟨⟨h1, h2, _, _, _, _, h7⟩, hu⟩ := h
  obtain ⟨_, hp, hb⟩ := hl
  have five : ((l.filter (fun a => decide (F < a.2.2 + a.2.1))).length ≤ 5) := se_five (F := F) (hp.filter _) (fun a ha => by
    obtain ⟨g1, g2⟩ := List.mem_filter.mp ha
    rw [decide_eq_true_eq] at g2
    have := hb a g1
    omega)
  cases hs : sf with
  | false =>
    have e : l.filter (fun a => decide (F < a.2.2 + a.2.1)) = l := List.filter_eq_self.mpr (fun a ha => by
      rcases ls_use_e (hu a ha) with z | z
      · exact decide_eq_true z
      · rw [hs] at z; cases z.1)
    rw [e] at five
    omega
  | true =>
    obtain ⟨k1, k2, k3, _⟩ := h7 hs
    have five2 : ((l.filter (fun a => decide (SF < a.2.2 + a.2.1) && decide (a.2.2 < SE))).length ≤ 5) := se_five (F := SF) (hp.filter _) (fun a ha => by
      obtain ⟨g1, g2⟩ := List.mem_filter.mp ha
      rw [Bool.and_eq_true, decide_eq_true_eq, decide_eq_true_eq] at g2
      have := hb a g1
      omega)
    have := se_two (p := fun a => decide (F < a.2.2 + a.2.1)) (q := fun a => decide (SF < a.2.2 + a.2.1) && decide (a.2.2 < SE)) l (fun a ha => by
      rcases ls_use_e (hu a ha) with z | z
      · exact Or.inl (decide_eq_true z)
      · exact Or.inr (by rw [decide_eq_true z.2.1, decide_eq_true z.2.2]; rfl))
    omega
theorem ci_hcongr {a_blockCount a_startBit a_bitCount a_sampleCount a_firstNumber a_fromTime a_toTime a_fromValue a_toValue a_total a_smallest a_greatest a_grown a_bits a_lastStep : Nat → Int32} {cn : Nat} {T V T' V' : Nat → Nat → Int32} {L : Nat → List bk_T} {P : Nat → Nat → Nat} {E : Nat → Nat} {ae : Nat} (I : ci_ok cn T V L P E ae a_blockCount a_startBit a_bitCount a_sampleCount a_firstNumber a_fromTime a_toTime a_fromValue a_toValue a_total a_smallest a_greatest a_grown a_bits a_lastStep) (h : ∀ s, s < cn → ∀ n, n < E s → T' s n = T s n ∧ V' s n = V s n) : ci_ok cn T' V' L P E ae a_blockCount a_startBit a_bitCount a_sampleCount a_firstNumber a_fromTime a_toTime a_fromValue a_toValue a_total a_smallest a_greatest a_grown a_bits a_lastStep := by
  obtain ⟨hcn, hae, hrow, hse, henc, hdis⟩ := I
  refine ⟨hcn, hae, fun s hs => ⟨(hrow s hs).1, fun k a hk => ?_⟩, fun s hs => ⟨⟨fun n hn => ?_, fun m n hm hn => ?_⟩, (hse s hs).2⟩, fun s hs a ha => ?_, hdis⟩
  · have hb := (hse s hs).2.2.2 a (ls_mem hk).1
    rw [(hrow s hs).2 k a hk]
    exact (ro_of_congr hb.1 (fun _ => rfl) (fun n hn => h s hs n (by omega))).symm
  · rw [(h s hs n hn).1, (h s hs n hn).2]; exact (hse s hs).1.1 n hn
  · rw [(h s hs n hn).1, (h s hs m (by omega)).1]; exact (hse s hs).1.2 m n hm hn
  · have hb := (hse s hs).2.2.2 a ha
    have he := henc s hs a ha
    exact ci_enc_keep he (by omega) (fun n hn => h s hs n (by omega)) (fun z => ⟨he.2.1 z, fun _ _ => rfl⟩) (fun _ => ⟨rfl, fun _ _ => rfl⟩)
/-- for each label value the series that have it, as bits -/
def hv_ok (cn : Nat) (lb : Nat → Nat) (hv : Nat → Int32) : Prop := ∀ i, i < 12 → ∀ s, s < 32 → bt (hv i) s = (decide (s < cn) && decide (lb s / 4 ^ (i / 4) % 4 = i % 4))
/-- the component's state -/
def xi_ok (cn sn : Nat) (lb F E SF SE : Nat → Nat) (LT SLT : Nat → Int32) (T V : Nat → Nat → Int32) (L : Nat → List bk_T) (P : Nat → Nat → Nat) (ae : Nat) (f_seriesCount f_safeCount f_arenaEnd : Int32) (a_labelsOf a_first a_end a_safeFirst a_safeEnd a_lastTime a_safeLast a_having a_blockCount a_startBit a_bitCount a_sampleCount a_firstNumber a_fromTime a_toTime a_fromValue a_toValue a_total a_smallest a_greatest a_grown a_bits a_lastStep : Nat → Int32) : Prop :=
  f_seriesCount = nI cn ∧ f_safeCount = nI sn ∧ f_arenaEnd = nI ae ∧ sn ≤ cn ∧ ci_ok cn T V L P E ae a_blockCount a_startBit a_bitCount a_sampleCount a_firstNumber a_fromTime a_toTime a_fromValue a_toValue a_total a_smallest a_greatest a_grown a_bits a_lastStep ∧
  (∀ s, s < cn → a_first s = nI (F s) ∧ a_end s = nI (E s) ∧ a_lastTime s = LT s) ∧ (∀ s, s < sn → a_safeFirst s = nI (SF s) ∧ a_safeEnd s = nI (SE s) ∧ a_safeLast s = SLT s) ∧
  (∀ s, s < cn → se_ok (T s) (L s) (F s) (E s) (SF s) (SE s) (LT s) (SLT s) (decide (s < sn))) ∧ (∀ s, s < cn → a_labelsOf s = nI (lb s) ∧ lb s < 64) ∧ hv_ok cn lb a_having
/-- the reference's state -/
def yi_ok (cn sn : Nat) (lb F E SF SE : Nat → Nat) (LT SLT : Nat → Int32) (T V : Nat → Nat → Int32) (g_n g_safeN : Int32) (b_labels b_length b_latest b_times b_values b_safeLabels b_safeLength b_safeLatest b_safeTimes b_safeValues : Nat → Int32) : Prop :=
  g_n = nI cn ∧ g_safeN = nI sn ∧ (∀ s, s < cn → b_labels s = nI (lb s) ∧ b_length s = nI (E s - F s) ∧ b_latest s = LT s ∧ ∀ j, j < E s - F s → b_times (32 * s + j) = T s (F s + j) ∧ b_values (32 * s + j) = V s (F s + j)) ∧
  (∀ s, s < sn → b_safeLabels s = nI (lb s) ∧ b_safeLength s = nI (SE s - SF s) ∧ b_safeLatest s = SLT s ∧ ∀ j, j < SE s - SF s → b_safeTimes (32 * s + j) = T s (SF s + j) ∧ b_safeValues (32 * s + j) = V s (SF s + j))
def i_Rel (k : Nat) (u : SX) (v : SY) : Prop := match u, v with
  | (f_seriesCount, f_safeCount, f_arenaEnd, f_position, f_foundCount, f_foundSum, f_foundLeast, f_foundMost, f_foundGrowth, f_before, f_hasBefore, f_levelNow, a_labelsOf, a_first, a_end, a_safeFirst, a_safeEnd, a_lastTime, a_safeLast, a_having, a_blockCount, a_startBit, a_bitCount, a_sampleCount, a_firstNumber, a_fromTime, a_toTime, a_fromValue, a_toValue, a_total, a_smallest, a_greatest, a_grown, a_bits, a_lastStep, a_times, a_values), (g_n, g_safeN, b_labels, b_length, b_latest, b_times, b_values, b_safeLabels, b_safeLength, b_safeLatest, b_safeTimes, b_safeValues) => ∃ (cn sn : Nat) (lb F E SF SE : Nat → Nat) (LT SLT : Nat → Int32) (T V : Nat → Nat → Int32) (L : Nat → List bk_T) (P : Nat → Nat → Nat) (ae : Nat),
    xi_ok cn sn lb F E SF SE LT SLT T V L P ae f_seriesCount f_safeCount f_arenaEnd a_labelsOf a_first a_end a_safeFirst a_safeEnd a_lastTime a_safeLast a_having a_blockCount a_startBit a_bitCount a_sampleCount a_firstNumber a_fromTime a_toTime a_fromValue a_toValue a_total a_smallest a_greatest a_grown a_bits a_lastStep ∧ yi_ok cn sn lb F E SF SE LT SLT T V g_n g_safeN b_labels b_length b_latest b_times b_values b_safeLabels b_safeLength b_safeLatest b_safeTimes b_safeValues
/-- the relation opened -/
theorem re_el {k : Nat} {u : SX} {v : SY} {Q : SX → SY → Prop} (I : i_Rel k u v) (h : ∀ (f_seriesCount f_safeCount f_arenaEnd f_position f_foundCount f_foundSum f_foundLeast f_foundMost f_foundGrowth f_before f_hasBefore f_levelNow : Int32) (a_labelsOf a_first a_end a_safeFirst a_safeEnd a_lastTime a_safeLast a_having a_blockCount a_startBit a_bitCount a_sampleCount a_firstNumber a_fromTime a_toTime a_fromValue a_toValue a_total a_smallest a_greatest a_grown a_bits a_lastStep a_times a_values : Nat → Int32) (g_n g_safeN : Int32) (b_labels b_length b_latest b_times b_values b_safeLabels b_safeLength b_safeLatest b_safeTimes b_safeValues : Nat → Int32) (cn sn : Nat) (lb F E SF SE : Nat → Nat) (LT SLT : Nat → Int32) (T V : Nat → Nat → Int32) (L : Nat → List bk_T) (P : Nat → Nat → Nat) (ae : Nat), xi_ok cn sn lb F E SF SE LT SLT T V L P ae f_seriesCount f_safeCount f_arenaEnd a_labelsOf a_first a_end a_safeFirst a_safeEnd a_lastTime a_safeLast a_having a_blockCount a_startBit a_bitCount a_sampleCount a_firstNumber a_fromTime a_toTime a_fromValue a_toValue a_total a_smallest a_greatest a_grown a_bits a_lastStep → yi_ok cn sn lb F E SF SE LT SLT T V g_n g_safeN b_labels b_length b_latest b_times b_values b_safeLabels b_safeLength b_safeLatest b_safeTimes b_safeValues → Q (f_seriesCount, f_safeCount, f_arenaEnd, f_position, f_foundCount, f_foundSum, f_foundLeast, f_foundMost, f_foundGrowth, f_before, f_hasBefore, f_levelNow, a_labelsOf, a_first, a_end, a_safeFirst, a_safeEnd, a_lastTime, a_safeLast, a_having, a_blockCount, a_startBit, a_bitCount, a_sampleCount, a_firstNumber, a_fromTime, a_toTime, a_fromValue, a_toValue, a_total, a_smallest, a_greatest, a_grown, a_bits, a_lastStep, a_times, a_values) (g_n, g_safeN, b_labels, b_length, b_latest, b_times, b_values, b_safeLabels, b_safeLength, b_safeLatest, b_safeTimes, b_safeValues)) : Q u v := by
  obtain ⟨f_seriesCount, f_safeCount, f_arenaEnd, f_position, f_foundCount, f_foundSum, f_foundLeast, f_foundMost, f_foundGrowth, f_before, f_hasBefore, f_levelNow, a_labelsOf, a_first, a_end, a_safeFirst, a_safeEnd, a_lastTime, a_safeLast, a_having, a_blockCount, a_startBit, a_bitCount, a_sampleCount, a_firstNumber, a_fromTime, a_toTime, a_fromValue, a_toValue, a_total, a_smallest, a_greatest, a_grown, a_bits, a_lastStep, a_times, a_values⟩ := u
  obtain ⟨g_n, g_safeN, b_labels, b_length, b_latest, b_times, b_values, b_safeLabels, b_safeLength, b_safeLatest, b_safeTimes, b_safeValues⟩ := v
  obtain ⟨cn, sn, lb, F, E, SF, SE, LT, SLT, T, V, L, P, ae, h1, h2⟩ := I
  exact h f_seriesCount f_safeCount f_arenaEnd f_position f_foundCount f_foundSum f_foundLeast f_foundMost f_foundGrowth f_before f_hasBefore f_levelNow a_labelsOf a_first a_end a_safeFirst a_safeEnd a_lastTime a_safeLast a_having a_blockCount a_startBit a_bitCount a_sampleCount a_firstNumber a_fromTime a_toTime a_fromValue a_toValue a_total a_smallest a_greatest a_grown a_bits a_lastStep a_times a_values g_n g_safeN b_labels b_length b_latest b_times b_values b_safeLabels b_safeLength b_safeLatest b_safeTimes b_safeValues cn sn lb F E SF SE LT SLT T V L P ae h1 h2
theorem i_up {k : Nat} {u : SX} {v : SY} (h : i_Rel k u v) : i_Rel (k + 5) u v := h
end
section
/-! the component: append, expire -/
theorem pd_cov {l l' : List bk_T} {e : Nat} (h : pd_to l e l') {F E : Nat} (hE : E ≤ e + 1) (hc : cv_all l F (if E ≤ e then E else e)) (hF : F ≤ e) : cv_all l' F E := by
  intro n n1 n2
  rcases h with ⟨_, h2⟩ | ⟨l0, bc, sc, fn, bc', g1, g2, g3, g4⟩
  · rcases Nat.lt_or_ge n e with z | z
    · obtain ⟨b, b1, b2, b3⟩ := hc n n1 (by split <;> omega)
      exact ⟨b, by rw [h2]; exact List.mem_append_left _ b1, b2, b3⟩
    · exact ⟨(21, 1, e), by rw [h2]; simp, by show e ≤ n; omega, by show n < e + 1; omega⟩
  · rcases Nat.lt_or_ge n e with z | z
    · obtain ⟨b, b1, b2, b3⟩ := hc n n1 (by split <;> omega)
      rw [g1] at b1
      rcases List.mem_append.mp b1 with y | y
      · exact ⟨b, by rw [g4]; exact List.mem_append_left _ y, b2, b3⟩
      · rw [List.mem_singleton] at y
        subst y
        exact ⟨(bc', sc + 1, fn), by rw [g4]; simp, b2, by dsimp only at b3 ⊢; omega⟩
    · exact ⟨(bc', sc + 1, fn), by rw [g4]; simp, by show fn ≤ n; omega, by show n < fn + (sc + 1); omega⟩
theorem pd_use {l l' : List bk_T} {e F SF SE : Nat} {sf : Bool} (h : pd_to l e l') (hF : F ≤ e) (hu : ∀ a, a ∈ l → ls_use F SF SE sf a = true) : ∀ a, a ∈ l' → ls_use F SF SE sf a = true := by
  intro a ha
  rcases h with ⟨_, h2⟩ | ⟨l0, bc, sc, fn, bc', g1, g2, g3, g4⟩
  · rw [h2] at ha
    rcases List.mem_append.mp ha with y | y
    · exact hu a y
    · rw [List.mem_singleton] at y
      subst y
      exact ls_use_p (by show F < e + 1; omega)
  · rw [g4] at ha
    rcases List.mem_append.mp ha with y | y
    · exact hu a (by rw [g1]; exact List.mem_append_left _ y)
    · rw [List.mem_singleton] at y
      subst y
      exact ls_use_p (by show F < fn + (sc + 1); omega)
theorem up_lt {α : Type} {f : Nat → α} {k n : Nat} {x : α} (h : n < k) : up_f f k x n = f n := up_o (by omega)
theorem xx_append (f_seriesCount f_safeCount f_arenaEnd f_position f_foundCount f_foundSum f_foundLeast f_foundMost f_foundGrowth f_before f_hasBefore f_levelNow : Int32) (a_labelsOf a_first a_end a_safeFirst a_safeEnd a_lastTime a_safeLast a_having a_blockCount a_startBit a_bitCount a_sampleCount a_firstNumber a_fromTime a_toTime a_fromValue a_toValue a_total a_smallest a_greatest a_grown a_bits a_lastStep a_times a_values : Nat → Int32) {cn sn : Nat} {lb F E SF SE : Nat → Nat} {LT SLT : Nat → Int32} {T V : Nat → Nat → Int32} {L : Nat → List bk_T} {P : Nat → Nat → Nat} {ae : Nat} (I : xi_ok cn sn lb F E SF SE LT SLT T V L P ae f_seriesCount f_safeCount f_arenaEnd a_labelsOf a_first a_end a_safeFirst a_safeEnd a_lastTime a_safeLast a_having a_blockCount a_startBit a_bitCount a_sampleCount a_firstNumber a_fromTime a_toTime a_fromValue a_toValue a_total a_smallest a_greatest a_grown a_bits a_lastStep) {s : Nat} {t v : Int32} (hs : s < cn) (ht1 : (LT s).toInt < t.toInt) (ht : 0 ≤ t.toInt ∧ t.toInt ≤ 999) (hv : -1000 ≤ v.toInt ∧ v.toInt ≤ 1000) (hroom : E s - F s < 32) :
    ∃ (L' : Nat → List bk_T) (P' : Nat → Nat → Nat) (ae' : Nat), ∃ (f_position1 : Int32) (a_blockCount1 a_startBit1 a_bitCount1 a_sampleCount1 a_firstNumber1 a_fromTime1 a_toTime1 a_fromValue1 a_toValue1 a_total1 a_smallest1 a_greatest1 a_grown1 a_bits1 a_lastStep1 : Nat → Int32), xi_ok cn sn lb F (up_f E s (E s + 1)) SF SE (up_f LT s t) SLT (up_f T s (up_f (T s) (E s) t)) (up_f V s (up_f (V s) (E s) v)) L' P' ae' f_seriesCount f_safeCount (nI ae') a_labelsOf a_first (upd a_end s (nI (E s + 1))) a_safeFirst a_safeEnd (upd a_lastTime s t) a_safeLast a_having a_blockCount1 a_startBit1 a_bitCount1 a_sampleCount1 a_firstNumber1 a_fromTime1 a_toTime1 a_fromValue1 a_toValue1 a_total1 a_smallest1 a_greatest1 a_grown1 a_bits1 a_lastStep1 ∧
      ∀ post : Int32 → SX → Prop, post (nI (E s + 1 - F s)) (f_seriesCount, f_safeCount, nI ae', f_position1, f_foundCount, f_foundSum, f_foundLeast, f_foundMost, f_foundGrowth, f_before, f_hasBefore, f_levelNow, a_labelsOf, a_first, upd a_end s (nI (E s + 1)), a_safeFirst, a_safeEnd, upd a_lastTime s t, a_safeLast, a_having, a_blockCount1, a_startBit1, a_bitCount1, a_sampleCount1, a_firstNumber1, a_fromTime1, a_toTime1, a_fromValue1, a_toValue1, a_total1, a_smallest1, a_greatest1, a_grown1, a_bits1, a_lastStep1, a_times, a_values) → wpX_append post (f_seriesCount, f_safeCount, f_arenaEnd, f_position, f_foundCount, f_foundSum, f_foundLeast, f_foundMost, f_foundGrowth, f_before, f_hasBefore, f_levelNow, a_labelsOf, a_first, a_end, a_safeFirst, a_safeEnd, a_lastTime, a_safeLast, a_having, a_blockCount, a_startBit, a_bitCount, a_sampleCount, a_firstNumber, a_fromTime, a_toTime, a_fromValue, a_toValue, a_total, a_smallest, a_greatest, a_grown, a_bits, a_lastStep, a_times, a_values) (nI s) t v := by
  obtain ⟨h1, h2, h3, h4, hci, h6, h7, h8, h9, h10⟩ := I
  obtain ⟨hcn, _, _, hse, _⟩ := id hci
  obtain ⟨hhs, hls⟩ := hse s hs
  obtain ⟨⟨p1, p2, p3, p4, p5, p6, p7⟩, pu⟩ := h8 s hs
  obtain ⟨k1, k2, k3⟩ := h6 s hs
  have hlen : ∀ s', s' < cn → (L s').length ≤ 10 := fun s' hs' => se_len (V := V s') (hse s' hs').2 (h8 s' hs')
  have hE := ci_hist_E hhs
  have hTV : ∀ s', s' < cn → ∀ n, n < E s' → up_f T s (up_f (T s) (E s) t) s' n = T s' n ∧ up_f V s (up_f (V s) (E s) v) s' n = V s' n := fun s' _ n hn => by
    by_cases e : s' = s
    · subst e; rw [up_s, up_s, up_lt hn, up_lt hn]; exact ⟨rfl, rfl⟩
    · rw [up_o e, up_o e]; exact ⟨rfl, rfl⟩
  have hci2 := ci_hcongr hci hTV
  have eT : up_f T s (up_f (T s) (E s) t) s (E s) = t := by rw [up_s, up_s]
  have eV : up_f V s (up_f (V s) (E s) v) s (E s) = v := by rw [up_s, up_s]
  have hh2 : ci_hist (up_f T s (up_f (T s) (E s) t) s) (up_f V s (up_f (V s) (E s) v) s) (E s + 1) := by
    refine ⟨fun n hn => ?_, fun m n hm hn => ?_⟩
    · rcases Nat.lt_or_ge n (E s) with z | z
      · rw [(hTV s hs n z).1, (hTV s hs n z).2]; exact hhs.1 n z
      · have e : n = E s := by omega
        subst e
        rw [eT, eV]; omega
    · rcases Nat.lt_or_ge n (E s) with z | z
      · rw [(hTV s hs n z).1, (hTV s hs m (by omega)).1]; exact hhs.2 m n hm z
      · have e : n = E s := by omega
        subst e
        rw [eT, (hTV s hs m hm).1]
        have := p3 m hm
        omega
  obtain ⟨l', P', ae', f_position1, a_blockCount1, a_startBit1, a_bitCount1, a_sampleCount1, a_firstNumber1, a_fromTime1, a_toTime1, a_fromValue1, a_toValue1, a_total1, a_smallest1, a_greatest1, a_grown1, a_bits1, a_lastStep1, I2, hto, W⟩ := cx_pack f_seriesCount f_safeCount f_arenaEnd f_position f_foundCount f_foundSum f_foundLeast f_foundMost f_foundGrowth f_before f_hasBefore f_levelNow a_labelsOf a_first a_end a_safeFirst a_safeEnd a_lastTime a_safeLast a_having a_blockCount a_startBit a_bitCount a_sampleCount a_firstNumber a_fromTime a_toTime a_fromValue a_toValue a_total a_smallest a_greatest a_grown a_bits a_lastStep a_times a_values hci2 h1 h3 hs hlen k2 hh2
  rw [eT, eV] at W
  have hcs : (nI s).toNatClampNeg = s := nI_clamp (by omega)
  have his : vp_in (nI s) 8 := vp_in_nI (by omega) (by omega)
  have e32 : a_end (nI s).toNatClampNeg - a_first (nI s).toNatClampNeg = nI (E s - F s) := by rw [hcs, k1, k2, pk_sub p1]
  refine ⟨_, P', ae', f_position1, a_blockCount1, a_startBit1, a_bitCount1, a_sampleCount1, a_firstNumber1, a_fromTime1, a_toTime1, a_fromValue1, a_toValue1, a_total1, a_smallest1, a_greatest1, a_grown1, a_bits1, a_lastStep1, ⟨h1, h2, rfl, h4, I2, fun s' hs' => ?_, h7, fun s' hs' => ?_, h9, h10⟩, fun post hp => ?_⟩
  · by_cases e : s' = s
    · subst e
      rw [pk_us, pk_us, up_s, up_s]
      exact ⟨k1, rfl, rfl⟩
    · rw [pk_un e, pk_un e, up_o e, up_o e]; exact h6 s' hs'
  · by_cases e : s' = s
    · subst e
      rw [up_s, up_s, up_s, up_s]
      refine ⟨⟨by omega, by omega, fun n hn => ?_, by omega, ht.2, ?_, fun hsf => ?_⟩, pd_use hto p1 pu⟩
      · rcases Nat.lt_or_ge n (E s') with z | z
        · rw [up_lt z]; have := p3 n z; omega
        · have en : n = E s' := by omega
          subst en
          rw [up_s]; omega
      · exact pd_cov hto (Nat.le_refl _) (by rw [if_neg (by omega)]; exact p6) p1
      · obtain ⟨q1, q2, q3, q4, q5, q6, q7⟩ := p7 hsf
        refine ⟨q1, by omega, q3, fun n hn => by rw [up_lt (by omega)]; exact q4 n hn, q5, q6, ?_⟩
        exact pd_cov hto (by omega) (by rw [if_pos q2]; exact q7) (by omega)
    · rw [up_o e, up_o e, up_o e, up_o e]; exact h8 s' hs'
  · refine br_f (nI_pos (by omega)) (br_f (by rw [h1]; exact nI_ge hs (by omega)) ?_)
    refine br_f (by decide) (br_f ?_ (br_f ?_ (br_f ?_ (br_t ?_ ⟨his, br_t ?_ ⟨his, his, br_t ?_ (W _ ?_)⟩⟩))))
    · rw [ba_lt, ba_0]; omega
    · rw [ba_lt, show (999 : Int32).toInt = 999 from by decide]; omega
    · rw [ba_lt, show (-1000 : Int32).toInt = -1000 from by decide]; omega
    · rw [ba_le, show (1000 : Int32).toInt = 1000 from by decide]; omega
    · rw [hcs, k3, ba_lt]; exact ht1
    · rw [e32]; exact nI_lt (b := 32) hroom (by omega)
    · refine ⟨his, nm_r (e' := upd a_lastTime s t) (by rw [hcs, ba_s (by omega) (by omega)]) ⟨his, his, nm_r (e' := upd a_end s (nI (E s + 1))) (by rw [hcs, k2, nI_1]) ⟨his, his, ?_⟩⟩⟩
      rw [hcs, pk_us, k1, pk_sub (by omega)]
      exact hp
/-! expire -/
def sx_sum (f : Nat → Nat) : Nat → Nat
  | 0 => 0
  | n + 1 => sx_sum f n + f n
theorem sx_congr {f g : Nat → Nat} : ∀ n, (∀ i, i < n → f i = g i) → sx_sum f n = sx_sum g n
  | 0, _ => rfl
  | n + 1, h => by simp only [sx_sum]; rw [sx_congr n (fun i hi => h i (by omega)), h n (by omega)]
/-- the new first number -/
def ex_sp (T : Nat → Int32) (F E : Nat) (t : Int32) (F' : Nat) : Prop := F ≤ F' ∧ F' ≤ E ∧ (∀ n, F ≤ n → n < F' → (T n).toInt < t.toInt) ∧ ∀ n, F' ≤ n → n < E → t.toInt ≤ (T n).toInt
theorem xx_expire_l (f_seriesCount f_safeCount f_arenaEnd f_position f_foundCount f_foundSum f_foundLeast f_foundMost f_foundGrowth f_before f_hasBefore f_levelNow : Int32) (a_labelsOf a_first a_end a_safeFirst a_safeEnd a_lastTime a_safeLast a_having a_blockCount a_startBit a_bitCount a_sampleCount a_firstNumber a_fromTime a_toTime a_fromValue a_toValue a_total a_smallest a_greatest a_grown a_bits a_lastStep a_times a_values : Nat → Int32) {cn sn : Nat} {lb F0 E SF SE : Nat → Nat} {LT SLT : Nat → Int32} {T V : Nat → Nat → Int32} {P : Nat → Nat → Nat} {ae : Nat} (t : Int32) :
    ∀ (d s : Nat) (F : Nat → Nat) (L : Nat → List bk_T) (f_position0 : Int32) (a_first0 a_blockCount0 a_startBit0 a_bitCount0 a_sampleCount0 a_firstNumber0 a_fromTime0 a_toTime0 a_fromValue0 a_toValue0 a_total0 a_smallest0 a_greatest0 a_grown0 a_times0 a_values0 : Nat → Int32), s + d = cn → xi_ok cn sn lb F E SF SE LT SLT T V L P ae f_seriesCount f_safeCount f_arenaEnd a_labelsOf a_first0 a_end a_safeFirst a_safeEnd a_lastTime a_safeLast a_having a_blockCount0 a_startBit0 a_bitCount0 a_sampleCount0 a_firstNumber0 a_fromTime0 a_toTime0 a_fromValue0 a_toValue0 a_total0 a_smallest0 a_greatest0 a_grown0 a_bits a_lastStep → (∀ s', s' < s → ex_sp (T s') (F0 s') (E s') t (F s')) → (∀ s', s ≤ s' → F s' = F0 s') →
      ∃ (F' : Nat → Nat) (L' : Nat → List bk_T), ∃ (f_position1 : Int32) (a_first1 a_blockCount1 a_startBit1 a_bitCount1 a_sampleCount1 a_firstNumber1 a_fromTime1 a_toTime1 a_fromValue1 a_toValue1 a_total1 a_smallest1 a_greatest1 a_grown1 a_times1 a_values1 : Nat → Int32), xi_ok cn sn lb F' E SF SE LT SLT T V L' P ae f_seriesCount f_safeCount f_arenaEnd a_labelsOf a_first1 a_end a_safeFirst a_safeEnd a_lastTime a_safeLast a_having a_blockCount1 a_startBit1 a_bitCount1 a_sampleCount1 a_firstNumber1 a_fromTime1 a_toTime1 a_fromValue1 a_toValue1 a_total1 a_smallest1 a_greatest1 a_grown1 a_bits a_lastStep ∧ (∀ s', s' < cn → ex_sp (T s') (F0 s') (E s') t (F' s')) ∧
        ∀ post : Int32 → SX → Prop, post (nI (sx_sum (fun j => F' j - F0 j) cn)) (f_seriesCount, f_safeCount, f_arenaEnd, f_position1, f_foundCount, f_foundSum, f_foundLeast, f_foundMost, f_foundGrowth, f_before, f_hasBefore, f_levelNow, a_labelsOf, a_first1, a_end, a_safeFirst, a_safeEnd, a_lastTime, a_safeLast, a_having, a_blockCount1, a_startBit1, a_bitCount1, a_sampleCount1, a_firstNumber1, a_fromTime1, a_toTime1, a_fromValue1, a_toValue1, a_total1, a_smallest1, a_greatest1, a_grown1, a_bits, a_lastStep, a_times1, a_values1) → wX_expire_4 post t (d + 1) (nI (sx_sum (fun j => F j - F0 j) s)) (nI s) f_seriesCount f_safeCount f_arenaEnd f_position0 f_foundCount f_foundSum f_foundLeast f_foundMost f_foundGrowth f_before f_hasBefore f_levelNow a_labelsOf a_first0 a_end a_safeFirst a_safeEnd a_lastTime a_safeLast a_having a_blockCount0 a_startBit0 a_bitCount0 a_sampleCount0 a_firstNumber0 a_fromTime0 a_toTime0 a_fromValue0 a_toValue0 a_total0 a_smallest0 a_greatest0 a_grown0 a_bits a_lastStep a_times0 a_values0 := by
  intro d
  induction d with
  | zero =>
    intro s F L f_position0 a_first0 a_blockCount0 a_startBit0 a_bitCount0 a_sampleCount0 a_firstNumber0 a_fromTime0 a_toTime0 a_fromValue0 a_toValue0 a_total0 a_smallest0 a_greatest0 a_grown0 a_times0 a_values0 hs I hlo hhi
    have e : s = cn := by omega
    subst e
    refine ⟨F, L, f_position0, a_first0, a_blockCount0, a_startBit0, a_bitCount0, a_sampleCount0, a_firstNumber0, a_fromTime0, a_toTime0, a_fromValue0, a_toValue0, a_total0, a_smallest0, a_greatest0, a_grown0, a_times0, a_values0, I, hlo, fun post hp => br_t ?_ hp⟩
    rw [I.1]; exact Int32.le_refl _
  | succ d ih =>
    intro s F L f_position0 a_first0 a_blockCount0 a_startBit0 a_bitCount0 a_sampleCount0 a_firstNumber0 a_fromTime0 a_toTime0 a_fromValue0 a_toValue0 a_total0 a_smallest0 a_greatest0 a_grown0 a_times0 a_values0 hs I hlo hhi
    obtain ⟨h1, h2, h3, h4, hci, h6, h7, h8, h9, h10⟩ := I
    have hsc : s < cn := by omega
    obtain ⟨hcn, _, _, hse, _⟩ := id hci
    obtain ⟨hhs, hls⟩ := hse s hsc
    obtain ⟨⟨p1, p2, p3, p4, p5, p6, p7⟩, pu⟩ := h8 s hsc
    obtain ⟨k1, k2, k3⟩ := h6 s hsc
    have hE := ci_hist_E hhs
    have hcs : (nI s).toNatClampNeg = s := nI_clamp (by omega)
    have his : vp_in (nI s) 8 := vp_in_nI (by omega) (by omega)
    obtain ⟨m, pp, ts, vs, m1, m2, m3, m4, W⟩ := cx_first f_seriesCount f_safeCount f_arenaEnd f_position0 f_foundCount f_foundSum f_foundLeast f_foundMost f_foundGrowth f_before f_hasBefore f_levelNow a_labelsOf a_first0 a_end a_safeFirst a_safeEnd a_lastTime a_safeLast a_having a_blockCount0 a_startBit0 a_bitCount0 a_sampleCount0 a_firstNumber0 a_fromTime0 a_toTime0 a_fromValue0 a_toValue0 a_total0 a_smallest0 a_greatest0 a_grown0 a_bits a_lastStep a_times0 a_values0 hci hsc k1 p1 p6 t
    have hSF : s < sn → a_safeFirst s = nI (SF s) ∧ a_safeEnd s = nI (SE s) ∧ SF s < 2 ^ 31 ∧ SE s < 2 ^ 31 := fun z => by
      obtain ⟨g1, g2, _⟩ := h7 s z
      obtain ⟨q1, q2, _⟩ := p7 (decide_eq_true z)
      exact ⟨g1, g2, by omega, by omega⟩
    obtain ⟨a_blockCount2, a_startBit2, a_bitCount2, a_sampleCount2, a_firstNumber2, a_fromTime2, a_toTime2, a_fromValue2, a_toValue2, a_total2, a_smallest2, a_greatest2, a_grown2, I2, W2⟩ := cx_drop f_seriesCount f_safeCount f_arenaEnd pp f_foundCount f_foundSum f_foundLeast f_foundMost f_foundGrowth f_before f_hasBefore f_levelNow a_labelsOf (upd a_first0 s (nI m)) a_end a_safeFirst a_safeEnd a_lastTime a_safeLast a_having a_blockCount0 a_startBit0 a_bitCount0 a_sampleCount0 a_firstNumber0 a_fromTime0 a_toTime0 a_fromValue0 a_toValue0 a_total0 a_smallest0 a_greatest0 a_grown0 a_bits a_lastStep ts vs (F := m) hci hsc pk_us (by omega) h2 (by omega) hSF
    have I3 : xi_ok cn sn lb (up_f F s m) E SF SE LT SLT T V (up_f L s ((L s).filter (ls_use m (SF s) (SE s) (decide (s < sn))))) P ae f_seriesCount f_safeCount f_arenaEnd a_labelsOf (upd a_first0 s (nI m)) a_end a_safeFirst a_safeEnd a_lastTime a_safeLast a_having a_blockCount2 a_startBit2 a_bitCount2 a_sampleCount2 a_firstNumber2 a_fromTime2 a_toTime2 a_fromValue2 a_toValue2 a_total2 a_smallest2 a_greatest2 a_grown2 a_bits a_lastStep := by
      refine ⟨h1, h2, h3, h4, I2, fun s' hs' => ?_, h7, fun s' hs' => ?_, h9, h10⟩
      · by_cases e : s' = s
        · subst e; rw [pk_us, up_s]; exact ⟨rfl, k2, k3⟩
        · rw [pk_un e, up_o e]; exact h6 s' hs'
      · by_cases e : s' = s
        · subst e
          rw [up_s, up_s]
          exact se_drop ⟨m2, by omega, p3, p4, p5, fun n n1 n2 => p6 n (by omega) n2, p7⟩
        · rw [up_o e, up_o e]; exact h8 s' hs'
    have hF0 := hhi s (Nat.le_refl _)
    obtain ⟨F', L', f_position1, a_first1, a_blockCount1, a_startBit1, a_bitCount1, a_sampleCount1, a_firstNumber1, a_fromTime1, a_toTime1, a_fromValue1, a_toValue1, a_total1, a_smallest1, a_greatest1, a_grown1, a_times1, a_values1, I1, hsp, W1⟩ := ih (s + 1) (up_f F s m) _ pp (upd a_first0 s (nI m)) a_blockCount2 a_startBit2 a_bitCount2 a_sampleCount2 a_firstNumber2 a_fromTime2 a_toTime2 a_fromValue2 a_toValue2 a_total2 a_smallest2 a_greatest2 a_grown2 ts vs (by omega) I3 (fun s' hs' => by
      by_cases e : s' = s
      · subst e; rw [up_s, ← hF0]; exact ⟨m1, m2, m3, m4⟩
      · rw [up_o e]; exact hlo s' (by omega)) (fun s' hs' => by rw [up_o (by omega)]; exact hhi s' (by omega))
    refine ⟨F', L', f_position1, a_first1, a_blockCount1, a_startBit1, a_bitCount1, a_sampleCount1, a_firstNumber1, a_fromTime1, a_toTime1, a_fromValue1, a_toValue1, a_total1, a_smallest1, a_greatest1, a_grown1, a_times1, a_values1, I1, hsp, fun post hp => br_f (by rw [h1]; exact nI_ge hsc (by omega)) (W _ ⟨his, nm_r (e' := nI (sx_sum (fun j => up_f F s m j - F0 j) (s + 1))) ?_ ⟨his, nm_r (e' := upd a_first0 s (nI m)) (by rw [hcs]) (W2 _ (nm_r (nI_1 s) (W1 post hp)))⟩⟩)⟩
    rw [hcs, k1, pk_sub m1, nI_add]
    simp only [sx_sum]
    rw [sx_congr (f := fun j => up_f F s m j - F0 j) (g := fun j => F j - F0 j) s (fun i hi => by rw [up_lt hi]), up_s, ← hF0]
theorem xx_expire (f_seriesCount f_safeCount f_arenaEnd f_position f_foundCount f_foundSum f_foundLeast f_foundMost f_foundGrowth f_before f_hasBefore f_levelNow : Int32) (a_labelsOf a_first a_end a_safeFirst a_safeEnd a_lastTime a_safeLast a_having a_blockCount a_startBit a_bitCount a_sampleCount a_firstNumber a_fromTime a_toTime a_fromValue a_toValue a_total a_smallest a_greatest a_grown a_bits a_lastStep a_times a_values : Nat → Int32) {cn sn : Nat} {lb F E SF SE : Nat → Nat} {LT SLT : Nat → Int32} {T V : Nat → Nat → Int32} {L : Nat → List bk_T} {P : Nat → Nat → Nat} {ae : Nat} (I : xi_ok cn sn lb F E SF SE LT SLT T V L P ae f_seriesCount f_safeCount f_arenaEnd a_labelsOf a_first a_end a_safeFirst a_safeEnd a_lastTime a_safeLast a_having a_blockCount a_startBit a_bitCount a_sampleCount a_firstNumber a_fromTime a_toTime a_fromValue a_toValue a_total a_smallest a_greatest a_grown a_bits a_lastStep) (t : Int32) :
      ∃ (F' : Nat → Nat) (L' : Nat → List bk_T), ∃ (f_position1 : Int32) (a_first1 a_blockCount1 a_startBit1 a_bitCount1 a_sampleCount1 a_firstNumber1 a_fromTime1 a_toTime1 a_fromValue1 a_toValue1 a_total1 a_smallest1 a_greatest1 a_grown1 a_times1 a_values1 : Nat → Int32), xi_ok cn sn lb F' E SF SE LT SLT T V L' P ae f_seriesCount f_safeCount f_arenaEnd a_labelsOf a_first1 a_end a_safeFirst a_safeEnd a_lastTime a_safeLast a_having a_blockCount1 a_startBit1 a_bitCount1 a_sampleCount1 a_firstNumber1 a_fromTime1 a_toTime1 a_fromValue1 a_toValue1 a_total1 a_smallest1 a_greatest1 a_grown1 a_bits a_lastStep ∧ (∀ s', s' < cn → ex_sp (T s') (F s') (E s') t (F' s')) ∧
        ∀ post : Int32 → SX → Prop, post (nI (sx_sum (fun j => F' j - F j) cn)) (f_seriesCount, f_safeCount, f_arenaEnd, f_position1, f_foundCount, f_foundSum, f_foundLeast, f_foundMost, f_foundGrowth, f_before, f_hasBefore, f_levelNow, a_labelsOf, a_first1, a_end, a_safeFirst, a_safeEnd, a_lastTime, a_safeLast, a_having, a_blockCount1, a_startBit1, a_bitCount1, a_sampleCount1, a_firstNumber1, a_fromTime1, a_toTime1, a_fromValue1, a_toValue1, a_total1, a_smallest1, a_greatest1, a_grown1, a_bits, a_lastStep, a_times1, a_values1) → wpX_expire post (f_seriesCount, f_safeCount, f_arenaEnd, f_position, f_foundCount, f_foundSum, f_foundLeast, f_foundMost, f_foundGrowth, f_before, f_hasBefore, f_levelNow, a_labelsOf, a_first, a_end, a_safeFirst, a_safeEnd, a_lastTime, a_safeLast, a_having, a_blockCount, a_startBit, a_bitCount, a_sampleCount, a_firstNumber, a_fromTime, a_toTime, a_fromValue, a_toValue, a_total, a_smallest, a_greatest, a_grown, a_bits, a_lastStep, a_times, a_values) t := by
  obtain ⟨F', L', f_position1, a_first1, a_blockCount1, a_startBit1, a_bitCount1, a_sampleCount1, a_firstNumber1, a_fromTime1, a_toTime1, a_fromValue1, a_toValue1, a_total1, a_smallest1, a_greatest1, a_grown1, a_times1, a_values1, I1, hsp, W1⟩ := xx_expire_l f_seriesCount f_safeCount f_arenaEnd f_position f_foundCount f_foundSum f_foundLeast f_foundMost f_foundGrowth f_before f_hasBefore f_levelNow a_labelsOf a_first a_end a_safeFirst a_safeEnd a_lastTime a_safeLast a_having a_blockCount a_startBit a_bitCount a_sampleCount a_firstNumber a_fromTime a_toTime a_fromValue a_toValue a_total a_smallest a_greatest a_grown a_bits a_lastStep a_times a_values (F0 := F) t cn 0 F L f_position a_first a_blockCount a_startBit a_bitCount a_sampleCount a_firstNumber a_fromTime a_toTime a_fromValue a_toValue a_total a_smallest a_greatest a_grown a_times a_values (by omega) I (fun s' h => by omega) (fun _ _ => rfl)
  exact ⟨F', L', f_position1, a_first1, a_blockCount1, a_startBit1, a_bitCount1, a_sampleCount1, a_firstNumber1, a_fromTime1, a_toTime1, a_fromValue1, a_toValue1, a_total1, a_smallest1, a_greatest1, a_grown1, a_times1, a_values1, I1, hsp, fun post hp => ⟨cn + 1, W1 post hp⟩⟩
end
section
/-! the component: sync, crash -/
/-- first, end and last of a series, apart from its blocks -/
def se_num (T : Nat → Int32) (F E : Nat) (LT : Int32) : Prop := F ≤ E ∧ E ≤ F + 32 ∧ (∀ n, n < E → (T n).toInt ≤ LT.toInt) ∧ -1 ≤ LT.toInt ∧ LT.toInt ≤ 999
theorem se_same {T : Nat → Int32} {l : List bk_T} {F E : Nat} {LT : Int32} {sf : Bool} (h : se_num T F E LT) (hc : cv_all l F E) : se_pre T l F E F E LT LT sf :=
  ⟨h.1, h.2.1, h.2.2.1, h.2.2.2.1, h.2.2.2.2, hc, fun _ => ⟨h.1, Nat.le_refl _, h.2.1, h.2.2.1, h.2.2.2.1, h.2.2.2.2, hc⟩⟩
theorem xx_sync_l (f_seriesCount f_safeCount f_arenaEnd f_position f_foundCount f_foundSum f_foundLeast f_foundMost f_foundGrowth f_before f_hasBefore f_levelNow : Int32) (a_labelsOf a_first a_end a_safeFirst a_safeEnd a_lastTime a_safeLast a_having a_blockCount a_startBit a_bitCount a_sampleCount a_firstNumber a_fromTime a_toTime a_fromValue a_toValue a_total a_smallest a_greatest a_grown a_bits a_lastStep a_times a_values : Nat → Int32) {cn : Nat} {F E : Nat → Nat} {LT : Nat → Int32} {T V : Nat → Nat → Int32} {P : Nat → Nat → Nat} {ae : Nat} (hfs : f_seriesCount = nI cn) (hfn : f_safeCount = nI cn) (hnum : ∀ s, s < cn → se_num (T s) (F s) (E s) (LT s)) (harr : ∀ s, s < cn → a_first s = nI (F s) ∧ a_end s = nI (E s) ∧ a_lastTime s = LT s) :
    ∀ (d s : Nat) (L : Nat → List bk_T) (a_safeFirst0 a_safeEnd0 a_safeLast0 a_blockCount0 a_startBit0 a_bitCount0 a_sampleCount0 a_firstNumber0 a_fromTime0 a_toTime0 a_fromValue0 a_toValue0 a_total0 a_smallest0 a_greatest0 a_grown0 : Nat → Int32), s + d = cn → ci_ok cn T V L P E ae a_blockCount0 a_startBit0 a_bitCount0 a_sampleCount0 a_firstNumber0 a_fromTime0 a_toTime0 a_fromValue0 a_toValue0 a_total0 a_smallest0 a_greatest0 a_grown0 a_bits a_lastStep → (∀ s', s' < s → a_safeFirst0 s' = nI (F s') ∧ a_safeEnd0 s' = nI (E s') ∧ a_safeLast0 s' = LT s' ∧ se_ok (T s') (L s') (F s') (E s') (F s') (E s') (LT s') (LT s') true) → (∀ s', s' < cn → cv_all (L s') (F s') (E s')) →
      ∃ (L' : Nat → List bk_T), ∃ (a_safeFirst1 a_safeEnd1 a_safeLast1 a_blockCount1 a_startBit1 a_bitCount1 a_sampleCount1 a_firstNumber1 a_fromTime1 a_toTime1 a_fromValue1 a_toValue1 a_total1 a_smallest1 a_greatest1 a_grown1 : Nat → Int32), ci_ok cn T V L' P E ae a_blockCount1 a_startBit1 a_bitCount1 a_sampleCount1 a_firstNumber1 a_fromTime1 a_toTime1 a_fromValue1 a_toValue1 a_total1 a_smallest1 a_greatest1 a_grown1 a_bits a_lastStep ∧ (∀ s', s' < cn → a_safeFirst1 s' = nI (F s') ∧ a_safeEnd1 s' = nI (E s') ∧ a_safeLast1 s' = LT s' ∧ se_ok (T s') (L' s') (F s') (E s') (F s') (E s') (LT s') (LT s') true) ∧
        ∀ post : SX → Prop, post (f_seriesCount, f_safeCount, f_arenaEnd, f_position, f_foundCount, f_foundSum, f_foundLeast, f_foundMost, f_foundGrowth, f_before, f_hasBefore, f_levelNow, a_labelsOf, a_first, a_end, a_safeFirst1, a_safeEnd1, a_lastTime, a_safeLast1, a_having, a_blockCount1, a_startBit1, a_bitCount1, a_sampleCount1, a_firstNumber1, a_fromTime1, a_toTime1, a_fromValue1, a_toValue1, a_total1, a_smallest1, a_greatest1, a_grown1, a_bits, a_lastStep, a_times, a_values) → wX_sync_10 post (d + 1) (nI s) f_seriesCount f_safeCount f_arenaEnd f_position f_foundCount f_foundSum f_foundLeast f_foundMost f_foundGrowth f_before f_hasBefore f_levelNow a_labelsOf a_first a_end a_safeFirst0 a_safeEnd0 a_lastTime a_safeLast0 a_having a_blockCount0 a_startBit0 a_bitCount0 a_sampleCount0 a_firstNumber0 a_fromTime0 a_toTime0 a_fromValue0 a_toValue0 a_total0 a_smallest0 a_greatest0 a_grown0 a_bits a_lastStep a_times a_values := by
  intro d
  induction d with
  | zero =>
    intro s L a_safeFirst0 a_safeEnd0 a_safeLast0 a_blockCount0 a_startBit0 a_bitCount0 a_sampleCount0 a_firstNumber0 a_fromTime0 a_toTime0 a_fromValue0 a_toValue0 a_total0 a_smallest0 a_greatest0 a_grown0 hs I hlo hc
    have e : s = cn := by omega
    subst e
    refine ⟨L, a_safeFirst0, a_safeEnd0, a_safeLast0, a_blockCount0, a_startBit0, a_bitCount0, a_sampleCount0, a_firstNumber0, a_fromTime0, a_toTime0, a_fromValue0, a_toValue0, a_total0, a_smallest0, a_greatest0, a_grown0, I, hlo, fun post hp => br_t ?_ hp⟩
    rw [hfs]; exact Int32.le_refl _
  | succ d ih =>
    intro s L a_safeFirst0 a_safeEnd0 a_safeLast0 a_blockCount0 a_startBit0 a_bitCount0 a_sampleCount0 a_firstNumber0 a_fromTime0 a_toTime0 a_fromValue0 a_toValue0 a_total0 a_smallest0 a_greatest0 a_grown0 hs I hlo hc
    have hsc : s < cn := by omega
    obtain ⟨hcn, _, _, hse, _⟩ := id I
    have hE := ci_hist_E (hse s hsc).1
    obtain ⟨k1, k2, k3⟩ := harr s hsc
    have hn := hnum s hsc
    have hcs : (nI s).toNatClampNeg = s := nI_clamp (by omega)
    have his : vp_in (nI s) 8 := vp_in_nI (by omega) (by omega)
    have hn1 := hn.1
    have hn4 := hn.2.2.2.1
    have hn5 := hn.2.2.2.2
    obtain ⟨a_blockCount2, a_startBit2, a_bitCount2, a_sampleCount2, a_firstNumber2, a_fromTime2, a_toTime2, a_fromValue2, a_toValue2, a_total2, a_smallest2, a_greatest2, a_grown2, I2, W2⟩ := cx_drop f_seriesCount f_safeCount f_arenaEnd f_position f_foundCount f_foundSum f_foundLeast f_foundMost f_foundGrowth f_before f_hasBefore f_levelNow a_labelsOf a_first a_end (upd a_safeFirst0 s (nI (F s))) (upd a_safeEnd0 s (nI (E s))) a_lastTime (upd a_safeLast0 s (LT s)) a_having a_blockCount0 a_startBit0 a_bitCount0 a_sampleCount0 a_firstNumber0 a_fromTime0 a_toTime0 a_fromValue0 a_toValue0 a_total0 a_smallest0 a_greatest0 a_grown0 a_bits a_lastStep a_times a_values (F := F s) (SF := F s) (SE := E s) I hsc k1 (by omega) hfn hcn (fun _ => ⟨pk_us, pk_us, by omega, by omega⟩)
    rw [decide_eq_true hsc] at I2
    obtain ⟨L', a_safeFirst1, a_safeEnd1, a_safeLast1, a_blockCount1, a_startBit1, a_bitCount1, a_sampleCount1, a_firstNumber1, a_fromTime1, a_toTime1, a_fromValue1, a_toValue1, a_total1, a_smallest1, a_greatest1, a_grown1, I1, hlo1, W1⟩ := ih (s + 1) _ (upd a_safeFirst0 s (nI (F s))) (upd a_safeEnd0 s (nI (E s))) (upd a_safeLast0 s (LT s)) a_blockCount2 a_startBit2 a_bitCount2 a_sampleCount2 a_firstNumber2 a_fromTime2 a_toTime2 a_fromValue2 a_toValue2 a_total2 a_smallest2 a_greatest2 a_grown2 (by omega) I2 (fun s' hs' => by
      by_cases e : s' = s
      · subst e
        rw [pk_us, pk_us, pk_us, up_s]
        exact ⟨rfl, rfl, rfl, se_drop (se_same hn (hc s' hsc))⟩
      · rw [pk_un e, pk_un e, pk_un e, up_o e]; exact hlo s' (by omega)) (fun s' hs' => by
      by_cases e : s' = s
      · subst e
        rw [up_s]
        exact (se_drop (sf := true) (se_same hn (hc s' hsc))).1.2.2.2.2.2.1
      · rw [up_o e]; exact hc s' hs')
    refine ⟨L', a_safeFirst1, a_safeEnd1, a_safeLast1, a_blockCount1, a_startBit1, a_bitCount1, a_sampleCount1, a_firstNumber1, a_fromTime1, a_toTime1, a_fromValue1, a_toValue1, a_total1, a_smallest1, a_greatest1, a_grown1, I1, hlo1, fun post hp => br_f (by rw [hfs]; exact nI_ge hsc (by omega)) ⟨his, his, nm_r (e' := upd a_safeFirst0 s (nI (F s))) (by rw [hcs, k1]) ⟨his, his, nm_r (e' := upd a_safeEnd0 s (nI (E s))) (by rw [hcs, k2]) ⟨his, his, nm_r (e' := upd a_safeLast0 s (LT s)) ?_ (W2 _ (nm_r (nI_1 s) (W1 post hp)))⟩⟩⟩⟩
    rw [hcs, k3, ba_s0 (by omega) (by omega)]
theorem xx_sync (f_seriesCount f_safeCount f_arenaEnd f_position f_foundCount f_foundSum f_foundLeast f_foundMost f_foundGrowth f_before f_hasBefore f_levelNow : Int32) (a_labelsOf a_first a_end a_safeFirst a_safeEnd a_lastTime a_safeLast a_having a_blockCount a_startBit a_bitCount a_sampleCount a_firstNumber a_fromTime a_toTime a_fromValue a_toValue a_total a_smallest a_greatest a_grown a_bits a_lastStep a_times a_values : Nat → Int32) {cn sn : Nat} {lb F E SF SE : Nat → Nat} {LT SLT : Nat → Int32} {T V : Nat → Nat → Int32} {L : Nat → List bk_T} {P : Nat → Nat → Nat} {ae : Nat} (I : xi_ok cn sn lb F E SF SE LT SLT T V L P ae f_seriesCount f_safeCount f_arenaEnd a_labelsOf a_first a_end a_safeFirst a_safeEnd a_lastTime a_safeLast a_having a_blockCount a_startBit a_bitCount a_sampleCount a_firstNumber a_fromTime a_toTime a_fromValue a_toValue a_total a_smallest a_greatest a_grown a_bits a_lastStep) :
      ∃ (L' : Nat → List bk_T), ∃ (a_safeFirst1 a_safeEnd1 a_safeLast1 a_blockCount1 a_startBit1 a_bitCount1 a_sampleCount1 a_firstNumber1 a_fromTime1 a_toTime1 a_fromValue1 a_toValue1 a_total1 a_smallest1 a_greatest1 a_grown1 : Nat → Int32), xi_ok cn cn lb F E F E LT LT T V L' P ae f_seriesCount (nI cn) f_arenaEnd a_labelsOf a_first a_end a_safeFirst1 a_safeEnd1 a_lastTime a_safeLast1 a_having a_blockCount1 a_startBit1 a_bitCount1 a_sampleCount1 a_firstNumber1 a_fromTime1 a_toTime1 a_fromValue1 a_toValue1 a_total1 a_smallest1 a_greatest1 a_grown1 a_bits a_lastStep ∧
        ∀ post : SX → Prop, post (f_seriesCount, nI cn, f_arenaEnd, f_position, f_foundCount, f_foundSum, f_foundLeast, f_foundMost, f_foundGrowth, f_before, f_hasBefore, f_levelNow, a_labelsOf, a_first, a_end, a_safeFirst1, a_safeEnd1, a_lastTime, a_safeLast1, a_having, a_blockCount1, a_startBit1, a_bitCount1, a_sampleCount1, a_firstNumber1, a_fromTime1, a_toTime1, a_fromValue1, a_toValue1, a_total1, a_smallest1, a_greatest1, a_grown1, a_bits, a_lastStep, a_times, a_values) → wpX_sync post (f_seriesCount, f_safeCount, f_arenaEnd, f_position, f_foundCount, f_foundSum, f_foundLeast, f_foundMost, f_foundGrowth, f_before, f_hasBefore, f_levelNow, a_labelsOf, a_first, a_end, a_safeFirst, a_safeEnd, a_lastTime, a_safeLast, a_having, a_blockCount, a_startBit, a_bitCount, a_sampleCount, a_firstNumber, a_fromTime, a_toTime, a_fromValue, a_toValue, a_total, a_smallest, a_greatest, a_grown, a_bits, a_lastStep, a_times, a_values) := by
  obtain ⟨h1, h2, h3, h4, hci, h6, h7, h8, h9, h10⟩ := I
  obtain ⟨L', a_safeFirst1, a_safeEnd1, a_safeLast1, a_blockCount1, a_startBit1, a_bitCount1, a_sampleCount1, a_firstNumber1, a_fromTime1, a_toTime1, a_fromValue1, a_toValue1, a_total1, a_smallest1, a_greatest1, a_grown1, I1, hlo1, W1⟩ := xx_sync_l f_seriesCount (nI cn) f_arenaEnd f_position f_foundCount f_foundSum f_foundLeast f_foundMost f_foundGrowth f_before f_hasBefore f_levelNow a_labelsOf a_first a_end a_safeFirst a_safeEnd a_lastTime a_safeLast a_having a_blockCount a_startBit a_bitCount a_sampleCount a_firstNumber a_fromTime a_toTime a_fromValue a_toValue a_total a_smallest a_greatest a_grown a_bits a_lastStep a_times a_values h1 rfl (fun s hs => by
    obtain ⟨⟨p1, p2, p3, p4, p5, _⟩, _⟩ := h8 s hs
    exact ⟨p1, p2, p3, p4, p5⟩) h6 cn 0 L a_safeFirst a_safeEnd a_safeLast a_blockCount a_startBit a_bitCount a_sampleCount a_firstNumber a_fromTime a_toTime a_fromValue a_toValue a_total a_smallest a_greatest a_grown (by omega) hci (fun s' h => by omega) (fun s' hs' => (h8 s' hs').1.2.2.2.2.2.1)
  refine ⟨L', a_safeFirst1, a_safeEnd1, a_safeLast1, a_blockCount1, a_startBit1, a_bitCount1, a_sampleCount1, a_firstNumber1, a_fromTime1, a_toTime1, a_fromValue1, a_toValue1, a_total1, a_smallest1, a_greatest1, a_grown1, ⟨h1, rfl, h3, Nat.le_refl _, I1, h6, fun s hs => ?_, fun s hs => ?_, h9, h10⟩, fun post hp => ⟨cn + 1, ?_⟩⟩
  · obtain ⟨g1, g2, g3, _⟩ := hlo1 s hs
    exact ⟨g1, g2, g3⟩
  · rw [decide_eq_true hs]; exact (hlo1 s hs).2.2.2
  · have := W1 post hp
    rw [← h1] at this
    exact this
/-! crash -/
theorem ba_bits8 {x : Int32} (h : ∀ b, 8 ≤ b → b < 32 → bt x b = false) : 0 ≤ x.toInt ∧ x.toInt < 256 := by
  have h1 : x.toBitVec.toNat < 2 ^ 8 := Nat.lt_pow_two_of_testBit _ (fun i hi => by
    rcases Nat.lt_or_ge i 32 with z | z
    · exact h i hi z
    · exact Nat.testBit_lt_two_pow (Nat.lt_of_lt_of_le x.toBitVec.isLt (Nat.pow_le_pow_right (by decide) z)))
  have e : x.toInt = x.toBitVec.toInt := rfl
  rw [e, BitVec.toInt_eq_toNat_of_lt (by omega)]
  omega
theorem wx_forget_l (f_seriesCount f_safeCount f_arenaEnd f_position f_foundCount f_foundSum f_foundLeast f_foundMost f_foundGrowth f_before f_hasBefore f_levelNow : Int32) (a_labelsOf a_first a_end a_safeFirst a_safeEnd a_lastTime a_safeLast a_having a_blockCount a_startBit a_bitCount a_sampleCount a_firstNumber a_fromTime a_toTime a_fromValue a_toValue a_total a_smallest a_greatest a_grown a_bits a_lastStep a_times a_values : Nat → Int32) {s : Nat} (hs : s < 8) (hv0 : Nat → Int32) (h8 : ∀ i, i < 12 → ∀ b, 8 ≤ b → b < 32 → bt (hv0 i) b = false) :
    ∀ (d k : Nat) (hv : Nat → Int32), k + d = 12 → (∀ i, i < 12 → k ≤ i → hv i = hv0 i) → (∀ i, i < k → ∀ b, b < 32 → bt (hv i) b = (bt (hv0 i) b && !decide (b = s))) →
      ∃ hv' : Nat → Int32, (∀ i, i < 12 → ∀ b, b < 32 → bt (hv' i) b = (bt (hv0 i) b && !decide (b = s))) ∧
        ∀ post : SX → Prop, post (f_seriesCount, f_safeCount, f_arenaEnd, f_position, f_foundCount, f_foundSum, f_foundLeast, f_foundMost, f_foundGrowth, f_before, f_hasBefore, f_levelNow, a_labelsOf, a_first, a_end, a_safeFirst, a_safeEnd, a_lastTime, a_safeLast, hv', a_blockCount, a_startBit, a_bitCount, a_sampleCount, a_firstNumber, a_fromTime, a_toTime, a_fromValue, a_toValue, a_total, a_smallest, a_greatest, a_grown, a_bits, a_lastStep, a_times, a_values) → wX_forgetSeries_9 post (nI s) f_seriesCount f_safeCount f_arenaEnd f_position f_foundCount f_foundSum f_foundLeast f_foundMost f_foundGrowth f_before f_hasBefore f_levelNow (d + 1) (nI k) a_labelsOf a_first a_end a_safeFirst a_safeEnd a_lastTime a_safeLast hv a_blockCount a_startBit a_bitCount a_sampleCount a_firstNumber a_fromTime a_toTime a_fromValue a_toValue a_total a_smallest a_greatest a_grown a_bits a_lastStep a_times a_values := by
  intro d
  induction d with
  | zero =>
    intro k hv hk h1 h2
    have e : k = 12 := by omega
    subst e
    exact ⟨hv, h2, fun post hp => br_t (by decide) hp⟩
  | succ d ih =>
    intro k hv hk h1 h2
    have hck : (nI k).toNatClampNeg = k := nI_clamp (by omega)
    have hik : vp_in (nI k) 12 := vp_in_nI (by omega) (by omega)
    have hbit : ∀ b, b < 32 → bt (hv0 k &&& (((1 : Int32) <<< (nI s &&& 31)) ^^^ (-1))) b = (bt (hv0 k) b && !decide (b = s)) := fun b hb => by
      rw [b_and, b_xor, bi_mask (by omega) hb, b_m1 b hb, Bool.xor_true]
    have hr := ba_bits8 (x := hv0 k &&& (((1 : Int32) <<< (nI s &&& 31)) ^^^ (-1))) (fun b b1 b2 => by rw [hbit b b2, h8 k (by omega) b b1 b2, Bool.false_and])
    obtain ⟨hv', q1, W⟩ := ih (k + 1) (upd hv k (hv0 k &&& (((1 : Int32) <<< (nI s &&& 31)) ^^^ (-1)))) (by omega) (fun i hi hk' => by rw [pk_un (by omega)]; exact h1 i hi (by omega)) (fun i hi b hb => by
      by_cases e : i = k
      · subst e; rw [pk_us]; exact hbit b hb
      · rw [pk_un e]; exact h2 i (by omega) b hb)
    refine ⟨hv', q1, fun post hp => br_f (nI_ge (b := 12) (by omega) (by omega)) ⟨hik, hik, nm_r (e' := upd hv k (hv0 k &&& (((1 : Int32) <<< (nI s &&& 31)) ^^^ (-1)))) ?_ (nm_r (nI_1 k) (W post hp))⟩⟩
    rw [hck, h1 k (by omega) (Nat.le_refl _), ba_s (by omega) (by omega)]
theorem wx_forget (f_seriesCount f_safeCount f_arenaEnd f_position f_foundCount f_foundSum f_foundLeast f_foundMost f_foundGrowth f_before f_hasBefore f_levelNow : Int32) (a_labelsOf a_first a_end a_safeFirst a_safeEnd a_lastTime a_safeLast a_having a_blockCount a_startBit a_bitCount a_sampleCount a_firstNumber a_fromTime a_toTime a_fromValue a_toValue a_total a_smallest a_greatest a_grown a_bits a_lastStep a_times a_values : Nat → Int32) {s : Nat} (hs : s < 8) (h8 : ∀ i, i < 12 → ∀ b, 8 ≤ b → b < 32 → bt (a_having i) b = false) : ∃ hv' : Nat → Int32, (∀ i, i < 12 → ∀ b, b < 32 → bt (hv' i) b = (bt (a_having i) b && !decide (b = s))) ∧
        ∀ post : SX → Prop, post (f_seriesCount, f_safeCount, f_arenaEnd, f_position, f_foundCount, f_foundSum, f_foundLeast, f_foundMost, f_foundGrowth, f_before, f_hasBefore, f_levelNow, a_labelsOf, a_first, a_end, a_safeFirst, a_safeEnd, a_lastTime, a_safeLast, hv', upd a_blockCount s 0, a_startBit, a_bitCount, a_sampleCount, a_firstNumber, a_fromTime, a_toTime, a_fromValue, a_toValue, a_total, a_smallest, a_greatest, a_grown, a_bits, a_lastStep, a_times, a_values) → wpX_forgetSeries post (f_seriesCount, f_safeCount, f_arenaEnd, f_position, f_foundCount, f_foundSum, f_foundLeast, f_foundMost, f_foundGrowth, f_before, f_hasBefore, f_levelNow, a_labelsOf, a_first, a_end, a_safeFirst, a_safeEnd, a_lastTime, a_safeLast, a_having, a_blockCount, a_startBit, a_bitCount, a_sampleCount, a_firstNumber, a_fromTime, a_toTime, a_fromValue, a_toValue, a_total, a_smallest, a_greatest, a_grown, a_bits, a_lastStep, a_times, a_values) (nI s) := by
  obtain ⟨hv', q1, W⟩ := wx_forget_l f_seriesCount f_safeCount f_arenaEnd f_position f_foundCount f_foundSum f_foundLeast f_foundMost f_foundGrowth f_before f_hasBefore f_levelNow a_labelsOf a_first a_end a_safeFirst a_safeEnd a_lastTime a_safeLast a_having (upd a_blockCount s 0) a_startBit a_bitCount a_sampleCount a_firstNumber a_fromTime a_toTime a_fromValue a_toValue a_total a_smallest a_greatest a_grown a_bits a_lastStep a_times a_values hs a_having h8 12 0 a_having (by omega) (fun _ _ _ => rfl) (fun i hi => by omega)
  have hcs : (nI s).toNatClampNeg = s := nI_clamp (by omega)
  exact ⟨hv', q1, fun post hp => ⟨vp_in_nI hs (by omega), nm_r (e' := upd a_blockCount s 0) (by rw [hcs]; exact congrArg _ (ba_bn0 (n := 0) (by omega))) ⟨13, W post hp⟩⟩⟩
/-- all series from sn on are forgotten -/
theorem xx_crash41 (f_seriesCount f_safeCount f_arenaEnd f_position f_foundCount f_foundSum f_foundLeast f_foundMost f_foundGrowth f_before f_hasBefore f_levelNow : Int32) (a_labelsOf a_first a_end a_safeFirst a_safeEnd a_lastTime a_safeLast a_having a_blockCount a_startBit a_bitCount a_sampleCount a_firstNumber a_fromTime a_toTime a_fromValue a_toValue a_total a_smallest a_greatest a_grown a_bits a_lastStep a_times a_values : Nat → Int32) {cn sn : Nat} (hcn : cn ≤ 8) (hfn : f_safeCount = nI sn) (x1 : Int32) :
    ∀ (d : Nat) (hv bc : Nat → Int32), sn + d ≤ cn → (∀ i, i < 12 → ∀ b, sn + d ≤ b → b < 32 → bt (hv i) b = false) →
      ∃ hv' bc' : Nat → Int32, (∀ i, i < 12 → ∀ b, b < 32 → bt (hv' i) b = (bt (hv i) b && decide (b < sn))) ∧ (∀ s', s' < sn → bc' s' = bc s') ∧
        ∀ post : Int32 → SX → Prop, (∃ n70 : Nat, wX_crash_70 post n70 x1 0 (nI sn) f_safeCount f_arenaEnd f_position f_foundCount f_foundSum f_foundLeast f_foundMost f_foundGrowth f_before f_hasBefore f_levelNow a_labelsOf a_first a_end a_safeFirst a_safeEnd a_lastTime a_safeLast hv' bc' a_startBit a_bitCount a_sampleCount a_firstNumber a_fromTime a_toTime a_fromValue a_toValue a_total a_smallest a_greatest a_grown a_bits a_lastStep a_times a_values) → wX_crash_41 post x1 (d + 1) (nI (sn + d) - 1) f_seriesCount f_safeCount f_arenaEnd f_position f_foundCount f_foundSum f_foundLeast f_foundMost f_foundGrowth f_before f_hasBefore f_levelNow a_labelsOf a_first a_end a_safeFirst a_safeEnd a_lastTime a_safeLast hv bc a_startBit a_bitCount a_sampleCount a_firstNumber a_fromTime a_toTime a_fromValue a_toValue a_total a_smallest a_greatest a_grown a_bits a_lastStep a_times a_values := by
  intro d
  induction d with
  | zero =>
    intro hv bc hd h8
    refine ⟨hv, bc, fun i hi b hb => ?_, fun _ _ => rfl, fun post hp => br_t ?_ ?_⟩
    · rcases Nat.lt_or_ge b sn with z | z
      · rw [decide_eq_true z, Bool.and_true]
      · rw [h8 i hi b z hb, Bool.false_and]
    · rw [hfn, ba_lt, Nat.add_zero]
      have e := pk_sub_toInt (a := sn) (b := 1) (by omega) (by omega)
      rw [show nI 1 = 1 from rfl] at e
      rw [e, nI_toInt (by omega)]; omega
    · rw [← hfn] at hp; exact hp
  | succ d ih =>
    intro hv bc hd h8
    obtain ⟨hv1, q1, W1⟩ := wx_forget f_seriesCount f_safeCount f_arenaEnd f_position f_foundCount f_foundSum f_foundLeast f_foundMost f_foundGrowth f_before f_hasBefore f_levelNow a_labelsOf a_first a_end a_safeFirst a_safeEnd a_lastTime a_safeLast hv bc a_startBit a_bitCount a_sampleCount a_firstNumber a_fromTime a_toTime a_fromValue a_toValue a_total a_smallest a_greatest a_grown a_bits a_lastStep a_times a_values (s := sn + d) (by omega) (fun i hi b b1 b2 => h8 i hi b (by omega) b2)
    obtain ⟨hv', bc', r1, r2, W⟩ := ih hv1 (upd bc (sn + d) 0) (by omega) (fun i hi b b1 b2 => by
      rw [q1 i hi b b2]
      by_cases e : b = sn + d
      · rw [decide_eq_true e, Bool.not_true, Bool.and_false]
      · rw [h8 i hi b (by omega) b2, Bool.false_and])
    refine ⟨hv', bc', fun i hi b hb => ?_, fun s' hs' => by rw [r2 s' hs', pk_un (by omega)], fun post hp => ?_⟩
    · rw [r1 i hi b hb, q1 i hi b hb, Bool.and_assoc]
      congr 1
      by_cases e : b < sn
      · rw [decide_eq_true e, decide_eq_false (by omega)]; rfl
      · rw [decide_eq_false e, Bool.and_false]
    · have e1 : nI (sn + (d + 1)) - 1 = nI (sn + d) := nI_pred (sn + d)
      rw [e1]
      refine br_f ?_ (W1 _ (nm_r (e' := nI (sn + d) - 1) ?_ (W post hp)))
      · rw [hfn]; exact nI_nlt (by omega) (by omega)
      · grind
theorem xx_crash70 (f_seriesCount f_safeCount f_arenaEnd f_position f_foundCount f_foundSum f_foundLeast f_foundMost f_foundGrowth f_before f_hasBefore f_levelNow : Int32) (a_labelsOf a_first a_end a_safeFirst a_safeEnd a_lastTime a_safeLast a_having a_blockCount a_startBit a_bitCount a_sampleCount a_firstNumber a_fromTime a_toTime a_fromValue a_toValue a_total a_smallest a_greatest a_grown a_bits a_lastStep a_times a_values : Nat → Int32) {sn : Nat} {SF SE : Nat → Nat} {SLT : Nat → Int32} {T V : Nat → Nat → Int32} {A : Nat} (hfs : f_seriesCount = nI sn) (hfn : f_safeCount = nI sn) (hnum : ∀ s, s < sn → se_num (T s) (SF s) (SE s) (SLT s)) (harr : ∀ s, s < sn → a_safeFirst s = nI (SF s) ∧ a_safeEnd s = nI (SE s) ∧ a_safeLast s = SLT s) :
    ∀ (d s : Nat) (L : Nat → List bk_T) (P : Nat → Nat → Nat) (E : Nat → Nat) (ae : Nat) (f_position0 : Int32) (a_first0 a_end0 a_lastTime0 a_blockCount0 a_startBit0 a_bitCount0 a_sampleCount0 a_firstNumber0 a_fromTime0 a_toTime0 a_fromValue0 a_toValue0 a_total0 a_smallest0 a_greatest0 a_grown0 a_bits0 a_lastStep0 a_times0 a_values0 : Nat → Int32), s + d = sn → ci_ok sn T V L P E ae a_blockCount0 a_startBit0 a_bitCount0 a_sampleCount0 a_firstNumber0 a_fromTime0 a_toTime0 a_fromValue0 a_toValue0 a_total0 a_smallest0 a_greatest0 a_grown0 a_bits0 a_lastStep0 → (∀ s', s' < sn → (L s').length ≤ 10 ∧ cv_all (L s') (SF s') (SE s') ∧ SE s' ≤ E s') → (∀ s', s' < s → E s' = SE s' ∧ a_first0 s' = nI (SF s') ∧ a_end0 s' = nI (SE s') ∧ a_lastTime0 s' = SLT s' ∧ se_ok (T s') (L s') (SF s') (SE s') (SF s') (SE s') (SLT s') (SLT s') true) →
      ∃ (L' : Nat → List bk_T) (P' : Nat → Nat → Nat) (E' : Nat → Nat) (ae' : Nat), ∃ (f_position1 : Int32) (a_first1 a_end1 a_lastTime1 a_blockCount1 a_startBit1 a_bitCount1 a_sampleCount1 a_firstNumber1 a_fromTime1 a_toTime1 a_fromValue1 a_toValue1 a_total1 a_smallest1 a_greatest1 a_grown1 a_bits1 a_lastStep1 a_times1 a_values1 : Nat → Int32), ci_ok sn T V L' P' E' ae' a_blockCount1 a_startBit1 a_bitCount1 a_sampleCount1 a_firstNumber1 a_fromTime1 a_toTime1 a_fromValue1 a_toValue1 a_total1 a_smallest1 a_greatest1 a_grown1 a_bits1 a_lastStep1 ∧ (∀ s', s' < sn → E' s' = SE s' ∧ a_first1 s' = nI (SF s') ∧ a_end1 s' = nI (SE s') ∧ a_lastTime1 s' = SLT s' ∧ se_ok (T s') (L' s') (SF s') (SE s') (SF s') (SE s') (SLT s') (SLT s') true) ∧
        ∀ post : Int32 → SX → Prop, post (nI A - nI (sx_sum (fun j => SE j - SF j) sn)) (f_seriesCount, f_safeCount, nI ae', f_position1, f_foundCount, f_foundSum, f_foundLeast, f_foundMost, f_foundGrowth, f_before, f_hasBefore, f_levelNow, a_labelsOf, a_first1, a_end1, a_safeFirst, a_safeEnd, a_lastTime1, a_safeLast, a_having, a_blockCount1, a_startBit1, a_bitCount1, a_sampleCount1, a_firstNumber1, a_fromTime1, a_toTime1, a_fromValue1, a_toValue1, a_total1, a_smallest1, a_greatest1, a_grown1, a_bits1, a_lastStep1, a_times1, a_values1) → wX_crash_70 post (d + 1) (nI A - nI (sx_sum (fun j => SE j - SF j) s)) (nI s) f_seriesCount f_safeCount (nI ae) f_position0 f_foundCount f_foundSum f_foundLeast f_foundMost f_foundGrowth f_before f_hasBefore f_levelNow a_labelsOf a_first0 a_end0 a_safeFirst a_safeEnd a_lastTime0 a_safeLast a_having a_blockCount0 a_startBit0 a_bitCount0 a_sampleCount0 a_firstNumber0 a_fromTime0 a_toTime0 a_fromValue0 a_toValue0 a_total0 a_smallest0 a_greatest0 a_grown0 a_bits0 a_lastStep0 a_times0 a_values0 := by
  intro d
  induction d with
  | zero =>
    intro s L P E ae f_position0 a_first0 a_end0 a_lastTime0 a_blockCount0 a_startBit0 a_bitCount0 a_sampleCount0 a_firstNumber0 a_fromTime0 a_toTime0 a_fromValue0 a_toValue0 a_total0 a_smallest0 a_greatest0 a_grown0 a_bits0 a_lastStep0 a_times0 a_values0 hs I hc hlo
    have e : s = sn := by omega
    subst e
    refine ⟨L, P, E, ae, f_position0, a_first0, a_end0, a_lastTime0, a_blockCount0, a_startBit0, a_bitCount0, a_sampleCount0, a_firstNumber0, a_fromTime0, a_toTime0, a_fromValue0, a_toValue0, a_total0, a_smallest0, a_greatest0, a_grown0, a_bits0, a_lastStep0, a_times0, a_values0, I, hlo, fun post hp => br_t ?_ hp⟩
    rw [hfs]; exact Int32.le_refl _
  | succ d ih =>
    intro s L P E ae f_position0 a_first0 a_end0 a_lastTime0 a_blockCount0 a_startBit0 a_bitCount0 a_sampleCount0 a_firstNumber0 a_fromTime0 a_toTime0 a_fromValue0 a_toValue0 a_total0 a_smallest0 a_greatest0 a_grown0 a_bits0 a_lastStep0 a_times0 a_values0 hs I hc hlo
    have hsc : s < sn := by omega
    obtain ⟨hcn, _, _, hse, _⟩ := id I
    have hE := ci_hist_E (hse s hsc).1
    obtain ⟨k1, k2, k3⟩ := harr s hsc
    obtain ⟨c1, c2, c3⟩ := hc s hsc
    have hn := hnum s hsc
    have hn1 := hn.1
    have hn4 := hn.2.2.2.1
    have hn5 := hn.2.2.2.2
    have hcs : (nI s).toNatClampNeg = s := nI_clamp (by omega)
    have his : vp_in (nI s) 8 := vp_in_nI (by omega) (by omega)
    obtain ⟨l', P2, ae2, f_position2, a_end2, a_blockCount2, a_startBit2, a_bitCount2, a_sampleCount2, a_firstNumber2, a_fromTime2, a_toTime2, a_fromValue2, a_toValue2, a_total2, a_smallest2, a_greatest2, a_grown2, a_bits2, a_lastStep2, a_times2, a_values2, I2, hcov, hl', he2, W2⟩ := cx_cutBack f_seriesCount f_safeCount (nI ae) f_position0 f_foundCount f_foundSum f_foundLeast f_foundMost f_foundGrowth f_before f_hasBefore f_levelNow a_labelsOf a_first0 a_end0 a_safeFirst a_safeEnd a_lastTime0 a_safeLast a_having a_blockCount0 a_startBit0 a_bitCount0 a_sampleCount0 a_firstNumber0 a_fromTime0 a_toTime0 a_fromValue0 a_toValue0 a_total0 a_smallest0 a_greatest0 a_grown0 a_bits0 a_lastStep0 a_times0 a_values0 I hfs rfl hsc (fun s' hs' => (hc s' hs').1) c3
    have hcv2 : cv_all l' (SF s) (SE s) := fun n n1 n2 => hcov n n2 (c2 n n1 n2)
    obtain ⟨a_blockCount3, a_startBit3, a_bitCount3, a_sampleCount3, a_firstNumber3, a_fromTime3, a_toTime3, a_fromValue3, a_toValue3, a_total3, a_smallest3, a_greatest3, a_grown3, I3, W3⟩ := cx_drop f_seriesCount f_safeCount (nI ae2) f_position2 f_foundCount f_foundSum f_foundLeast f_foundMost f_foundGrowth f_before f_hasBefore f_levelNow a_labelsOf (upd a_first0 s (nI (SF s))) (upd a_end2 s (nI (SE s))) a_safeFirst a_safeEnd (upd a_lastTime0 s (SLT s)) a_safeLast a_having a_blockCount2 a_startBit2 a_bitCount2 a_sampleCount2 a_firstNumber2 a_fromTime2 a_toTime2 a_fromValue2 a_toValue2 a_total2 a_smallest2 a_greatest2 a_grown2 a_bits2 a_lastStep2 a_times2 a_values2 (F := SF s) (SF := SF s) (SE := SE s) I2 hsc pk_us (by omega) hfn hcn (fun _ => ⟨k1, k2, by omega, by omega⟩)
    rw [decide_eq_true hsc, up_s, up_up] at I3
    have hok := se_drop (sf := true) (se_same hn hcv2)
    obtain ⟨L', P', E', ae', f_position1, a_first1, a_end1, a_lastTime1, a_blockCount1, a_startBit1, a_bitCount1, a_sampleCount1, a_firstNumber1, a_fromTime1, a_toTime1, a_fromValue1, a_toValue1, a_total1, a_smallest1, a_greatest1, a_grown1, a_bits1, a_lastStep1, a_times1, a_values1, I1, hlo1, W1⟩ := ih (s + 1) _ P2 _ ae2 f_position2 (upd a_first0 s (nI (SF s))) (upd a_end2 s (nI (SE s))) (upd a_lastTime0 s (SLT s)) a_blockCount3 a_startBit3 a_bitCount3 a_sampleCount3 a_firstNumber3 a_fromTime3 a_toTime3 a_fromValue3 a_toValue3 a_total3 a_smallest3 a_greatest3 a_grown3 a_bits2 a_lastStep2 a_times2 a_values2 (by omega) I3 (fun s' hs' => by
      by_cases e : s' = s
      · subst e
        rw [up_s, up_s]
        exact ⟨Nat.le_trans (List.length_filter_le _ _) hl', hok.1.2.2.2.2.2.1, Nat.le_refl _⟩
      · rw [up_o e, up_o e]; exact hc s' hs') (fun s' hs' => by
      by_cases e : s' = s
      · subst e
        rw [up_s, pk_us, pk_us, pk_us, up_s]
        exact ⟨rfl, rfl, rfl, rfl, hok⟩
      · rw [up_o e, pk_un e, pk_un e, pk_un e, up_o e, he2 s' e]; exact hlo s' (by omega))
    refine ⟨L', P', E', ae', f_position1, a_first1, a_end1, a_lastTime1, a_blockCount1, a_startBit1, a_bitCount1, a_sampleCount1, a_firstNumber1, a_fromTime1, a_toTime1, a_fromValue1, a_toValue1, a_total1, a_smallest1, a_greatest1, a_grown1, a_bits1, a_lastStep1, a_times1, a_values1, I1, hlo1, fun post hp => br_f (by rw [hfs]; exact nI_ge hsc (by omega)) ⟨his, ?_⟩⟩
    rw [hcs, k2]
    refine W2 _ ⟨his, his, nm_r (e' := upd a_first0 s (nI (SF s))) (by rw [k1]) ⟨his, his, nm_r (e' := upd a_end2 s (nI (SE s))) (by rw [k2]) ⟨his, his, nm_r (e' := upd a_lastTime0 s (SLT s)) ?_ ⟨his, his, nm_r (e' := nI A - nI (sx_sum (fun j => SE j - SF j) (s + 1))) ?_ (W3 _ (nm_r (nI_1 s) (W1 post hp)))⟩⟩⟩⟩
    · rw [k3, ba_s0 (by omega) (by omega)]
    · rw [pk_us, pk_us, pk_sub hn1]
      simp only [sx_sum]
      rw [← nI_add]; grind
theorem xx_crash (f_seriesCount f_safeCount f_arenaEnd f_position f_foundCount f_foundSum f_foundLeast f_foundMost f_foundGrowth f_before f_hasBefore f_levelNow : Int32) (a_labelsOf a_first a_end a_safeFirst a_safeEnd a_lastTime a_safeLast a_having a_blockCount a_startBit a_bitCount a_sampleCount a_firstNumber a_fromTime a_toTime a_fromValue a_toValue a_total a_smallest a_greatest a_grown a_bits a_lastStep a_times a_values : Nat → Int32) {cn sn : Nat} {lb F E SF SE : Nat → Nat} {LT SLT : Nat → Int32} {T V : Nat → Nat → Int32} {L : Nat → List bk_T} {P : Nat → Nat → Nat} {ae : Nat} (I : xi_ok cn sn lb F E SF SE LT SLT T V L P ae f_seriesCount f_safeCount f_arenaEnd a_labelsOf a_first a_end a_safeFirst a_safeEnd a_lastTime a_safeLast a_having a_blockCount a_startBit a_bitCount a_sampleCount a_firstNumber a_fromTime a_toTime a_fromValue a_toValue a_total a_smallest a_greatest a_grown a_bits a_lastStep) :
      ∃ (L' : Nat → List bk_T) (P' : Nat → Nat → Nat) (ae' : Nat), ∃ (f_position1 : Int32) (a_first1 a_end1 a_lastTime1 a_having1 a_blockCount1 a_startBit1 a_bitCount1 a_sampleCount1 a_firstNumber1 a_fromTime1 a_toTime1 a_fromValue1 a_toValue1 a_total1 a_smallest1 a_greatest1 a_grown1 a_bits1 a_lastStep1 a_times1 a_values1 : Nat → Int32), xi_ok sn sn lb SF SE SF SE SLT SLT T V L' P' ae' (nI sn) f_safeCount (nI ae') a_labelsOf a_first1 a_end1 a_safeFirst a_safeEnd a_lastTime1 a_safeLast a_having1 a_blockCount1 a_startBit1 a_bitCount1 a_sampleCount1 a_firstNumber1 a_fromTime1 a_toTime1 a_fromValue1 a_toValue1 a_total1 a_smallest1 a_greatest1 a_grown1 a_bits1 a_lastStep1 ∧
        ∀ post : Int32 → SX → Prop, post (nI (sx_sum (fun j => E j - F j) cn) - nI (sx_sum (fun j => SE j - SF j) sn)) (nI sn, f_safeCount, nI ae', f_position1, f_foundCount, f_foundSum, f_foundLeast, f_foundMost, f_foundGrowth, f_before, f_hasBefore, f_levelNow, a_labelsOf, a_first1, a_end1, a_safeFirst, a_safeEnd, a_lastTime1, a_safeLast, a_having1, a_blockCount1, a_startBit1, a_bitCount1, a_sampleCount1, a_firstNumber1, a_fromTime1, a_toTime1, a_fromValue1, a_toValue1, a_total1, a_smallest1, a_greatest1, a_grown1, a_bits1, a_lastStep1, a_times1, a_values1) → wpX_crash post (f_seriesCount, f_safeCount, f_arenaEnd, f_position, f_foundCount, f_foundSum, f_foundLeast, f_foundMost, f_foundGrowth, f_before, f_hasBefore, f_levelNow, a_labelsOf, a_first, a_end, a_safeFirst, a_safeEnd, a_lastTime, a_safeLast, a_having, a_blockCount, a_startBit, a_bitCount, a_sampleCount, a_firstNumber, a_fromTime, a_toTime, a_fromValue, a_toValue, a_total, a_smallest, a_greatest, a_grown, a_bits, a_lastStep, a_times, a_values) := by
  obtain ⟨h1, h2, h3, h4, hci, h6, h7, h8, h9, h10⟩ := I
  obtain ⟨hcn, hae, hrow, hse, henc, hdis⟩ := id hci
  obtain ⟨hv', bc', q1, q2, W41⟩ := xx_crash41 f_seriesCount f_safeCount f_arenaEnd f_position f_foundCount f_foundSum f_foundLeast f_foundMost f_foundGrowth f_before f_hasBefore f_levelNow a_labelsOf a_first a_end a_safeFirst a_safeEnd a_lastTime a_safeLast a_having a_blockCount a_startBit a_bitCount a_sampleCount a_firstNumber a_fromTime a_toTime a_fromValue a_toValue a_total a_smallest a_greatest a_grown a_bits a_lastStep a_times a_values (cn := cn) (sn := sn) hcn h2 (nI (sx_sum (fun j => E j - F j) cn)) (cn - sn) a_having a_blockCount (by omega) (fun i hi b b1 b2 => by
    rw [h10 i hi b b2, decide_eq_false (by omega), Bool.false_and])
  have I2 : ci_ok sn T V L P E ae bc' a_startBit a_bitCount a_sampleCount a_firstNumber a_fromTime a_toTime a_fromValue a_toValue a_total a_smallest a_greatest a_grown a_bits a_lastStep := by
    refine ⟨by omega, hae, fun s hs => ?_, fun s hs => hse s (by omega), fun s hs => henc s (by omega), fun s1 g1 a1 ha1 s2 g2 => hdis s1 (by omega) a1 ha1 s2 (by omega)⟩
    rw [q2 s hs]; exact hrow s (by omega)
  have hsafe : ∀ s, s < sn → se_num (T s) (SF s) (SE s) (SLT s) ∧ cv_all (L s) (SF s) (SE s) ∧ SE s ≤ E s := fun s hs => by
    obtain ⟨k1, k2, k3, k4, k5, k6, k7⟩ := (h8 s (by omega)).1.2.2.2.2.2.2 (decide_eq_true hs)
    exact ⟨⟨k1, k3, k4, k5, k6⟩, k7, k2⟩
  obtain ⟨L', P', E', ae', f_position1, a_first1, a_end1, a_lastTime1, a_blockCount1, a_startBit1, a_bitCount1, a_sampleCount1, a_firstNumber1, a_fromTime1, a_toTime1, a_fromValue1, a_toValue1, a_total1, a_smallest1, a_greatest1, a_grown1, a_bits1, a_lastStep1, a_times1, a_values1, I1, hlo1, W1⟩ := xx_crash70 (nI sn) f_safeCount f_arenaEnd f_position f_foundCount f_foundSum f_foundLeast f_foundMost f_foundGrowth f_before f_hasBefore f_levelNow a_labelsOf a_first a_end a_safeFirst a_safeEnd a_lastTime a_safeLast hv' bc' a_startBit a_bitCount a_sampleCount a_firstNumber a_fromTime a_toTime a_fromValue a_toValue a_total a_smallest a_greatest a_grown a_bits a_lastStep a_times a_values (A := sx_sum (fun j => E j - F j) cn) rfl h2 (fun s hs => (hsafe s hs).1) h7 sn 0 L P E ae f_position a_first a_end a_lastTime bc' a_startBit a_bitCount a_sampleCount a_firstNumber a_fromTime a_toTime a_fromValue a_toValue a_total a_smallest a_greatest a_grown a_bits a_lastStep a_times a_values (by omega) I2 (fun s hs => ⟨se_len (V := V s) (hse s (by omega)).2 (h8 s (by omega)), (hsafe s hs).2⟩) (fun s' h => by omega)
  have I3 : ci_ok sn T V L' P' SE ae' a_blockCount1 a_startBit1 a_bitCount1 a_sampleCount1 a_firstNumber1 a_fromTime1 a_toTime1 a_fromValue1 a_toValue1 a_total1 a_smallest1 a_greatest1 a_grown1 a_bits1 a_lastStep1 := by
    obtain ⟨t1, t2, t3, t4, t5, t6⟩ := I1
    refine ⟨t1, t2, t3, fun s hs => ?_, t5, t6⟩
    rw [← (hlo1 s hs).1]; exact t4 s hs
  refine ⟨L', P', ae', f_position1, a_first1, a_end1, a_lastTime1, hv', a_blockCount1, a_startBit1, a_bitCount1, a_sampleCount1, a_firstNumber1, a_fromTime1, a_toTime1, a_fromValue1, a_toValue1, a_total1, a_smallest1, a_greatest1, a_grown1, a_bits1, a_lastStep1, a_times1, a_values1, ⟨rfl, h2, rfl, Nat.le_refl _, I3, fun s hs => ?_, h7, fun s hs => ?_, fun s hs => h9 s (by omega), fun i hi b hb => ?_⟩, fun post hp => ⟨cn + 1, ?_⟩⟩
  · obtain ⟨_, g2, g3, g4, _⟩ := hlo1 s hs
    exact ⟨g2, g3, g4⟩
  · rw [decide_eq_true hs]; exact (hlo1 s hs).2.2.2.2
  · rw [q1 i hi b hb, h10 i hi b hb]
    by_cases e : b < sn
    · rw [decide_eq_true e, decide_eq_true (by omega : b < cn), Bool.and_true]
    · rw [decide_eq_false e, Bool.and_false, Bool.false_and]
  · have first : ∀ d s : Nat, s + d = cn → wX_crash_4 post f_seriesCount f_safeCount f_arenaEnd f_position f_foundCount f_foundSum f_foundLeast f_foundMost f_foundGrowth f_before f_hasBefore f_levelNow a_labelsOf a_first a_end a_safeFirst a_safeEnd a_lastTime a_safeLast a_having a_blockCount a_startBit a_bitCount a_sampleCount a_firstNumber a_fromTime a_toTime a_fromValue a_toValue a_total a_smallest a_greatest a_grown a_bits a_lastStep a_times a_values (d + 1) (nI (sx_sum (fun j => E j - F j) s)) (nI s) := by
      intro d
      induction d with
      | zero =>
        intro s hs
        have e : s = cn := by omega
        subst e
        refine br_t (by rw [h1]; exact Int32.le_refl _) (nm_r (e' := nI (sn + (s - sn)) - 1) (by rw [h1, Nat.add_sub_cancel' h4]) ⟨s - sn + 1, W41 post ⟨sn + 1, ?_⟩⟩)
        have := W1 post hp
        rw [show nI (sx_sum (fun j => SE j - SF j) 0) = 0 from rfl, Int32.sub_zero, ← h3] at this
        exact this
      | succ d ih =>
        intro s hs
        obtain ⟨k1, k2, _⟩ := h6 s (by omega)
        have hcs : (nI s).toNatClampNeg = s := nI_clamp (by omega)
        have his : vp_in (nI s) 8 := vp_in_nI (by omega) (by omega)
        refine br_f (by rw [h1]; exact nI_ge (by omega) (by omega)) ⟨his, his, nm_r (e' := nI (sx_sum (fun j => E j - F j) (s + 1))) ?_ (nm_r (nI_1 s) (ih (s + 1) (by omega)))⟩
        rw [hcs, k1, k2, pk_sub (h8 s (by omega)).1.1, nI_add]; rfl
    exact first cn 0 (by omega)
end
section
/-! the component: series, matching -/
theorem ba_p4 (k : Nat) : 2 ^ (2 * k) = 4 ^ k := by rw [Nat.pow_mul]
theorem ba_le63 {l : Nat} (h : l < 64) : nI l ≤ 63 := nI_le (b := 63) (by omega) (by omega)
section
variable {f_seriesCount f_safeCount f_arenaEnd f_position f_foundCount f_foundSum f_foundLeast f_foundMost f_foundGrowth f_before f_hasBefore f_levelNow : Int32} {a_labelsOf a_first a_end a_safeFirst a_safeEnd a_lastTime a_safeLast a_having a_blockCount a_startBit a_bitCount a_sampleCount a_firstNumber a_fromTime a_toTime a_fromValue a_toValue a_total a_smallest a_greatest a_grown a_bits a_lastStep a_times a_values : Nat → Int32}
theorem wx_ser_there {post : Int32 → SX → Prop} {cn l : Nat} {lb : Nat → Nat} (hcn : cn ≤ 8) (hfs : f_seriesCount = nI cn) (hlb : ∀ s, s < cn → a_labelsOf s = nI (lb s) ∧ lb s < 64) (hl : l < 64) (hp : post (-10002) (f_seriesCount, f_safeCount, f_arenaEnd, f_position, f_foundCount, f_foundSum, f_foundLeast, f_foundMost, f_foundGrowth, f_before, f_hasBefore, f_levelNow, a_labelsOf, a_first, a_end, a_safeFirst, a_safeEnd, a_lastTime, a_safeLast, a_having, a_blockCount, a_startBit, a_bitCount, a_sampleCount, a_firstNumber, a_fromTime, a_toTime, a_fromValue, a_toValue, a_total, a_smallest, a_greatest, a_grown, a_bits, a_lastStep, a_times, a_values)) :
    ∀ d s : Nat, s + d = cn → (∃ s', s ≤ s' ∧ s' < cn ∧ lb s' = l) → wX_series_16 post (nI l) f_seriesCount f_safeCount f_arenaEnd f_position f_foundCount f_foundSum f_foundLeast f_foundMost f_foundGrowth f_before f_hasBefore f_levelNow a_labelsOf a_first a_end a_safeFirst a_safeEnd a_lastTime a_safeLast a_having a_blockCount a_startBit a_bitCount a_sampleCount a_firstNumber a_fromTime a_toTime a_fromValue a_toValue a_total a_smallest a_greatest a_grown a_bits a_lastStep a_times a_values (d + 1) (nI s) := by
  intro d
  induction d with
  | zero => intro s hs ⟨s', h1, h2, _⟩; omega
  | succ d ih =>
    intro s hs ⟨s', h1, h2, h3⟩
    have hcs : (nI s).toNatClampNeg = s := nI_clamp (by omega)
    obtain ⟨k1, k2⟩ := hlb s (by omega)
    refine br_f (by rw [hfs]; exact nI_ge (by omega) (by omega)) ⟨vp_in_nI (by omega) (by omega), br_c (fun _ => hp) (fun z => nm_r (nI_1 s) (ih (s + 1) (by omega) ⟨s', ?_, h2, h3⟩))⟩
    rcases Nat.eq_or_lt_of_le h1 with e | e
    · subst e
      exact absurd (by rw [hcs, k1, h3]) z
    · exact e
theorem wx_ser_none {post : Int32 → SX → Prop} {cn l : Nat} {lb : Nat → Nat} (hcn : cn ≤ 8) (hfs : f_seriesCount = nI cn) (hlb : ∀ s, s < cn → a_labelsOf s = nI (lb s) ∧ lb s < 64) (hl : l < 64) (hno : ∀ s, s < cn → lb s ≠ l) (K : wX_series_16 post (nI l) f_seriesCount f_safeCount f_arenaEnd f_position f_foundCount f_foundSum f_foundLeast f_foundMost f_foundGrowth f_before f_hasBefore f_levelNow a_labelsOf a_first a_end a_safeFirst a_safeEnd a_lastTime a_safeLast a_having a_blockCount a_startBit a_bitCount a_sampleCount a_firstNumber a_fromTime a_toTime a_fromValue a_toValue a_total a_smallest a_greatest a_grown a_bits a_lastStep a_times a_values 1 (nI cn)) :
    ∀ d s : Nat, s + d = cn → wX_series_16 post (nI l) f_seriesCount f_safeCount f_arenaEnd f_position f_foundCount f_foundSum f_foundLeast f_foundMost f_foundGrowth f_before f_hasBefore f_levelNow a_labelsOf a_first a_end a_safeFirst a_safeEnd a_lastTime a_safeLast a_having a_blockCount a_startBit a_bitCount a_sampleCount a_firstNumber a_fromTime a_toTime a_fromValue a_toValue a_total a_smallest a_greatest a_grown a_bits a_lastStep a_times a_values (d + 1) (nI s) := by
  intro d
  induction d with
  | zero =>
    intro s hs
    have e : s = cn := by omega
    subst e
    exact K
  | succ d ih =>
    intro s hs
    have hcs : (nI s).toNatClampNeg = s := nI_clamp (by omega)
    obtain ⟨k1, k2⟩ := hlb s (by omega)
    refine br_f (by rw [hfs]; exact nI_ge (by omega) (by omega)) ⟨vp_in_nI (by omega) (by omega), br_f ?_ (nm_r (nI_1 s) (ih (s + 1) (by omega)))⟩
    rw [hcs, k1, nI_eq (by omega) (by omega)]
    exact hno s (by omega)
end
theorem wx_ser110 (f_seriesCount f_safeCount f_arenaEnd f_position f_foundCount f_foundSum f_foundLeast f_foundMost f_foundGrowth f_before f_hasBefore f_levelNow : Int32) (a_labelsOf a_first a_end a_safeFirst a_safeEnd a_lastTime a_safeLast a_having a_blockCount a_startBit a_bitCount a_sampleCount a_firstNumber a_fromTime a_toTime a_fromValue a_toValue a_total a_smallest a_greatest a_grown a_bits a_lastStep a_times a_values : Nat → Int32) {cn l : Nat} {lb : Nat → Nat} (hcn : cn < 8) (hl : l < 64) (x1 x2 : Int32) (e1 : x1 = nI l) (e2 : x2 = nI cn) :
    ∀ (d k : Nat) (hv : Nat → Int32), k + d = 3 → (∀ i, i < 12 → ∀ b, b < 32 → bt (hv i) b = if i / 4 < k then (decide (b < cn + 1) && decide (up_f lb cn l b / 4 ^ (i / 4) % 4 = i % 4)) else (decide (b < cn) && decide (lb b / 4 ^ (i / 4) % 4 = i % 4))) →
      ∃ hv' : Nat → Int32, hv_ok (cn + 1) (up_f lb cn l) hv' ∧ ∀ post : Int32 → SX → Prop, post x2 (f_seriesCount, f_safeCount, f_arenaEnd, f_position, f_foundCount, f_foundSum, f_foundLeast, f_foundMost, f_foundGrowth, f_before, f_hasBefore, f_levelNow, a_labelsOf, a_first, a_end, a_safeFirst, a_safeEnd, a_lastTime, a_safeLast, hv', a_blockCount, a_startBit, a_bitCount, a_sampleCount, a_firstNumber, a_fromTime, a_toTime, a_fromValue, a_toValue, a_total, a_smallest, a_greatest, a_grown, a_bits, a_lastStep, a_times, a_values) → wX_series_110 post x1 x2 f_seriesCount f_safeCount f_arenaEnd f_position f_foundCount f_foundSum f_foundLeast f_foundMost f_foundGrowth f_before f_hasBefore f_levelNow (d + 1) (nI k) a_labelsOf a_first a_end a_safeFirst a_safeEnd a_lastTime a_safeLast hv a_blockCount a_startBit a_bitCount a_sampleCount a_firstNumber a_fromTime a_toTime a_fromValue a_toValue a_total a_smallest a_greatest a_grown a_bits a_lastStep a_times a_values := by
  subst e1 e2
  intro d
  induction d with
  | zero =>
    intro k hv hk h
    have e : k = 3 := by omega
    subst e
    exact ⟨hv, fun i hi b hb => by rw [h i hi b hb, if_pos (by omega)], fun post hp => br_t (by decide) hp⟩
  | succ d ih =>
    intro k hv hk h
    have ex : 4 * nI k + ((nI l >>> ((2 * nI k) &&& 31)) &&& 3) = nI (4 * k + l / 4 ^ k % 4) := by
      rw [show (2 : Int32) = nI 2 from rfl, pk_mul, pk_shrN (by omega) _ (2 * k) (s_l _ (by omega)), ba_p4, pk_andN (Nat.lt_of_le_of_lt (Nat.div_le_self _ _) (by omega)) 2 (by decide), show (4 : Int32) = nI 4 from rfl, pk_mul, nI_add]
    have hd4 : l / 4 ^ k % 4 < 4 := Nat.mod_lt _ (by omega)
    generalize hdd : l / 4 ^ k % 4 = dd at ex hd4
    have hix : vp_in (4 * nI k + ((nI l >>> ((2 * nI k) &&& 31)) &&& 3)) 12 := by rw [ex]; exact vp_in_nI (by omega) (by omega)
    have hcx : (4 * nI k + ((nI l >>> ((2 * nI k) &&& 31)) &&& 3)).toNatClampNeg = 4 * k + dd := by rw [ex]; exact nI_clamp (by omega)
    have hbit : ∀ b, b < 32 → bt (hv (4 * k + dd) ||| ((1 : Int32) <<< (nI cn &&& 31))) b = (decide (b < cn + 1) && decide (up_f lb cn l b / 4 ^ k % 4 = dd)) := fun b hb => by
      rw [b_or, bi_mask (by omega) hb, h (4 * k + dd) (by omega) b hb, if_neg (by omega), show (4 * k + dd) / 4 = k from by omega, show (4 * k + dd) % 4 = dd from by omega]
      by_cases e : b = cn
      · subst e
        rw [up_s, hdd, decide_eq_true rfl, decide_eq_true (by omega : b < b + 1), decide_eq_true rfl, Bool.or_true]; rfl
      · rw [up_o e, decide_eq_false e, Bool.or_false]
        by_cases e2 : b < cn
        · rw [decide_eq_true e2, decide_eq_true (by omega : b < cn + 1)]
        · rw [decide_eq_false e2, decide_eq_false (by omega : ¬ b < cn + 1)]
    have hr := ba_bits8 (x := hv (4 * k + dd) ||| ((1 : Int32) <<< (nI cn &&& 31))) (fun b b1 b2 => by rw [hbit b b2, decide_eq_false (by omega), Bool.false_and])
    obtain ⟨hv', q1, W⟩ := ih (k + 1) (upd hv (4 * k + dd) (hv (4 * k + dd) ||| ((1 : Int32) <<< (nI cn &&& 31)))) (by omega) (fun i hi b hb => by
      by_cases e : i = 4 * k + dd
      · subst e
        rw [pk_us, if_pos (by omega), hbit b hb, show (4 * k + dd) / 4 = k from by omega, show (4 * k + dd) % 4 = dd from by omega]
      · rw [pk_un e, h i hi b hb]
        by_cases e2 : i / 4 < k
        · rw [if_pos e2, if_pos (by omega)]
        · rw [if_neg e2]
          by_cases e3 : i / 4 < k + 1
          · rw [if_pos e3]
            have e4 : i / 4 = k := by omega
            rw [e4]
            by_cases e5 : b = cn
            · subst e5
              rw [up_s, hdd, decide_eq_false (by omega : ¬ b < b), decide_eq_false (by omega : ¬ dd = i % 4), Bool.and_false, Bool.false_and]
            · rw [up_o e5]
              by_cases e6 : b < cn
              · rw [decide_eq_true e6, decide_eq_true (by omega : b < cn + 1)]
              · rw [decide_eq_false e6, decide_eq_false (by omega : ¬ b < cn + 1)]
          · rw [if_neg e3])
    refine ⟨hv', q1, fun post hp => br_f (nI_ge (b := 3) (by omega) (by omega)) ⟨hix, hix, nm_r (e' := upd hv (4 * k + dd) (hv (4 * k + dd) ||| ((1 : Int32) <<< (nI cn &&& 31)))) ?_ (nm_r (nI_1 k) (W post hp))⟩⟩
    rw [hcx, ba_s (by omega) (by omega)]
theorem xx_new (f_seriesCount f_safeCount f_arenaEnd f_position f_foundCount f_foundSum f_foundLeast f_foundMost f_foundGrowth f_before f_hasBefore f_levelNow : Int32) (a_labelsOf a_first a_end a_safeFirst a_safeEnd a_lastTime a_safeLast a_having a_blockCount a_startBit a_bitCount a_sampleCount a_firstNumber a_fromTime a_toTime a_fromValue a_toValue a_total a_smallest a_greatest a_grown a_bits a_lastStep a_times a_values : Nat → Int32) {cn sn : Nat} {lb F E SF SE : Nat → Nat} {LT SLT : Nat → Int32} {T V : Nat → Nat → Int32} {L : Nat → List bk_T} {P : Nat → Nat → Nat} {ae : Nat} (I : xi_ok cn sn lb F E SF SE LT SLT T V L P ae f_seriesCount f_safeCount f_arenaEnd a_labelsOf a_first a_end a_safeFirst a_safeEnd a_lastTime a_safeLast a_having a_blockCount a_startBit a_bitCount a_sampleCount a_firstNumber a_fromTime a_toTime a_fromValue a_toValue a_total a_smallest a_greatest a_grown a_bits a_lastStep) {l : Nat} (hl : l < 64) (hno : ∀ s, s < cn → lb s ≠ l) (hc8 : cn < 8) :
    ∃ a_having1 : Nat → Int32, xi_ok (cn + 1) sn (up_f lb cn l) (up_f F cn 0) (up_f E cn 0) SF SE (up_f LT cn (-1)) SLT T V (up_f L cn []) P ae (nI (cn + 1)) f_safeCount f_arenaEnd (upd a_labelsOf cn (nI l)) (upd a_first cn 0) (upd a_end cn 0) a_safeFirst a_safeEnd (upd a_lastTime cn (-1)) a_safeLast a_having1 (upd a_blockCount cn 0) a_startBit a_bitCount a_sampleCount a_firstNumber a_fromTime a_toTime a_fromValue a_toValue a_total a_smallest a_greatest a_grown a_bits a_lastStep ∧
      ∀ post : Int32 → SX → Prop, post (nI cn) (nI (cn + 1), f_safeCount, f_arenaEnd, f_position, f_foundCount, f_foundSum, f_foundLeast, f_foundMost, f_foundGrowth, f_before, f_hasBefore, f_levelNow, upd a_labelsOf cn (nI l), upd a_first cn 0, upd a_end cn 0, a_safeFirst, a_safeEnd, upd a_lastTime cn (-1), a_safeLast, a_having1, upd a_blockCount cn 0, a_startBit, a_bitCount, a_sampleCount, a_firstNumber, a_fromTime, a_toTime, a_fromValue, a_toValue, a_total, a_smallest, a_greatest, a_grown, a_bits, a_lastStep, a_times, a_values) → wpX_series post (f_seriesCount, f_safeCount, f_arenaEnd, f_position, f_foundCount, f_foundSum, f_foundLeast, f_foundMost, f_foundGrowth, f_before, f_hasBefore, f_levelNow, a_labelsOf, a_first, a_end, a_safeFirst, a_safeEnd, a_lastTime, a_safeLast, a_having, a_blockCount, a_startBit, a_bitCount, a_sampleCount, a_firstNumber, a_fromTime, a_toTime, a_fromValue, a_toValue, a_total, a_smallest, a_greatest, a_grown, a_bits, a_lastStep, a_times, a_values) (nI l) := by
  obtain ⟨h1, h2, h3, h4, hci, h6, h7, h8, h9, h10⟩ := I
  obtain ⟨hcn, hae, hrow, hse, henc, hdis⟩ := hci
  obtain ⟨hv', q1, W⟩ := wx_ser110 (nI (cn + 1)) f_safeCount f_arenaEnd f_position f_foundCount f_foundSum f_foundLeast f_foundMost f_foundGrowth f_before f_hasBefore f_levelNow (upd a_labelsOf cn (nI l)) (upd a_first cn 0) (upd a_end cn 0) a_safeFirst a_safeEnd (upd a_lastTime cn (-1)) a_safeLast a_having (upd a_blockCount cn 0) a_startBit a_bitCount a_sampleCount a_firstNumber a_fromTime a_toTime a_fromValue a_toValue a_total a_smallest a_greatest a_grown a_bits a_lastStep a_times a_values (cn := cn) (l := l) (lb := lb) hc8 hl (nI l) f_seriesCount rfl h1 3 0 a_having (by omega) (fun i hi b hb => by rw [if_neg (by omega)]; exact h10 i hi b hb)
  refine ⟨hv', ⟨rfl, h2, h3, by omega, ⟨by omega, hae, fun s hs => ?_, fun s hs => ?_, fun s hs a ha => ?_, fun s1 g1 a1 ha1 s2 g2 a2 ha2 => ?_⟩, fun s hs => ?_, h7, fun s hs => ?_, fun s hs => ?_, q1⟩, fun post hp => ?_⟩
  · by_cases e : s = cn
    · subst e
      rw [up_s, pk_us]
      exact ⟨rfl, fun k a hk => by simp at hk⟩
    · rw [up_o e, pk_un e]; exact hrow s (by omega)
  · by_cases e : s = cn
    · subst e
      rw [up_s, up_s]
      exact ⟨⟨fun n hn => by omega, fun m n hm hn => by omega⟩, Nat.zero_le _, List.Pairwise.nil, fun a ha => by cases ha⟩
    · rw [up_o e, up_o e]; exact hse s (by omega)
  · by_cases e : s = cn
    · subst e
      rw [up_s] at ha
      cases ha
    · rw [up_o e] at ha; exact henc s (by omega) a ha
  · by_cases e : s1 = cn
    · subst e
      rw [up_s] at ha1
      cases ha1
    · by_cases e2 : s2 = cn
      · subst e2
        rw [up_s] at ha2
        cases ha2
      · rw [up_o e] at ha1
        rw [up_o e2] at ha2
        exact hdis s1 (by omega) a1 ha1 s2 (by omega) a2 ha2
  · by_cases e : s = cn
    · subst e
      rw [up_s, up_s, up_s, pk_us, pk_us, pk_us]
      exact ⟨rfl, rfl, rfl⟩
    · rw [up_o e, up_o e, up_o e, pk_un e, pk_un e, pk_un e]; exact h6 s (by omega)
  · by_cases e : s = cn
    · subst e
      rw [up_s, up_s, up_s, up_s, decide_eq_false (by omega)]
      exact ⟨⟨Nat.le_refl _, by omega, fun n hn => by omega, by rw [ba_m1]; omega, by rw [ba_m1]; omega, fun n n1 n2 => by omega, fun z => by cases z⟩, fun a ha => by cases ha⟩
    · rw [up_o e, up_o e, up_o e, up_o e]; exact h8 s (by omega)
  · by_cases e : s = cn
    · subst e
      rw [up_s, pk_us]; exact ⟨rfl, hl⟩
    · rw [up_o e, pk_un e]; exact h9 s (by omega)
  · have hcc : f_seriesCount.toNatClampNeg = cn := by rw [h1]; exact nI_clamp (by omega)
    have hic : vp_in f_seriesCount 8 := by rw [h1]; exact vp_in_nI hc8 (by omega)
    refine br_f (nI_pos (by omega)) (br_t (ba_le63 hl) ⟨cn + 1, wx_ser_none hcn h1 h9 hl hno ?_ cn 0 (by omega)⟩)
    refine br_t (by rw [h1]; exact Int32.le_refl _) (br_t (by rw [h1]; exact nI_lt (b := 8) hc8 (by omega)) (nm_r (e' := nI (cn + 1)) (by rw [h1, nI_1]) ⟨hic, nm_r (e' := upd a_labelsOf cn (nI l)) (by rw [hcc, ba_bn (by omega)]) ⟨hic, nm_r (e' := upd a_first cn 0) (by rw [hcc]) ⟨hic, nm_r (e' := upd a_end cn 0) (by rw [hcc]) ⟨hic, nm_r (e' := upd a_lastTime cn (-1)) ?_ ⟨hic, nm_r (e' := upd a_blockCount cn 0) ?_ ⟨4, W post ?_⟩⟩⟩⟩⟩⟩))
    · rw [hcc]; exact congrArg _ (ba_s0 (by rw [ba_m1]; omega) (by rw [ba_m1]; omega))
    · rw [hcc]; exact congrArg _ (ba_bn0 (n := 0) (by omega))
    · rw [h1]; exact hp
theorem xx_there (f_seriesCount f_safeCount f_arenaEnd f_position f_foundCount f_foundSum f_foundLeast f_foundMost f_foundGrowth f_before f_hasBefore f_levelNow : Int32) (a_labelsOf a_first a_end a_safeFirst a_safeEnd a_lastTime a_safeLast a_having a_blockCount a_startBit a_bitCount a_sampleCount a_firstNumber a_fromTime a_toTime a_fromValue a_toValue a_total a_smallest a_greatest a_grown a_bits a_lastStep a_times a_values : Nat → Int32) {cn sn : Nat} {lb F E SF SE : Nat → Nat} {LT SLT : Nat → Int32} {T V : Nat → Nat → Int32} {L : Nat → List bk_T} {P : Nat → Nat → Nat} {ae : Nat} (I : xi_ok cn sn lb F E SF SE LT SLT T V L P ae f_seriesCount f_safeCount f_arenaEnd a_labelsOf a_first a_end a_safeFirst a_safeEnd a_lastTime a_safeLast a_having a_blockCount a_startBit a_bitCount a_sampleCount a_firstNumber a_fromTime a_toTime a_fromValue a_toValue a_total a_smallest a_greatest a_grown a_bits a_lastStep) {l : Nat} (hl : l < 64) (hex : ∃ s, s < cn ∧ lb s = l) {post : Int32 → SX → Prop} (hp : post (-10002) (f_seriesCount, f_safeCount, f_arenaEnd, f_position, f_foundCount, f_foundSum, f_foundLeast, f_foundMost, f_foundGrowth, f_before, f_hasBefore, f_levelNow, a_labelsOf, a_first, a_end, a_safeFirst, a_safeEnd, a_lastTime, a_safeLast, a_having, a_blockCount, a_startBit, a_bitCount, a_sampleCount, a_firstNumber, a_fromTime, a_toTime, a_fromValue, a_toValue, a_total, a_smallest, a_greatest, a_grown, a_bits, a_lastStep, a_times, a_values)) : wpX_series post (f_seriesCount, f_safeCount, f_arenaEnd, f_position, f_foundCount, f_foundSum, f_foundLeast, f_foundMost, f_foundGrowth, f_before, f_hasBefore, f_levelNow, a_labelsOf, a_first, a_end, a_safeFirst, a_safeEnd, a_lastTime, a_safeLast, a_having, a_blockCount, a_startBit, a_bitCount, a_sampleCount, a_firstNumber, a_fromTime, a_toTime, a_fromValue, a_toValue, a_total, a_smallest, a_greatest, a_grown, a_bits, a_lastStep, a_times, a_values) (nI l) := by
  obtain ⟨h1, h2, h3, h4, hci, h6, h7, h8, h9, h10⟩ := I
  obtain ⟨s, s1, s2⟩ := hex
  exact br_f (nI_pos (by omega)) (br_t (ba_le63 hl) ⟨cn + 1, wx_ser_there hci.1 h1 h9 hl hp cn 0 (by omega) ⟨s, by omega, s1, s2⟩⟩)
theorem xx_full (f_seriesCount f_safeCount f_arenaEnd f_position f_foundCount f_foundSum f_foundLeast f_foundMost f_foundGrowth f_before f_hasBefore f_levelNow : Int32) (a_labelsOf a_first a_end a_safeFirst a_safeEnd a_lastTime a_safeLast a_having a_blockCount a_startBit a_bitCount a_sampleCount a_firstNumber a_fromTime a_toTime a_fromValue a_toValue a_total a_smallest a_greatest a_grown a_bits a_lastStep a_times a_values : Nat → Int32) {cn sn : Nat} {lb F E SF SE : Nat → Nat} {LT SLT : Nat → Int32} {T V : Nat → Nat → Int32} {L : Nat → List bk_T} {P : Nat → Nat → Nat} {ae : Nat} (I : xi_ok cn sn lb F E SF SE LT SLT T V L P ae f_seriesCount f_safeCount f_arenaEnd a_labelsOf a_first a_end a_safeFirst a_safeEnd a_lastTime a_safeLast a_having a_blockCount a_startBit a_bitCount a_sampleCount a_firstNumber a_fromTime a_toTime a_fromValue a_toValue a_total a_smallest a_greatest a_grown a_bits a_lastStep) {l : Nat} (hl : l < 64) (hno : ∀ s, s < cn → lb s ≠ l) (hc8 : cn = 8) {post : Int32 → SX → Prop} (hp : post (-10001) (f_seriesCount, f_safeCount, f_arenaEnd, f_position, f_foundCount, f_foundSum, f_foundLeast, f_foundMost, f_foundGrowth, f_before, f_hasBefore, f_levelNow, a_labelsOf, a_first, a_end, a_safeFirst, a_safeEnd, a_lastTime, a_safeLast, a_having, a_blockCount, a_startBit, a_bitCount, a_sampleCount, a_firstNumber, a_fromTime, a_toTime, a_fromValue, a_toValue, a_total, a_smallest, a_greatest, a_grown, a_bits, a_lastStep, a_times, a_values)) : wpX_series post (f_seriesCount, f_safeCount, f_arenaEnd, f_position, f_foundCount, f_foundSum, f_foundLeast, f_foundMost, f_foundGrowth, f_before, f_hasBefore, f_levelNow, a_labelsOf, a_first, a_end, a_safeFirst, a_safeEnd, a_lastTime, a_safeLast, a_having, a_blockCount, a_startBit, a_bitCount, a_sampleCount, a_firstNumber, a_fromTime, a_toTime, a_fromValue, a_toValue, a_total, a_smallest, a_greatest, a_grown, a_bits, a_lastStep, a_times, a_values) (nI l) := by
  obtain ⟨h1, h2, h3, h4, hci, h6, h7, h8, h9, h10⟩ := I
  exact br_f (nI_pos (by omega)) (br_t (ba_le63 hl) ⟨cn + 1, wx_ser_none hci.1 h1 h9 hl hno (br_t (by rw [h1]; exact Int32.le_refl _) (br_f (by rw [h1, hc8]; decide) hp)) cn 0 (by omega)⟩)

/-! ===== matchers ===== -/
def mt_k (l m k : Nat) : Bool := if m / 9 ^ k % 9 < 4 then decide (l / 4 ^ k % 4 = m / 9 ^ k % 9) else if m / 9 ^ k % 9 ≤ 4 then true else !decide (l / 4 ^ k % 4 = m / 9 ^ k % 9 - 5)
def mt_u (l m : Nat) : Nat → Bool
  | 0 => true
  | k + 1 => mt_u l m k && mt_k l m k
theorem mt_u_f {l m k : Nat} (h : mt_u l m k = false) : ∀ d, mt_u l m (k + d) = false
  | 0 => h
  | d + 1 => by
    show (mt_u l m (k + d) && mt_k l m (k + d)) = false
    rw [mt_u_f h d, Bool.false_and]
/-- S holds, as bits, the series that a matcher takes -/
def mt_set (cn : Nat) (lb : Nat → Nat) (m : Nat) (S : Int32) : Prop := ∀ s, s < 32 → bt S s = (decide (s < cn) && mt_u (lb s) m 3)
theorem mt_all : ∀ n, n < 9 → ∀ s, s < 32 → bt (((1 : Int32) <<< (nI n &&& 31)) - 1) s = decide (s < n) := by decide +kernel
section
variable {f_seriesCount f_safeCount f_arenaEnd f_position f_foundCount f_foundSum f_foundLeast f_foundMost f_foundGrowth f_before f_hasBefore f_levelNow : Int32} {a_labelsOf a_first a_end a_safeFirst a_safeEnd a_lastTime a_safeLast a_having a_blockCount a_startBit a_bitCount a_sampleCount a_firstNumber a_fromTime a_toTime a_fromValue a_toValue a_total a_smallest a_greatest a_grown a_bits a_lastStep a_times a_values : Nat → Int32}
theorem wx_isM1 {post : Int32 → Prop} {m : Nat} (hm : m ≤ 728) (hp : post 1) : wpX_isMatcher post (f_seriesCount, f_safeCount, f_arenaEnd, f_position, f_foundCount, f_foundSum, f_foundLeast, f_foundMost, f_foundGrowth, f_before, f_hasBefore, f_levelNow, a_labelsOf, a_first, a_end, a_safeFirst, a_safeEnd, a_lastTime, a_safeLast, a_having, a_blockCount, a_startBit, a_bitCount, a_sampleCount, a_firstNumber, a_fromTime, a_toTime, a_fromValue, a_toValue, a_total, a_smallest, a_greatest, a_grown, a_bits, a_lastStep, a_times, a_values) (nI m) :=
  br_f (nI_pos (by omega)) (br_f (nI_nlt (a := 728) hm (by omega)) hp)
theorem wx_isM0 {post : Int32 → Prop} {p : Int32} (hm : p < 0 ∨ 728 < p) (hp : post 0) : wpX_isMatcher post (f_seriesCount, f_safeCount, f_arenaEnd, f_position, f_foundCount, f_foundSum, f_foundLeast, f_foundMost, f_foundGrowth, f_before, f_hasBefore, f_levelNow, a_labelsOf, a_first, a_end, a_safeFirst, a_safeEnd, a_lastTime, a_safeLast, a_having, a_blockCount, a_startBit, a_bitCount, a_sampleCount, a_firstNumber, a_fromTime, a_toTime, a_fromValue, a_toValue, a_total, a_smallest, a_greatest, a_grown, a_bits, a_lastStep, a_times, a_values) p :=
  br_c (fun _ => hp) (fun z => br_t (hm.elim (fun y => absurd y z) id) hp)
theorem wx_mat_l {post : Int32 → Prop} {cn m : Nat} {lb : Nat → Nat} {x2 : Int32} (hcn : cn ≤ 8) (hh : hv_ok cn lb a_having) (hm : m ≤ 728) (hx2 : ∀ s, s < 32 → bt x2 s = decide (s < cn)) (H : ∀ S, mt_set cn lb m S → post S) :
    ∀ (d k : Nat) (S : Int32), k + d = 3 → (∀ s, s < 32 → bt S s = (decide (s < cn) && mt_u (lb s) m k)) → wX_matching_29 post x2 f_seriesCount f_safeCount f_arenaEnd f_position f_foundCount f_foundSum f_foundLeast f_foundMost f_foundGrowth f_before f_hasBefore f_levelNow a_labelsOf a_first a_end a_safeFirst a_safeEnd a_lastTime a_safeLast a_having a_blockCount a_startBit a_bitCount a_sampleCount a_firstNumber a_fromTime a_toTime a_fromValue a_toValue a_total a_smallest a_greatest a_grown a_bits a_lastStep a_times a_values (d + 1) S (nI (m / 9 ^ k)) (nI k) := by
  intro d
  induction d with
  | zero =>
    intro k S hk hS
    have e : k = 3 := by omega
    subst e
    refine br_t (by decide) (H _ (fun s hs => ?_))
    rw [b_and, hS s hs, hx2 s hs]
    cases decide (s < cn) <;> simp
  | succ d ih =>
    intro k S hk hS
    have hmk : m / 9 ^ k ≤ 728 := Nat.le_trans (Nat.div_le_self _ _) hm
    have hd9 : m / 9 ^ k % 9 < 9 := Nat.mod_lt _ (by omega)
    have e1 : nI (m / 9 ^ k) - nI (m / 9 ^ k) / 9 * 9 = nI (m / 9 ^ k % 9) := pk_rem (d := 9) (by omega) (by omega) (by omega)
    have e2 : nI (m / 9 ^ k) / 9 = nI (m / 9 ^ (k + 1)) := by
      rw [show (9 : Int32) = nI 9 from rfl, pk_div (by omega) (by omega) (by omega), Nat.div_div_eq_div_mul, Nat.pow_succ]
    have key : ∀ S', (∀ s, s < 32 → s < cn → bt S' s = (bt S s && mt_k (lb s) m k)) → (∀ s, s < 32 → cn ≤ s → bt S' s = false) → wX_matching_29 post x2 f_seriesCount f_safeCount f_arenaEnd f_position f_foundCount f_foundSum f_foundLeast f_foundMost f_foundGrowth f_before f_hasBefore f_levelNow a_labelsOf a_first a_end a_safeFirst a_safeEnd a_lastTime a_safeLast a_having a_blockCount a_startBit a_bitCount a_sampleCount a_firstNumber a_fromTime a_toTime a_fromValue a_toValue a_total a_smallest a_greatest a_grown a_bits a_lastStep a_times a_values (d + 1) S' (nI (m / 9 ^ (k + 1))) (nI (k + 1)) := fun S' g1 g2 => ih (k + 1) S' (by omega) (fun s hs => by
      rcases Nat.lt_or_ge s cn with z | z
      · rw [g1 s hs z, hS s hs, Bool.and_assoc]; rfl
      · rw [g2 s hs z, decide_eq_false (by omega), Bool.false_and])
    have hz : ∀ s, s < 32 → cn ≤ s → bt S s = false := fun s hs z => by rw [hS s hs, decide_eq_false (by omega), Bool.false_and]
    have h4 : (4 : Int32) = nI 4 := rfl
    generalize hdd : m / 9 ^ k % 9 = dd at e1 hd9
    refine br_f (nI_ge (b := 3) (by omega) (by omega)) ⟨by decide, nm_r e1 ⟨by decide, nm_r e2 ?_⟩⟩
    rcases Nat.lt_or_ge dd 4 with z | z
    · have ei : 4 * nI k + nI dd = nI (4 * k + dd) := by rw [h4, pk_mul, nI_add]
      refine br_f (nI_ge (b := 4) z (by omega)) ⟨by rw [ei]; exact vp_in_nI (by omega) (by omega), nm_e (nm_r (nI_1 k) (key _ (fun s hs hsc => ?_) (fun s hs hsc => ?_)))⟩
      · rw [ei, nI_clamp (by omega), b_and, hh _ (by omega) s hs, decide_eq_true hsc, Bool.true_and, show (4 * k + dd) / 4 = k from by omega, show (4 * k + dd) % 4 = dd from by omega]
        unfold mt_k
        rw [hdd, if_pos z]
      · rw [b_and, hz s hs hsc, Bool.false_and]
    · refine br_t (nI_le (a := 4) z (by omega)) ?_
      rcases Nat.lt_or_ge 4 dd with y | y
      · have ei : 4 * nI k + nI dd - 5 = nI (4 * k + (dd - 5)) := by
          rw [h4, pk_mul, nI_add, show (5 : Int32) = nI 5 from rfl, pk_sub (by omega)]
          exact congrArg nI (by omega)
        refine br_f (nI_ge (a := 4) y (by omega)) ⟨by rw [ei]; exact vp_in_nI (by omega) (by omega), nm_e (nm_r (nI_1 k) (key _ (fun s hs hsc => ?_) (fun s hs hsc => ?_)))⟩
        · rw [ei, nI_clamp (by omega), b_and, b_xor, b_m1 s hs, Bool.xor_true, hh _ (by omega) s hs, decide_eq_true hsc, Bool.true_and, show (4 * k + (dd - 5)) / 4 = k from by omega, show (4 * k + (dd - 5)) % 4 = dd - 5 from by omega]
          unfold mt_k
          rw [hdd, if_neg (by omega), if_neg (by omega)]
        · rw [b_and, hz s hs hsc, Bool.false_and]
      · refine br_t (nI_le (b := 4) y (by omega)) (nm_r (nI_1 k) (key S (fun s hs hsc => ?_) hz))
        unfold mt_k
        rw [hdd, if_neg (by omega), if_pos y, Bool.and_true]
theorem wx_matching {post : Int32 → Prop} {cn m : Nat} {lb : Nat → Nat} (hcn : cn ≤ 8) (hfs : f_seriesCount = nI cn) (hh : hv_ok cn lb a_having) (hm : m ≤ 728) (H : ∀ S, mt_set cn lb m S → post S) : wpX_matching post (f_seriesCount, f_safeCount, f_arenaEnd, f_position, f_foundCount, f_foundSum, f_foundLeast, f_foundMost, f_foundGrowth, f_before, f_hasBefore, f_levelNow, a_labelsOf, a_first, a_end, a_safeFirst, a_safeEnd, a_lastTime, a_safeLast, a_having, a_blockCount, a_startBit, a_bitCount, a_sampleCount, a_firstNumber, a_fromTime, a_toTime, a_fromValue, a_toValue, a_total, a_smallest, a_greatest, a_grown, a_bits, a_lastStep, a_times, a_values) (nI m) := by
  unfold wpX_matching
  refine wx_isM1 hm ?_
  refine br_f (by decide) (nm_e ⟨4, ?_⟩)
  have ha : ∀ s, s < 32 → bt (((1 : Int32) <<< (f_seriesCount &&& 31)) - 1) s = decide (s < cn) := by rw [hfs]; exact mt_all cn (by omega)
  rw [show nI m = nI (m / 9 ^ 0) from by rw [Nat.pow_zero, Nat.div_one]]
  exact wx_mat_l hcn hh hm ha H 3 0 _ (by omega) (fun s hs => by rw [ha s hs]; show _ = (_ && true); rw [Bool.and_true])
end
end
section
/-! questions, pure: over the places k < 256 of the reference (32 a series); tk k: place k is taken; vl k: its value -/
def qs_of (tk : Nat → Bool) (vl : Nat → Int32) : Nat → Int32
  | 0 => 0
  | k + 1 => if tk k = true then qs_of tk vl k + vl k else qs_of tk vl k
def ql_of (tk : Nat → Bool) (vl : Nat → Int32) : Nat → Int32
  | 0 => 2000
  | k + 1 => if tk k = true then (if ql_of tk vl k ≤ vl k then ql_of tk vl k else vl k) else ql_of tk vl k
def qm_of (tk : Nat → Bool) (vl : Nat → Int32) : Nat → Int32
  | 0 => -2000
  | k + 1 => if tk k = true then (if vl k ≤ qm_of tk vl k then qm_of tk vl k else vl k) else qm_of tk vl k
def qg_of (tk : Nat → Bool) (vl : Nat → Int32) : Nat → Int32
  | 0 => 0
  | k + 1 => if (k % 32 ≠ 0 ∧ tk (k - 1) = true) ∧ tk k = true then qg_of tk vl k + sm_g (vl (k - 1)) (vl k) else qg_of tk vl k
def qa_st (tk : Nat → Bool) (vl : Nat → Int32) (K : Nat) (fc fs fl fm fg : Int32) : Prop :=
  fc = nI (cq_of tk K) ∧ fs = qs_of tk vl K ∧ fl = ql_of tk vl K ∧ fm = qm_of tk vl K ∧ fg = qg_of tk vl K
def qb_st (tk : Nat → Bool) (vl : Nat → Int32) (base K : Nat) (bf hb : Int32) : Prop :=
  (hb = 0 ∧ ∀ i, base ≤ i → i < K → tk i = false) ∨ (hb = 1 ∧ ∃ i, base ≤ i ∧ i < K ∧ tk i = true ∧ bf = vl i ∧ ∀ j, i < j → j < K → tk j = false)
def qz_st (tk : Nat → Bool) (vl : Nat → Int32) (base K : Nat) (fc fs fl fm fg bf hb : Int32) : Prop := qa_st tk vl K fc fs fl fm fg ∧ qb_st tk vl base K bf hb
/-- within a series the places that are taken lie together -/
def qc_st (tk : Nat → Bool) (base : Nat) : Prop := base % 32 = 0 ∧ ∀ i j k, base ≤ i → i < j → j < k → k < base + 32 → tk i = true → tk k = true → tk j = true
theorem qa_skip {tk : Nat → Bool} {vl : Nat → Int32} {K : Nat} {fc fs fl fm fg : Int32} (h : qa_st tk vl K fc fs fl fm fg) (ht : tk K = false) : qa_st tk vl (K + 1) fc fs fl fm fg := by
  obtain ⟨h1, h2, h3, h4, h5⟩ := h
  have hn : ¬ tk K = true := by rw [ht]; decide
  refine ⟨?_, ?_, ?_, ?_, ?_⟩
  · simp only [cq_of]; rw [ht]; exact h1
  · simp only [qs_of]; rw [if_neg hn]; exact h2
  · simp only [ql_of]; rw [if_neg hn]; exact h3
  · simp only [qm_of]; rw [if_neg hn]; exact h4
  · simp only [qg_of]; rw [if_neg (fun z => hn z.2)]; exact h5
theorem qa_skips {tk : Nat → Bool} {vl : Nat → Int32} {K : Nat} {fc fs fl fm fg : Int32} (h : qa_st tk vl K fc fs fl fm fg) : ∀ c, (∀ i, i < c → tk (K + i) = false) → qa_st tk vl (K + c) fc fs fl fm fg
  | 0, _ => h
  | c + 1, ht => qa_skip (qa_skips h c (fun i hi => ht i (by omega))) (ht c (by omega))
theorem qz_skip {tk : Nat → Bool} {vl : Nat → Int32} {base K : Nat} {fc fs fl fm fg bf hb : Int32} (h : qz_st tk vl base K fc fs fl fm fg bf hb) (ht : tk K = false) : qz_st tk vl base (K + 1) fc fs fl fm fg bf hb := by
  refine ⟨qa_skip h.1 ht, ?_⟩
  rcases h.2 with ⟨h1, h2⟩ | ⟨h1, i, i1, i2, i3, i4, i5⟩
  · refine Or.inl ⟨h1, fun j j1 j2 => ?_⟩
    rcases Nat.lt_or_ge j K with z | z
    · exact h2 j j1 z
    · rw [show j = K from by omega]; exact ht
  · refine Or.inr ⟨h1, i, i1, by omega, i3, i4, fun j j1 j2 => ?_⟩
    rcases Nat.lt_or_ge j K with z | z
    · exact i5 j j1 z
    · rw [show j = K from by omega]; exact ht
theorem qz_skips {tk : Nat → Bool} {vl : Nat → Int32} {base K : Nat} {fc fs fl fm fg bf hb : Int32} (h : qz_st tk vl base K fc fs fl fm fg bf hb) : ∀ c, (∀ i, i < c → tk (K + i) = false) → qz_st tk vl base (K + c) fc fs fl fm fg bf hb
  | 0, _ => h
  | c + 1, ht => qz_skip (qz_skips h c (fun i hi => ht i (by omega))) (ht c (by omega))
theorem qz_take {tk : Nat → Bool} {vl : Nat → Int32} {base K : Nat} {fc fs fl fm fg bf hb : Int32} (h : qz_st tk vl base K fc fs fl fm fg bf hb) (hc : qc_st tk base) (h1 : base ≤ K) (h2 : K < base + 32) (ht : tk K = true) :
    qz_st tk vl base (K + 1) (fc + 1) (fs + vl K) (if fl ≤ vl K then fl else vl K) (if vl K ≤ fm then fm else vl K) (if hb = 0 then fg else fg + sm_g bf (vl K)) (vl K) 1 := by
  obtain ⟨⟨a1, a2, a3, a4, a5⟩, hb'⟩ := h
  obtain ⟨c1, c2⟩ := hc
  refine ⟨⟨?_, ?_, ?_, ?_, ?_⟩, Or.inr ⟨rfl, K, h1, by omega, ht, rfl, fun j j1 j2 => by omega⟩⟩
  · simp only [cq_of]; rw [ht, a1]; exact nI_1 _
  · simp only [qs_of]; rw [if_pos ht, a2]
  · simp only [ql_of]; rw [if_pos ht, a3]
  · simp only [qm_of]; rw [if_pos ht, a4]
  · simp only [qg_of]
    rcases hb' with ⟨g1, g2⟩ | ⟨g1, i, i1, i2, i3, i4, i5⟩
    · rw [if_pos g1, a5, if_neg]
      intro ⟨⟨z1, z2⟩, _⟩
      rw [g2 (K - 1) (by omega) (by omega)] at z2
      cases z2
    · have ei : i = K - 1 := by
        rcases Nat.lt_or_ge i (K - 1) with z | z
        · have := c2 i (K - 1) K i1 z (by omega) h2 i3 ht
          rw [i5 (K - 1) z (by omega)] at this
          cases this
        · omega
      subst ei
      rw [if_neg (by rw [g1]; decide), if_pos ⟨⟨by omega, i3⟩, ht⟩, a5, i4]
theorem ba_min3 (q s f : Int32) : (if (if q ≤ s then q else s) ≤ f then (if q ≤ s then q else s) else f) = if q ≤ (if s ≤ f then s else f) then q else (if s ≤ f then s else f) := by
  simp only [ba_le]
  by_cases h1 : q.toInt ≤ s.toInt <;> by_cases h2 : s.toInt ≤ f.toInt <;> by_cases h3 : q.toInt ≤ f.toInt <;> simp only [h1, h2, h3, if_true, if_false] <;> omega
theorem ba_max3 (q s f : Int32) : (if f ≤ (if s ≤ q then q else s) then (if s ≤ q then q else s) else f) = if (if f ≤ s then s else f) ≤ q then q else (if f ≤ s then s else f) := by
  simp only [ba_le]
  by_cases h1 : s.toInt ≤ q.toInt <;> by_cases h2 : f.toInt ≤ s.toInt <;> by_cases h3 : f.toInt ≤ q.toInt <;> simp only [h1, h2, h3, if_true, if_false] <;> omega
theorem qz_whole {tk : Nat → Bool} {vl : Nat → Int32} {base K : Nat} {fc fs fl fm fg bf hb : Int32} (h : qz_st tk vl base K fc fs fl fm fg bf hb) (hc : qc_st tk base) (h1 : base ≤ K) : ∀ c, K + c < base + 32 → (∀ i, i ≤ c → tk (K + i) = true) →
    qz_st tk vl base (K + (c + 1)) (fc + nI (c + 1)) (fs + sm_tot (fun i => vl (K + i)) c) (if fl ≤ sm_min (fun i => vl (K + i)) c then fl else sm_min (fun i => vl (K + i)) c) (if sm_max (fun i => vl (K + i)) c ≤ fm then fm else sm_max (fun i => vl (K + i)) c) ((if hb = 0 then fg else fg + sm_g bf (vl K)) + sm_gr (fun i => vl (K + i)) c) (vl (K + c)) 1
  | 0, h2, ht => by
    have := qz_take h hc h1 (by omega) (ht 0 (Nat.le_refl _))
    simp only [sm_tot, sm_min, sm_max, sm_gr, Nat.add_zero, Int32.add_zero]
    exact this
  | c + 1, h2, ht => by
    have ih := qz_whole h hc h1 c (by omega) (fun i hi => ht i (by omega))
    have := qz_take ih hc (by omega) (by omega) (ht (c + 1) (Nat.le_refl _))
    rw [if_neg (show ¬ (1 : Int32) = 0 from by decide), ba_min3, ba_max3, Int32.add_assoc, Int32.add_assoc, Int32.add_assoc] at this
    simp only [sm_tot, sm_min, sm_max, sm_gr]
    rw [← nI_1 (c + 1)]
    exact this

/-! the taken places of a state -/
def qt_of (cn : Nat) (lb F E : Nat → Nat) (T : Nat → Nat → Int32) (m : Nat) (t u : Int32) (k : Nat) : Bool :=
  decide (k / 32 < cn) && (decide (k % 32 < E (k / 32) - F (k / 32)) && (decide (t ≤ T (k / 32) (F (k / 32) + k % 32)) && (decide (T (k / 32) (F (k / 32) + k % 32) ≤ u) && mt_u (lb (k / 32)) m 3)))
def qv_of (F : Nat → Nat) (V : Nat → Nat → Int32) (k : Nat) : Int32 := V (k / 32) (F (k / 32) + k % 32)
theorem qt_e {cn : Nat} {lb F E : Nat → Nat} {T : Nat → Nat → Int32} {m : Nat} {t u : Int32} {k : Nat} : qt_of cn lb F E T m t u k = true ↔ k / 32 < cn ∧ k % 32 < E (k / 32) - F (k / 32) ∧ t ≤ T (k / 32) (F (k / 32) + k % 32) ∧ T (k / 32) (F (k / 32) + k % 32) ≤ u ∧ mt_u (lb (k / 32)) m 3 = true := by
  unfold qt_of
  rw [Bool.and_eq_true, Bool.and_eq_true, Bool.and_eq_true, Bool.and_eq_true, decide_eq_true_eq, decide_eq_true_eq, decide_eq_true_eq, decide_eq_true_eq]
theorem qt_f {cn : Nat} {lb F E : Nat → Nat} {T : Nat → Nat → Int32} {m : Nat} {t u : Int32} {k : Nat} (h : ¬ (k / 32 < cn ∧ k % 32 < E (k / 32) - F (k / 32) ∧ t ≤ T (k / 32) (F (k / 32) + k % 32) ∧ T (k / 32) (F (k / 32) + k % 32) ≤ u ∧ mt_u (lb (k / 32)) m 3 = true)) : qt_of cn lb F E T m t u k = false := by
  cases e : qt_of cn lb F E T m t u k with
  | false => rfl
  | true => exact absurd (qt_e.mp e) h
/-- at number n of series s -/
theorem qt_n {cn : Nat} {lb F E : Nat → Nat} {T : Nat → Nat → Int32} {m : Nat} {t u : Int32} {s n : Nat} (hs : s < cn) (h1 : F s ≤ n) (h2 : n < E s) (h3 : E s ≤ F s + 32) (hm : mt_u (lb s) m 3 = true) : qt_of cn lb F E T m t u (32 * s + (n - F s)) = true ↔ t ≤ T s n ∧ T s n ≤ u := by
  rw [qt_e, show (32 * s + (n - F s)) / 32 = s from by omega, show (32 * s + (n - F s)) % 32 = n - F s from by omega, show F s + (n - F s) = n from by omega]
  exact ⟨fun z => ⟨z.2.2.1, z.2.2.2.1⟩, fun z => ⟨hs, by omega, z.1, z.2, hm⟩⟩
theorem qv_n {F : Nat → Nat} {V : Nat → Nat → Int32} {s n : Nat} (h1 : F s ≤ n) (h3 : n < F s + 32) : qv_of F V (32 * s + (n - F s)) = V s n := by
  unfold qv_of
  rw [show (32 * s + (n - F s)) / 32 = s from by omega, show (32 * s + (n - F s)) % 32 = n - F s from by omega, show F s + (n - F s) = n from by omega]
theorem qt_c {cn : Nat} {lb F E : Nat → Nat} {T V : Nat → Nat → Int32} {m : Nat} {t u : Int32} {s : Nat} (hs : s < cn) (hh : ci_hist (T s) (V s) (E s)) : qc_st (qt_of cn lb F E T m t u) (32 * s) := by
  refine ⟨by omega, fun i j k h1 h2 h3 h4 hi hk => ?_⟩
  rw [qt_e] at hi hk ⊢
  have ei : i / 32 = s := by omega
  have ej : j / 32 = s := by omega
  have ek : k / 32 = s := by omega
  rw [ei] at hi
  rw [ek] at hk
  rw [ej]
  obtain ⟨_, i2, i3, i4, i5⟩ := hi
  obtain ⟨_, k2, k3, k4, k5⟩ := hk
  rw [ba_le] at i3 k4
  refine ⟨hs, by omega, ?_, ?_, i5⟩
  · rw [ba_le]
    have := ci_hist_le hh (m := F s + i % 32) (n := F s + j % 32) (by omega) (by omega)
    omega
  · rw [ba_le]
    have := ci_hist_le hh (m := F s + j % 32) (n := F s + k % 32) (by omega) (by omega)
    omega
end
section
/-! the component: ask -/
section
variable {f_seriesCount f_safeCount f_arenaEnd f_position f_foundCount f_foundSum f_foundLeast f_foundMost f_foundGrowth f_before f_hasBefore f_levelNow : Int32} {a_labelsOf a_first a_end a_safeFirst a_safeEnd a_lastTime a_safeLast a_having a_blockCount a_startBit a_bitCount a_sampleCount a_firstNumber a_fromTime a_toTime a_fromValue a_toValue a_total a_smallest a_greatest a_grown a_bits a_lastStep a_times a_values : Nat → Int32}
theorem wx_follow {post : SX → Prop} {v : Int32} (H : post (f_seriesCount, f_safeCount, f_arenaEnd, f_position, f_foundCount, f_foundSum, f_foundLeast, f_foundMost, (if f_hasBefore = 0 then f_foundGrowth else f_foundGrowth + sm_g f_before v), v, 1, f_levelNow, a_labelsOf, a_first, a_end, a_safeFirst, a_safeEnd, a_lastTime, a_safeLast, a_having, a_blockCount, a_startBit, a_bitCount, a_sampleCount, a_firstNumber, a_fromTime, a_toTime, a_fromValue, a_toValue, a_total, a_smallest, a_greatest, a_grown, a_bits, a_lastStep, a_times, a_values)) : wpX_follow post (f_seriesCount, f_safeCount, f_arenaEnd, f_position, f_foundCount, f_foundSum, f_foundLeast, f_foundMost, f_foundGrowth, f_before, f_hasBefore, f_levelNow, a_labelsOf, a_first, a_end, a_safeFirst, a_safeEnd, a_lastTime, a_safeLast, a_having, a_blockCount, a_startBit, a_bitCount, a_sampleCount, a_firstNumber, a_fromTime, a_toTime, a_fromValue, a_toValue, a_total, a_smallest, a_greatest, a_grown, a_bits, a_lastStep, a_times, a_values) v := by
  by_cases h : f_hasBefore = 0
  · rw [if_pos h] at H; exact br_t h H
  · rw [if_neg h] at H; exact br_f h (wx_growthOf (nm_e H))
theorem wx_ask312 {post : SX → Prop} {J : Int32 → Int32 → Int32 → Int32 → Int32 → Int32 → Int32 → Int32 → Int32 → Int32 → Int32 → Int32 → Int32 → (Nat → Int32) → (Nat → Int32) → (Nat → Int32) → (Nat → Int32) → (Nat → Int32) → (Nat → Int32) → (Nat → Int32) → (Nat → Int32) → (Nat → Int32) → (Nat → Int32) → (Nat → Int32) → (Nat → Int32) → (Nat → Int32) → (Nat → Int32) → (Nat → Int32) → (Nat → Int32) → (Nat → Int32) → (Nat → Int32) → (Nat → Int32) → (Nat → Int32) → (Nat → Int32) → (Nat → Int32) → (Nat → Int32) → (Nat → Int32) → (Nat → Int32) → Prop} {x1 x2 x3 x4 : Int32} {k : Nat} (hk : k < 8) (H : J (nI (k + 1)) f_seriesCount f_safeCount f_arenaEnd f_position f_foundCount f_foundSum f_foundLeast ((if a_values k ≤ f_foundMost then f_foundMost else a_values k)) ((if f_hasBefore = 0 then f_foundGrowth else f_foundGrowth + sm_g f_before (a_values k))) (a_values k) 1 f_levelNow a_labelsOf a_first a_end a_safeFirst a_safeEnd a_lastTime a_safeLast a_having a_blockCount a_startBit a_bitCount a_sampleCount a_firstNumber a_fromTime a_toTime a_fromValue a_toValue a_total a_smallest a_greatest a_grown a_bits a_lastStep a_times a_values) :
    wX_askBlock_312 post J x1 x2 x3 x4 (nI k) f_seriesCount f_safeCount f_arenaEnd f_position f_foundCount f_foundSum f_foundLeast f_foundMost f_foundGrowth f_before f_hasBefore f_levelNow a_labelsOf a_first a_end a_safeFirst a_safeEnd a_lastTime a_safeLast a_having a_blockCount a_startBit a_bitCount a_sampleCount a_firstNumber a_fromTime a_toTime a_fromValue a_toValue a_total a_smallest a_greatest a_grown a_bits a_lastStep a_times a_values := by
  have hck : (nI k).toNatClampNeg = k := nI_clamp (by omega)
  have hik : vp_in (nI k) 8 := vp_in_nI hk (by omega)
  refine ⟨hik, br_c (fun z => ⟨hik, ?_⟩) (fun z => ⟨hik, nm_r (e' := a_values k) (by rw [hck]) ⟨hik, ?_⟩⟩)⟩
  · rw [hck] at z ⊢
    rw [if_pos z] at H
    exact wx_follow (nm_r (nI_1 k) H)
  · rw [hck] at z ⊢
    rw [if_neg z] at H
    exact wx_follow (nm_r (nI_1 k) H)
theorem wx_ask206 {post : SX → Prop} {s b fn sc F : Nat} {t u : Int32} {tk : Nat → Bool} {vl : Nat → Int32} (hs : s < 8) (hb : b < 96) (h3 : a_sampleCount b = nI sc) (h4 : a_firstNumber b = nI fn) (hF : a_first s = nI F) (hsc : sc ≤ 8) (hfn : fn + sc ≤ 1000) (hF2 : F ≤ 1000) (h32 : fn + sc ≤ F + 32)
    (hk : ∀ k, k < sc → F ≤ fn + k → (tk (32 * s + (fn + k - F)) = true ↔ t ≤ a_times k ∧ a_times k ≤ u) ∧ vl (32 * s + (fn + k - F)) = a_values k) (hc : qc_st tk (32 * s))
    (H : ∀ (fc fs fl fm fg bf hb : Int32), qz_st tk vl (32 * s) (32 * s + (fn + sc - F)) fc fs fl fm fg bf hb → post (f_seriesCount, f_safeCount, f_arenaEnd, f_position, fc, fs, fl, fm, fg, bf, hb, f_levelNow, a_labelsOf, a_first, a_end, a_safeFirst, a_safeEnd, a_lastTime, a_safeLast, a_having, a_blockCount, a_startBit, a_bitCount, a_sampleCount, a_firstNumber, a_fromTime, a_toTime, a_fromValue, a_toValue, a_total, a_smallest, a_greatest, a_grown, a_bits, a_lastStep, a_times, a_values)) :
    ∀ (d k : Nat) (fc fs fl fm fg bf hb : Int32), k + d = sc → qz_st tk vl (32 * s) (32 * s + (fn + k - F)) fc fs fl fm fg bf hb → wX_askBlock_206 post (nI s) (nI b) t u (d + 1) (nI k) f_seriesCount f_safeCount f_arenaEnd f_position fc fs fl fm fg bf hb f_levelNow a_labelsOf a_first a_end a_safeFirst a_safeEnd a_lastTime a_safeLast a_having a_blockCount a_startBit a_bitCount a_sampleCount a_firstNumber a_fromTime a_toTime a_fromValue a_toValue a_total a_smallest a_greatest a_grown a_bits a_lastStep a_times a_values := by
  have hcb : (nI b).toNatClampNeg = b := nI_clamp (by omega)
  have hib : vp_in (nI b) 96 := vp_in_nI hb (by omega)
  have hcs : (nI s).toNatClampNeg = s := nI_clamp (by omega)
  have his : vp_in (nI s) 8 := vp_in_nI hs (by omega)
  intro d
  induction d with
  | zero =>
    intro k fc fs fl fm fg bf hb hd hz
    have e : k = sc := by omega
    subst e
    exact ⟨hib, br_t (by rw [hcb, h3]; exact Int32.le_refl _) (H _ _ _ _ _ _ _ hz)⟩
  | succ d ih =>
    intro k fc fs fl fm fg bf hb hd hz
    have hck : (nI k).toNatClampNeg = k := nI_clamp (by omega)
    have hik : vp_in (nI k) 8 := vp_in_nI (by omega) (by omega)
    have hle : (a_first (nI s).toNatClampNeg ≤ a_firstNumber (nI b).toNatClampNeg + nI k) ↔ F ≤ fn + k := by rw [hcs, hcb, hF, h4, nI_add, nI_leI (by omega) (by omega)]
    refine ⟨hib, br_f (by rw [hcb, h3]; exact nI_ge (by omega) (by omega)) ⟨hik, ?_⟩⟩
    rcases Nat.lt_or_ge (fn + k) F with zf | zf
    · have nx := ih (k + 1) fc fs fl fm fg bf hb (by omega) (by rw [show fn + (k + 1) - F = fn + k - F from by omega]; exact hz)
      exact br_c (fun z => nm_r (nI_1 k) nx) (fun z => ⟨hik, br_c (fun y => nm_r (nI_1 k) nx) (fun y => ⟨hib, his, br_f (by rw [hle]; omega) (nm_r (nI_1 k) nx)⟩)⟩)
    · obtain ⟨g1, g2⟩ := hk k (by omega) zf
      have eK : 32 * s + (fn + (k + 1) - F) = 32 * s + (fn + k - F) + 1 := by omega
      have skip : ¬ (t ≤ a_times k ∧ a_times k ≤ u) → wX_askBlock_206 post (nI s) (nI b) t u (d + 1) (nI (k + 1)) f_seriesCount f_safeCount f_arenaEnd f_position fc fs fl fm fg bf hb f_levelNow a_labelsOf a_first a_end a_safeFirst a_safeEnd a_lastTime a_safeLast a_having a_blockCount a_startBit a_bitCount a_sampleCount a_firstNumber a_fromTime a_toTime a_fromValue a_toValue a_total a_smallest a_greatest a_grown a_bits a_lastStep a_times a_values := fun hn => ih (k + 1) fc fs fl fm fg bf hb (by omega) (by
        rw [eK]
        refine qz_skip hz ?_
        cases e : tk (32 * s + (fn + k - F)) with
        | false => rfl
        | true => exact absurd (g1.mp e) hn)
      refine br_c (fun z => nm_r (nI_1 k) (skip ?_)) (fun z => ⟨hik, br_c (fun y => nm_r (nI_1 k) (skip ?_)) (fun y => ⟨hib, his, br_t (hle.mpr zf) ?_⟩)⟩)
      · rw [hck, ba_lt] at z
        rw [ba_le]; omega
      · rw [hck, ba_lt] at y
        rw [ba_le, ba_le]; omega
      · have ht : tk (32 * s + (fn + k - F)) = true := g1.mpr (by
          rw [hck, ba_lt] at z y
          rw [ba_le, ba_le]; omega)
        have q := qz_take hz hc (by omega) (by omega) ht
        rw [g2] at q
        have nx := ih (k + 1) _ _ _ _ _ _ _ (by omega) (eK ▸ q)
        refine nm_e ⟨hik, nm_r (e' := fs + a_values k) (by rw [hck]) ⟨hik, br_c (fun w => ?_) (fun w => ⟨hik, nm_r (e' := a_values k) (by rw [hck]) ?_⟩)⟩⟩
        · rw [hck] at w
          rw [if_pos w] at nx
          exact wx_ask312 (by omega) nx
        · rw [hck] at w
          rw [if_neg w] at nx
          exact wx_ask312 (by omega) nx
theorem wx_ask79w {post : SX → Prop} {x1 x3 x4 : Int32} {b : Nat} (hb : b < 96) (H : post (f_seriesCount, f_safeCount, f_arenaEnd, f_position, f_foundCount + a_sampleCount b, f_foundSum + a_total b, (if f_foundLeast ≤ a_smallest b then f_foundLeast else a_smallest b), (if a_greatest b ≤ f_foundMost then f_foundMost else a_greatest b), (if f_hasBefore = 0 then f_foundGrowth else f_foundGrowth + sm_g f_before (a_fromValue b)) + a_grown b, a_toValue b, 1, f_levelNow, a_labelsOf, a_first, a_end, a_safeFirst, a_safeEnd, a_lastTime, a_safeLast, a_having, a_blockCount, a_startBit, a_bitCount, a_sampleCount, a_firstNumber, a_fromTime, a_toTime, a_fromValue, a_toValue, a_total, a_smallest, a_greatest, a_grown, a_bits, a_lastStep, a_times, a_values)) :
    wX_askBlock_79 post x1 (nI b) x3 x4 1 f_seriesCount f_safeCount f_arenaEnd f_position f_foundCount f_foundSum f_foundLeast f_foundMost f_foundGrowth f_before f_hasBefore f_levelNow a_labelsOf a_first a_end a_safeFirst a_safeEnd a_lastTime a_safeLast a_having a_blockCount a_startBit a_bitCount a_sampleCount a_firstNumber a_fromTime a_toTime a_fromValue a_toValue a_total a_smallest a_greatest a_grown a_bits a_lastStep a_times a_values := by
  have hcb : (nI b).toNatClampNeg = b := nI_clamp (by omega)
  have hib : vp_in (nI b) 96 := vp_in_nI hb (by omega)
  have k162 : ∀ fl fm : Int32, fl = (if f_foundLeast ≤ a_smallest b then f_foundLeast else a_smallest b) → fm = (if a_greatest b ≤ f_foundMost then f_foundMost else a_greatest b) → wX_askBlock_162 post (nI b) f_seriesCount f_safeCount f_arenaEnd f_position (f_foundCount + a_sampleCount b) (f_foundSum + a_total b) fl fm f_foundGrowth f_before f_hasBefore f_levelNow a_labelsOf a_first a_end a_safeFirst a_safeEnd a_lastTime a_safeLast a_having a_blockCount a_startBit a_bitCount a_sampleCount a_firstNumber a_fromTime a_toTime a_fromValue a_toValue a_total a_smallest a_greatest a_grown a_bits a_lastStep a_times a_values := by
    intro fl fm e1 e2
    subst e1 e2
    refine ⟨hib, ?_⟩
    rw [hcb]
    exact wx_follow ⟨hib, nm_e ⟨hib, nm_e H⟩⟩
  have k139 : ∀ fl : Int32, fl = (if f_foundLeast ≤ a_smallest b then f_foundLeast else a_smallest b) → wX_askBlock_139 post (nI b) f_seriesCount f_safeCount f_arenaEnd f_position (f_foundCount + a_sampleCount b) (f_foundSum + a_total b) fl f_foundMost f_foundGrowth f_before f_hasBefore f_levelNow a_labelsOf a_first a_end a_safeFirst a_safeEnd a_lastTime a_safeLast a_having a_blockCount a_startBit a_bitCount a_sampleCount a_firstNumber a_fromTime a_toTime a_fromValue a_toValue a_total a_smallest a_greatest a_grown a_bits a_lastStep a_times a_values := by
    intro fl e1
    refine ⟨hib, br_c (fun z => k162 fl _ e1 ?_) (fun z => ⟨hib, nm_r (e' := a_greatest b) (by rw [hcb]) (k162 fl _ e1 ?_)⟩)⟩
    · rw [hcb] at z; rw [if_pos z]
    · rw [hcb] at z; rw [if_neg z]
  refine br_f (by decide) ⟨hib, nm_r (e' := f_foundCount + a_sampleCount b) (by rw [hcb]) ⟨hib, nm_r (e' := f_foundSum + a_total b) (by rw [hcb]) ⟨hib, br_c (fun z => k139 _ ?_) (fun z => ⟨hib, nm_r (e' := a_smallest b) (by rw [hcb]) (k139 _ ?_)⟩)⟩⟩⟩
  · rw [hcb] at z; rw [if_pos z]
  · rw [hcb] at z; rw [if_neg z]
theorem cx_askBlock {post : SX → Prop} {cn m : Nat} {lb F E : Nat → Nat} {T V : Nat → Nat → Int32} {L : Nat → List bk_T} {P : Nat → Nat → Nat} {ae s k : Nat} {a : bk_T} {t u : Int32} (I : ci_ok cn T V L P E ae a_blockCount a_startBit a_bitCount a_sampleCount a_firstNumber a_fromTime a_toTime a_fromValue a_toValue a_total a_smallest a_greatest a_grown a_bits a_lastStep) (hs : s < cn) (hk : (L s)[k]? = some a) (hF : a_first s = nI (F s)) (hFE : F s ≤ E s) (h32 : E s ≤ F s + 32) (hm : mt_u (lb s) m 3 = true)
    (hz : qz_st (qt_of cn lb F E T m t u) (qv_of F V) (32 * s) (32 * s + (a.2.2 - F s)) f_foundCount f_foundSum f_foundLeast f_foundMost f_foundGrowth f_before f_hasBefore)
    (H : ∀ (fc fs fl fm fg bf hb : Int32) (pos : Int32) (ts vs : Nat → Int32), qz_st (qt_of cn lb F E T m t u) (qv_of F V) (32 * s) (32 * s + (a.2.2 + a.2.1 - F s)) fc fs fl fm fg bf hb → post (f_seriesCount, f_safeCount, f_arenaEnd, pos, fc, fs, fl, fm, fg, bf, hb, f_levelNow, a_labelsOf, a_first, a_end, a_safeFirst, a_safeEnd, a_lastTime, a_safeLast, a_having, a_blockCount, a_startBit, a_bitCount, a_sampleCount, a_firstNumber, a_fromTime, a_toTime, a_fromValue, a_toValue, a_total, a_smallest, a_greatest, a_grown, a_bits, a_lastStep, ts, vs)) : wpX_askBlock post (f_seriesCount, f_safeCount, f_arenaEnd, f_position, f_foundCount, f_foundSum, f_foundLeast, f_foundMost, f_foundGrowth, f_before, f_hasBefore, f_levelNow, a_labelsOf, a_first, a_end, a_safeFirst, a_safeEnd, a_lastTime, a_safeLast, a_having, a_blockCount, a_startBit, a_bitCount, a_sampleCount, a_firstNumber, a_fromTime, a_toTime, a_fromValue, a_toValue, a_total, a_smallest, a_greatest, a_grown, a_bits, a_lastStep, a_times, a_values) (nI s) (nI (12 * s + k)) t u := by
  have I0 := I
  obtain ⟨hcn, hae, hrow, hse, henc, hdis⟩ := I
  obtain ⟨hhs, hl1, hl2, hl3⟩ := hse s hs
  have hE := ci_hist_E hhs
  obtain ⟨ham, hkl⟩ := ls_mem hk
  have hb := hl3 a ham
  obtain ⟨r1, r2, r3, r4, r5, r6, r7, r8, r9, r10, r11, r12⟩ := ro_e ((hrow s hs).2 k a hk)
  have hcb : (nI (12 * s + k)).toNatClampNeg = 12 * s + k := nI_clamp (by omega)
  have hib : vp_in (nI (12 * s + k)) 96 := vp_in_nI (by omega) (by omega)
  have hcs : (nI s).toNatClampNeg = s := nI_clamp (by omega)
  have his : vp_in (nI s) 8 := vp_in_nI (by omega) (by omega)
  have htk : ∀ n, F s ≤ n → n < E s → (qt_of cn lb F E T m t u (32 * s + (n - F s)) = true ↔ t ≤ T s n ∧ T s n ≤ u) := fun n h1 h2 => qt_n hs h1 h2 h32 hm
  unfold wpX_askBlock
  refine wx_isPresent (by omega) (by omega) r4 r3 hF (by omega) (by omega) (fun hp => ?_) (fun hp => br_t rfl (H _ _ _ _ _ _ _ _ _ _ ?_))
  · -- present
    have skip : (∀ n, F s ≤ n → a.2.2 ≤ n → n < a.2.2 + a.2.1 → ¬ (t ≤ T s n ∧ T s n ≤ u)) → post (f_seriesCount, f_safeCount, f_arenaEnd, f_position, f_foundCount, f_foundSum, f_foundLeast, f_foundMost, f_foundGrowth, f_before, f_hasBefore, f_levelNow, a_labelsOf, a_first, a_end, a_safeFirst, a_safeEnd, a_lastTime, a_safeLast, a_having, a_blockCount, a_startBit, a_bitCount, a_sampleCount, a_firstNumber, a_fromTime, a_toTime, a_fromValue, a_toValue, a_total, a_smallest, a_greatest, a_grown, a_bits, a_lastStep, a_times, a_values) := fun hn => by
      refine H _ _ _ _ _ _ _ f_position a_times a_values ?_
      have := qz_skips hz (a.2.2 + a.2.1 - F s - (a.2.2 - F s)) (fun i hi => by
        have e := htk (F s + (a.2.2 - F s) + i) (by omega) (by omega)
        rw [show 32 * s + (F s + (a.2.2 - F s) + i - F s) = 32 * s + (a.2.2 - F s) + i from by omega] at e
        cases q : qt_of cn lb F E T m t u (32 * s + (a.2.2 - F s) + i) with
        | false => rfl
        | true => exact absurd (e.mp q) (hn _ (by omega) (by omega) (by omega)))
      rw [show 32 * s + (a.2.2 - F s) + (a.2.2 + a.2.1 - F s - (a.2.2 - F s)) = 32 * s + (a.2.2 + a.2.1 - F s) from by omega] at this
      exact this
    have un : wX_askBlock_78 post (nI s) (nI (12 * s + k)) t u f_seriesCount f_safeCount f_arenaEnd f_position f_foundCount f_foundSum f_foundLeast f_foundMost f_foundGrowth f_before f_hasBefore f_levelNow a_labelsOf a_first a_end a_safeFirst a_safeEnd a_lastTime a_safeLast a_having a_blockCount a_startBit a_bitCount a_sampleCount a_firstNumber a_fromTime a_toTime a_fromValue a_toValue a_total a_smallest a_greatest a_grown a_bits a_lastStep a_times a_values := by
      obtain ⟨p', ts, vs, hts, W⟩ := cx_unpack f_seriesCount f_safeCount f_arenaEnd f_position f_foundCount f_foundSum f_foundLeast f_foundMost f_foundGrowth f_before f_hasBefore f_levelNow a_labelsOf a_first a_end a_safeFirst a_safeEnd a_lastTime a_safeLast a_having a_blockCount a_startBit a_bitCount a_sampleCount a_firstNumber a_fromTime a_toTime a_fromValue a_toValue a_total a_smallest a_greatest a_grown a_bits a_lastStep a_times a_values I0 hs hk
      refine br_t rfl (W _ ⟨a.2.1 + 1, ?_⟩)
      refine wx_ask206 (tk := qt_of cn lb F E T m t u) (vl := qv_of F V) (by omega) (by omega) r3 r4 hF (by omega) (by omega) (by omega) (by omega) (fun j hj hjF => ?_) (qt_c hs hhs) (fun fc fs fl fm fg bf hb hz' => H _ _ _ _ _ _ _ _ _ _ hz') a.2.1 0 _ _ _ _ _ _ _ (by omega) hz
      rw [(hts j hj).1, (hts j hj).2]
      exact ⟨htk _ hjF (by omega), qv_n hjF (by omega)⟩
    refine br_f (by decide) ⟨hib, br_c (fun z => skip (fun n n1 n2 n3 => ?_)) (fun z => ⟨hib, br_c (fun y => ?_) (fun y => skip (fun n n1 n2 n3 => ?_))⟩)⟩
    · rw [hcb, r5, ba_lt] at z
      have := ci_hist_le hhs (m := a.2.2) (n := n) n2 (by omega)
      rw [ba_le, ba_le]; omega
    · refine br_c (fun _ => un) (fun _ => ⟨hib, br_c (fun _ => un) (fun w1 => ⟨hib, br_c (fun _ => un) (fun w2 => ⟨hib, his, br_c (fun _ => un) (fun w3 => wx_ask79w (by omega) (H _ _ _ _ _ _ _ f_position a_times a_values ?_))⟩)⟩)⟩)
      -- the block as a whole
      rw [hcb, r5, ba_lt] at w1
      rw [hcb, r6, ba_lt] at w2
      rw [hcb, hcs, r4, hF, nI_ltI (by omega) (by omega)] at w3
      have q := qz_whole hz (qt_c hs hhs) (by omega) (a.2.1 - 1) (by omega) (fun i hi => by
        have e := htk (a.2.2 + i) (by omega) (by omega)
        rw [show 32 * s + (a.2.2 + i - F s) = 32 * s + (a.2.2 - F s) + i from by omega] at e
        have h1 := ci_hist_le hhs (m := a.2.2) (n := a.2.2 + i) (by omega) (by omega)
        have h2 := ci_hist_le hhs (m := a.2.2 + i) (n := a.2.2 + (a.2.1 - 1)) (by omega) (by omega)
        exact e.mpr ⟨by rw [ba_le]; omega, by rw [ba_le]; omega⟩)
      have hv : ∀ i, i ≤ a.2.1 - 1 → qv_of F V (32 * s + (a.2.2 - F s) + i) = V s (a.2.2 + i) := fun i hi => by
        have e := qv_n (F := F) (V := V) (s := s) (n := a.2.2 + i) (by omega) (by omega)
        rw [show 32 * s + (a.2.2 + i - F s) = 32 * s + (a.2.2 - F s) + i from by omega] at e
        exact e
      obtain ⟨c1, c2, c3, c4⟩ := sm_congr (f := fun i => V s (a.2.2 + i)) (g := fun i => qv_of F V (32 * s + (a.2.2 - F s) + i)) (a.2.1 - 1) hv
      have hv0 := hv 0 (by omega)
      rw [Nat.add_zero, Nat.add_zero] at hv0
      rw [c1, c2, c3, c4, hv0, hv (a.2.1 - 1) (Nat.le_refl _), show a.2.1 - 1 + 1 = a.2.1 from by omega, show 32 * s + (a.2.2 - F s) + a.2.1 = 32 * s + (a.2.2 + a.2.1 - F s) from by omega] at q
      rw [r3, r7, r8, r9, r10, r11, r12]
      exact q
    · rw [hcb, r6, ba_le] at y
      have := ci_hist_le hhs (m := n) (n := a.2.2 + (a.2.1 - 1)) (by omega) (by omega)
      rw [ba_le, ba_le]; omega
  · rw [show a.2.2 + a.2.1 - F s = a.2.2 - F s from by omega]
    exact hz
theorem cx_ask73 {post : SX → Prop} {J : Int32 → Int32 → Int32 → Int32 → Int32 → Int32 → Int32 → Int32 → Int32 → Int32 → Int32 → Int32 → Int32 → (Nat → Int32) → (Nat → Int32) → (Nat → Int32) → (Nat → Int32) → (Nat → Int32) → (Nat → Int32) → (Nat → Int32) → (Nat → Int32) → (Nat → Int32) → (Nat → Int32) → (Nat → Int32) → (Nat → Int32) → (Nat → Int32) → (Nat → Int32) → (Nat → Int32) → (Nat → Int32) → (Nat → Int32) → (Nat → Int32) → (Nat → Int32) → (Nat → Int32) → (Nat → Int32) → (Nat → Int32) → (Nat → Int32) → (Nat → Int32) → (Nat → Int32) → Prop} {cn m : Nat} {lb F E : Nat → Nat} {T V : Nat → Nat → Int32} {L : Nat → List bk_T} {P : Nat → Nat → Nat} {ae s : Nat} {t u S : Int32} (I : ci_ok cn T V L P E ae a_blockCount a_startBit a_bitCount a_sampleCount a_firstNumber a_fromTime a_toTime a_fromValue a_toValue a_total a_smallest a_greatest a_grown a_bits a_lastStep) (hs : s < cn) (hF : a_first s = nI (F s)) (hFE : F s ≤ E s) (h32 : E s ≤ F s + 32) (hm : mt_u (lb s) m 3 = true)
    (H : ∀ (fc fs fl fm fg bf hb : Int32) (pos : Int32) (ts vs : Nat → Int32), qz_st (qt_of cn lb F E T m t u) (qv_of F V) (32 * s) (32 * s + (E s - F s)) fc fs fl fm fg bf hb → J (nI (s + 1)) f_seriesCount f_safeCount f_arenaEnd pos fc fs fl fm fg bf hb f_levelNow a_labelsOf a_first a_end a_safeFirst a_safeEnd a_lastTime a_safeLast a_having a_blockCount a_startBit a_bitCount a_sampleCount a_firstNumber a_fromTime a_toTime a_fromValue a_toValue a_total a_smallest a_greatest a_grown a_bits a_lastStep ts vs) :
    ∀ (r pre : List bk_T) (num : Nat) (fc fs fl fm fg bf hb : Int32) (pos : Int32) (ts vs : Nat → Int32), L s = pre ++ r → cv_inv (F s) (E s) num r → qz_st (qt_of cn lb F E T m t u) (qv_of F V) (32 * s) (32 * s + (num - F s)) fc fs fl fm fg bf hb →
      wX_ask_73 post J t u S (nI s) (r.length + 1) (nI (12 * s + pre.length)) f_seriesCount f_safeCount f_arenaEnd pos fc fs fl fm fg bf hb f_levelNow a_labelsOf a_first a_end a_safeFirst a_safeEnd a_lastTime a_safeLast a_having a_blockCount a_startBit a_bitCount a_sampleCount a_firstNumber a_fromTime a_toTime a_fromValue a_toValue a_total a_smallest a_greatest a_grown a_bits a_lastStep ts vs := by
  obtain ⟨hcn, hae, hrow, hse, henc, hdis⟩ := id I
  obtain ⟨hhs, hl1, hl2, hl3⟩ := hse s hs
  have hcs : (nI s).toNatClampNeg = s := nI_clamp (by omega)
  have his : vp_in (nI s) 8 := vp_in_nI (by omega) (by omega)
  have he : 12 * nI s + a_blockCount (nI s).toNatClampNeg = nI (12 * s + (L s).length) := by rw [hcs, (hrow s hs).1, ba_12]
  intro r
  induction r with
  | nil =>
    intro pre num fc fs fl fm fg bf hb pos ts vs hL hv hz
    rw [cv_nil hv] at hz
    refine ⟨his, br_t ?_ (nm_r (nI_1 s) (H _ _ _ _ _ _ _ _ _ _ hz))⟩
    rw [he, hL, List.append_nil]; exact Int32.le_refl _
  | cons a r ih =>
    intro pre num fc fs fl fm fg bf hb pos ts vs hL hv hz
    have hk : (L s)[pre.length]? = some a := by rw [hL]; exact ls_mid _ _ _
    have hm2 := ls_mem hk
    have hb := hl3 a hm2.1
    have hpw : ∀ b, b ∈ r → ci_lt a b := by
      rw [hL] at hl2
      exact (List.pairwise_cons.mp (List.pairwise_append.mp hl2).2.1).1
    have hnext : ∀ (num' : Nat), cv_inv (F s) (E s) num' r → ∀ (fc fs fl fm fg bf hb : Int32) (pos : Int32) (ts vs : Nat → Int32), qz_st (qt_of cn lb F E T m t u) (qv_of F V) (32 * s) (32 * s + (num' - F s)) fc fs fl fm fg bf hb → wX_ask_73 post J t u S (nI s) (r.length + 1) (nI (12 * s + pre.length + 1)) f_seriesCount f_safeCount f_arenaEnd pos fc fs fl fm fg bf hb f_levelNow a_labelsOf a_first a_end a_safeFirst a_safeEnd a_lastTime a_safeLast a_having a_blockCount a_startBit a_bitCount a_sampleCount a_firstNumber a_fromTime a_toTime a_fromValue a_toValue a_total a_smallest a_greatest a_grown a_bits a_lastStep ts vs := fun num' hv' fc fs fl fm fg bf hb pos ts vs hz' => by
      have := ih (pre ++ [a]) num' fc fs fl fm fg bf hb pos ts vs (by rw [hL, List.append_assoc]; rfl) hv' hz'
      rw [List.length_append] at this
      exact this
    refine ⟨his, br_f (by rw [he]; exact nI_ge (by omega) (by omega)) ?_⟩
    by_cases hp : F s < a.2.2 + a.2.1
    · obtain ⟨⟨v1, v2, v3⟩, v4⟩ := cv_take hv hp hb.2.2.1 hb.1 hb.2.1 hpw
      rw [← v1] at hz
      exact cx_askBlock I hs hk hF hFE h32 hm hz (fun fc fs fl fm fg bf hb pos ts vs hz' => nm_r (nI_1 _) (hnext _ v4 fc fs fl fm fg bf hb pos ts vs hz'))
    · obtain ⟨v1, v2⟩ := cv_skip hv (by omega) hb.1
      rw [v1, show F s - F s = a.2.2 - F s from by omega] at hz
      refine cx_askBlock I hs hk hF hFE h32 hm hz (fun fc fs fl fm fg bf hb pos ts vs hz' => nm_r (nI_1 _) (hnext _ v2 fc fs fl fm fg bf hb pos ts vs ?_))
      rw [v1, show F s - F s = a.2.2 + a.2.1 - F s from by omega]
      exact hz'
theorem ba_bit {S : Int32} {s : Nat} (hs : s < 32) : ((S >>> (nI s &&& 31)) &&& 1) = nI (bt S s).toNat := by
  rw [bi_and1, b_sshr s hs S (by omega), if_pos (by omega)]; rfl
theorem xx_ask {post : SX → Prop} {cn sn : Nat} {lb F E SF SE : Nat → Nat} {LT SLT : Nat → Int32} {T V : Nat → Nat → Int32} {L : Nat → List bk_T} {P : Nat → Nat → Nat} {ae : Nat} {m : Nat} {t u : Int32} (I : xi_ok cn sn lb F E SF SE LT SLT T V L P ae f_seriesCount f_safeCount f_arenaEnd a_labelsOf a_first a_end a_safeFirst a_safeEnd a_lastTime a_safeLast a_having a_blockCount a_startBit a_bitCount a_sampleCount a_firstNumber a_fromTime a_toTime a_fromValue a_toValue a_total a_smallest a_greatest a_grown a_bits a_lastStep) (hm : m ≤ 728) (H : ∀ (fc fs fl fm fg bf hb : Int32) (pos : Int32) (ts vs : Nat → Int32), qa_st (qt_of cn lb F E T m t u) (qv_of F V) 256 fc fs fl fm fg → post (f_seriesCount, f_safeCount, f_arenaEnd, pos, fc, fs, fl, fm, fg, bf, hb, f_levelNow, a_labelsOf, a_first, a_end, a_safeFirst, a_safeEnd, a_lastTime, a_safeLast, a_having, a_blockCount, a_startBit, a_bitCount, a_sampleCount, a_firstNumber, a_fromTime, a_toTime, a_fromValue, a_toValue, a_total, a_smallest, a_greatest, a_grown, a_bits, a_lastStep, ts, vs)) : wpX_ask post (f_seriesCount, f_safeCount, f_arenaEnd, f_position, f_foundCount, f_foundSum, f_foundLeast, f_foundMost, f_foundGrowth, f_before, f_hasBefore, f_levelNow, a_labelsOf, a_first, a_end, a_safeFirst, a_safeEnd, a_lastTime, a_safeLast, a_having, a_blockCount, a_startBit, a_bitCount, a_sampleCount, a_firstNumber, a_fromTime, a_toTime, a_fromValue, a_toValue, a_total, a_smallest, a_greatest, a_grown, a_bits, a_lastStep, a_times, a_values) (nI m) t u := by
  obtain ⟨h1, h2, h3, h4, hci, h6, h7, h8, h9, h10⟩ := I
  obtain ⟨hcn, _, _, hse, _⟩ := id hci
  unfold wpX_ask
  refine wx_matching hcn h1 h10 hm (fun S hS => ?_)
  have loop : ∀ (d s : Nat) (fc fs fl fm fg bf hb : Int32) (pos : Int32) (ts vs : Nat → Int32), s + d = cn → qa_st (qt_of cn lb F E T m t u) (qv_of F V) (32 * s) fc fs fl fm fg → wX_ask_39 post t u S (d + 1) (nI s) f_seriesCount f_safeCount f_arenaEnd pos fc fs fl fm fg bf hb f_levelNow a_labelsOf a_first a_end a_safeFirst a_safeEnd a_lastTime a_safeLast a_having a_blockCount a_startBit a_bitCount a_sampleCount a_firstNumber a_fromTime a_toTime a_fromValue a_toValue a_total a_smallest a_greatest a_grown a_bits a_lastStep ts vs := by
    intro d
    induction d with
    | zero =>
      intro s fc fs fl fm fg bf hb pos ts vs hs hz
      have e : s = cn := by omega
      subst e
      refine br_t (by rw [h1]; exact Int32.le_refl _) (H _ _ _ _ _ _ _ _ _ _ ?_)
      have := qa_skips hz (256 - 32 * s) (fun i hi => qt_f (fun z => by have := z.1; omega))
      rw [show 32 * s + (256 - 32 * s) = 256 from by omega] at this
      exact this
    | succ d ih =>
      intro s fc fs fl fm fg bf hb pos ts vs hs hz
      have hsc : s < cn := by omega
      obtain ⟨⟨p1, p2, p3, p4, p5, p6, p7⟩, pu⟩ := h8 s hsc
      have hbit := ba_bit (S := S) (s := s) (by omega)
      rw [hS s (by omega), decide_eq_true hsc, Bool.true_and] at hbit
      refine br_f (by rw [h1]; exact nI_ge hsc (by omega)) ?_
      cases hmt : mt_u (lb s) m 3 with
      | false =>
        rw [hmt] at hbit
        refine br_t (hbit.trans rfl) (nm_r (nI_1 s) (ih (s + 1) fc fs fl fm fg bf hb pos ts vs (by omega) ?_))
        have := qa_skips hz 32 (fun i hi => qt_f (fun z => by
          have z5 := z.2.2.2.2
          rw [show (32 * s + i) / 32 = s from by omega, hmt] at z5
          cases z5))
        rw [show 32 * s + 32 = 32 * (s + 1) from by omega] at this
        exact this
      | true =>
        rw [hmt] at hbit
        refine br_f (by rw [hbit]; decide) (nm_r (e' := nI (12 * s + 0)) (by rw [show (12 : Int32) = nI 12 from rfl, pk_mul]; rfl) ⟨(L s).length + 1, ?_⟩)
        refine cx_ask73 hci hsc (h6 s hsc).1 p1 p2 hmt (fun fc fs fl fm fg bf hb pos ts vs hz' => ih (s + 1) fc fs fl fm fg bf hb pos ts vs (by omega) ?_) (L s) [] (F s) fc fs fl fm fg bf 0 pos ts vs rfl (cv_0 p6 p1) ?_
        · have := qa_skips hz'.1 (32 - (E s - F s)) (fun i hi => qt_f (fun z => by
            have z2 := z.2.1
            rw [show (32 * s + (E s - F s) + i) / 32 = s from by omega] at z2
            omega))
          rw [show 32 * s + (E s - F s) + (32 - (E s - F s)) = 32 * (s + 1) from by omega] at this
          exact this
        · rw [Nat.sub_self]
          exact ⟨hz, Or.inl ⟨rfl, fun i i1 i2 => by omega⟩⟩
  exact ⟨cn + 1, loop cn 0 0 0 2000 (-2000) 0 f_before f_hasBefore f_position a_times a_values (by omega) ⟨rfl, rfl, rfl, rfl, rfl⟩⟩
end
end
section
/-! the component: at -/
/-- sample n counts for a time -/
def at_m (T : Nat → Int32) (t : Int32) (n : Nat) : Prop := (T n).toInt ≤ t.toInt ∧ t.toInt - 50 < (T n).toInt
/-- r: the value of the last sample of [F, E) that counts, or NONE -/
def at_sp (T V : Nat → Int32) (F E : Nat) (t r : Int32) : Prop :=
  (∃ n, F ≤ n ∧ n < E ∧ at_m T t n ∧ r = V n ∧ ∀ n', n < n' → n' < E → ¬ at_m T t n') ∨ (r = -10003 ∧ ∀ n, F ≤ n → n < E → ¬ at_m T t n)
theorem at_one {T V : Nat → Int32} {F E : Nat} {t r r' : Int32} (h : at_sp T V F E t r) (h' : at_sp T V F E t r') : r' = r := by
  rcases h with ⟨n, n1, n2, n3, n4, n5⟩ | ⟨h1, h2⟩ <;> rcases h' with ⟨k, k1, k2, k3, k4, k5⟩ | ⟨k1, k2⟩
  · have e : n = k := by
      rcases Nat.lt_trichotomy n k with z | z | z
      · exact absurd k3 (n5 k z k2)
      · exact z
      · exact absurd n3 (k5 n z n2)
    rw [n4, k4, e]
  · exact absurd n3 (k2 n n1 n2)
  · exact absurd k3 (h2 k k1 k2)
  · rw [h1, k1]
theorem at_50 {t : Int32} (ht : 0 ≤ t.toInt ∧ t.toInt ≤ 999) : (t - 50).toInt = t.toInt - 50 := by
  rw [ba_sub (by rw [show (50 : Int32).toInt = 50 from by decide]; omega) (by rw [show (50 : Int32).toInt = 50 from by decide]; omega), show (50 : Int32).toInt = 50 from by decide]
section
variable {f_seriesCount f_safeCount f_arenaEnd f_position f_foundCount f_foundSum f_foundLeast f_foundMost f_foundGrowth f_before f_hasBefore f_levelNow : Int32} {a_labelsOf a_first a_end a_safeFirst a_safeEnd a_lastTime a_safeLast a_having a_blockCount a_startBit a_bitCount a_sampleCount a_firstNumber a_fromTime a_toTime a_fromValue a_toValue a_total a_smallest a_greatest a_grown a_bits a_lastStep a_times a_values : Nat → Int32}
theorem wx_lat13 {post : Int32 → SX → Prop} {s b fn sc F : Nat} {t : Int32} {T V : Nat → Int32} (hs : s < 8) (hb : b < 96) (h3 : a_sampleCount b = nI sc) (h4 : a_firstNumber b = nI fn) (hF : a_first s = nI F) (hsc : sc ≤ 8) (hfn : fn + sc ≤ 1000) (hF2 : F ≤ 1000) (ht : 0 ≤ t.toInt ∧ t.toInt ≤ 999)
    (hts : ∀ j, j < sc → a_times j = T (fn + j) ∧ a_values j = V (fn + j))
    (H : ∀ r, at_sp T V (if F ≤ fn then fn else F) (fn + sc) t r → post r (f_seriesCount, f_safeCount, f_arenaEnd, f_position, f_foundCount, f_foundSum, f_foundLeast, f_foundMost, f_foundGrowth, f_before, f_hasBefore, f_levelNow, a_labelsOf, a_first, a_end, a_safeFirst, a_safeEnd, a_lastTime, a_safeLast, a_having, a_blockCount, a_startBit, a_bitCount, a_sampleCount, a_firstNumber, a_fromTime, a_toTime, a_fromValue, a_toValue, a_total, a_smallest, a_greatest, a_grown, a_bits, a_lastStep, a_times, a_values)) :
    ∀ (d k : Nat) (r : Int32), k + d = sc → at_sp T V (if F ≤ fn then fn else F) (fn + k) t r → wX_latestIn_13 post (nI s) (nI b) t f_seriesCount f_safeCount f_arenaEnd f_position f_foundCount f_foundSum f_foundLeast f_foundMost f_foundGrowth f_before f_hasBefore f_levelNow a_labelsOf a_first a_end a_safeFirst a_safeEnd a_lastTime a_safeLast a_having a_blockCount a_startBit a_bitCount a_sampleCount a_firstNumber a_fromTime a_toTime a_fromValue a_toValue a_total a_smallest a_greatest a_grown a_bits a_lastStep a_times a_values (d + 1) r (nI k) := by
  have hcb : (nI b).toNatClampNeg = b := nI_clamp (by omega)
  have hib : vp_in (nI b) 96 := vp_in_nI hb (by omega)
  have hcs : (nI s).toNatClampNeg = s := nI_clamp (by omega)
  have his : vp_in (nI s) 8 := vp_in_nI hs (by omega)
  have h50 := at_50 ht
  intro d
  induction d with
  | zero =>
    intro k r hd h
    have e : k = sc := by omega
    subst e
    exact ⟨hib, br_t (by rw [hcb, h3]; exact Int32.le_refl _) (H r h)⟩
  | succ d ih =>
    intro k r hd h
    have hck : (nI k).toNatClampNeg = k := nI_clamp (by omega)
    have hik : vp_in (nI k) 8 := vp_in_nI (by omega) (by omega)
    obtain ⟨t1, t2⟩ := hts k (by omega)
    have hlt : (a_firstNumber (nI b).toNatClampNeg + nI k < a_first (nI s).toNatClampNeg) ↔ fn + k < F := by rw [hcs, hcb, hF, h4, nI_add, nI_ltI (by omega) (by omega)]
    have skip : ¬ (F ≤ fn + k ∧ at_m T t (fn + k)) → wX_latestIn_13 post (nI s) (nI b) t f_seriesCount f_safeCount f_arenaEnd f_position f_foundCount f_foundSum f_foundLeast f_foundMost f_foundGrowth f_before f_hasBefore f_levelNow a_labelsOf a_first a_end a_safeFirst a_safeEnd a_lastTime a_safeLast a_having a_blockCount a_startBit a_bitCount a_sampleCount a_firstNumber a_fromTime a_toTime a_fromValue a_toValue a_total a_smallest a_greatest a_grown a_bits a_lastStep a_times a_values (d + 1) r (nI (k + 1)) := fun hn => ih (k + 1) r (by omega) (by
      rcases h with ⟨n, n1, n2, n3, n4, n5⟩ | ⟨h1, h2⟩
      · refine Or.inl ⟨n, n1, by omega, n3, n4, fun n' g1 g2 g3 => ?_⟩
        rcases Nat.lt_or_ge n' (fn + k) with z | z
        · exact n5 n' g1 z g3
        · have e : n' = fn + k := by omega
          subst e
          exact hn ⟨by split at n1 <;> omega, g3⟩
      · refine Or.inr ⟨h1, fun n g1 g2 g3 => ?_⟩
        rcases Nat.lt_or_ge n (fn + k) with z | z
        · exact h2 n g1 z g3
        · have e : n = fn + k := by omega
          subst e
          exact hn ⟨by split at g1 <;> omega, g3⟩)
    refine ⟨hib, br_f (by rw [hcb, h3]; exact nI_ge (by omega) (by omega)) ⟨hik, br_c (fun z => nm_r (nI_1 k) (skip ?_)) (fun z => ⟨hik, br_c (fun y => nm_r (nI_1 k) (skip ?_)) (fun y => ⟨hib, his, br_c (fun w => nm_r (nI_1 k) (skip ?_)) (fun w => ⟨hik, nm_r (e' := a_values k) (by rw [hck]) (nm_r (nI_1 k) (ih (k + 1) (a_values k) (by omega) ?_))⟩)⟩)⟩)⟩⟩
    · rw [hck, t1, ba_lt] at z
      unfold at_m; omega
    · rw [hck, t1, ba_le, h50] at y
      unfold at_m; omega
    · rw [hlt] at w; omega
    · rw [hlt] at w
      rw [hck, t1, ba_lt] at z
      rw [hck, t1, ba_le, h50] at y
      exact Or.inl ⟨fn + k, by split <;> omega, by omega, ⟨by omega, by omega⟩, t2, fun n' g1 g2 => by omega⟩
theorem xx_at_l {post : Int32 → SX → Prop} {cn sn : Nat} {lb F E SF SE : Nat → Nat} {LT SLT : Nat → Int32} {T V : Nat → Nat → Int32} {L : Nat → List bk_T} {P : Nat → Nat → Nat} {ae : Nat} {s : Nat} {t : Int32} (I : xi_ok cn sn lb F E SF SE LT SLT T V L P ae f_seriesCount f_safeCount f_arenaEnd a_labelsOf a_first a_end a_safeFirst a_safeEnd a_lastTime a_safeLast a_having a_blockCount a_startBit a_bitCount a_sampleCount a_firstNumber a_fromTime a_toTime a_fromValue a_toValue a_total a_smallest a_greatest a_grown a_bits a_lastStep) (hs : s < cn) (ht : 0 ≤ t.toInt ∧ t.toInt ≤ 999)
    (H : ∀ r (pos : Int32) (ts vs : Nat → Int32), at_sp (T s) (V s) (F s) (E s) t r → post r (f_seriesCount, f_safeCount, f_arenaEnd, pos, f_foundCount, f_foundSum, f_foundLeast, f_foundMost, f_foundGrowth, f_before, f_hasBefore, f_levelNow, a_labelsOf, a_first, a_end, a_safeFirst, a_safeEnd, a_lastTime, a_safeLast, a_having, a_blockCount, a_startBit, a_bitCount, a_sampleCount, a_firstNumber, a_fromTime, a_toTime, a_fromValue, a_toValue, a_total, a_smallest, a_greatest, a_grown, a_bits, a_lastStep, ts, vs)) :
    ∀ (mm : Nat) (pre suf : List bk_T) (pos : Int32) (ts vs : Nat → Int32), pre.length = mm → L s = pre ++ suf → (∀ b, b ∈ suf → ∀ n, b.2.2 ≤ n → n < b.2.2 + b.2.1 → F s ≤ n → ¬ at_m (T s) t n) →
      wX_at_37 post (nI s) t (mm + 1) (-10003) (nI mm - 1) f_seriesCount f_safeCount f_arenaEnd pos f_foundCount f_foundSum f_foundLeast f_foundMost f_foundGrowth f_before f_hasBefore f_levelNow a_labelsOf a_first a_end a_safeFirst a_safeEnd a_lastTime a_safeLast a_having a_blockCount a_startBit a_bitCount a_sampleCount a_firstNumber a_fromTime a_toTime a_fromValue a_toValue a_total a_smallest a_greatest a_grown a_bits a_lastStep ts vs := by
  obtain ⟨h1, h2, h3, h4, hci, h6, h7, h8, h9, h10⟩ := I
  obtain ⟨hcn, hae, hrow, hse, henc, hdis⟩ := id hci
  obtain ⟨hhs, hl1, hl2, hl3⟩ := hse s hs
  obtain ⟨⟨p1, p2, p3, p4, p5, p6, p7⟩, pu⟩ := h8 s hs
  have hE := ci_hist_E hhs
  have hF := (h6 s hs).1
  have h50 := at_50 ht
  have nil : ∀ (suf : List bk_T), L s = suf → (∀ b, b ∈ suf → ∀ n, b.2.2 ≤ n → n < b.2.2 + b.2.1 → F s ≤ n → ¬ at_m (T s) t n) → at_sp (T s) (V s) (F s) (E s) t (-10003) := fun suf e hsuf => Or.inr ⟨rfl, fun n n1 n2 n3 => by
    obtain ⟨b, b1, b2, b3⟩ := p6 n n1 n2
    exact hsuf b (e ▸ b1) n b2 b3 n1 n3⟩
  intro mm
  induction mm with
  | zero =>
    intro pre suf pos ts vs hp hL hsuf
    have e : pre = [] := List.length_eq_zero_iff.mp hp
    subst e
    exact br_t (by decide) (H _ _ _ _ (nil suf hL hsuf))
  | succ mm ih =>
    intro pre suf pos ts vs hp hL hsuf
    rcases ls_last pre with z | ⟨pre0, a, z⟩
    · rw [z] at hp; cases hp
    have hp0 : pre0.length = mm := by rw [z, List.length_append] at hp; exact Nat.succ.inj hp
    subst hp0
    have hL2 : L s = pre0 ++ a :: suf := by rw [hL, z, List.append_assoc]; rfl
    have hk : (L s)[pre0.length]? = some a := by rw [hL2]; exact ls_mid _ _ _
    obtain ⟨ham, hkl⟩ := ls_mem hk
    have hb := hl3 a ham
    obtain ⟨r1, r2, r3, r4, r5, r6, _⟩ := ro_e ((hrow s hs).2 _ a hk)
    have hcb : (nI (12 * s + pre0.length)).toNatClampNeg = 12 * s + pre0.length := nI_clamp (by omega)
    have hib : vp_in (nI (12 * s + pre0.length)) 96 := vp_in_nI (by omega) (by omega)
    have e0 : nI (pre0.length + 1) - 1 = nI pre0.length := nI_pred _
    have em : nI pre0.length + (-1) = nI pre0.length - 1 := by grind
    have nx : (∀ n, a.2.2 ≤ n → n < a.2.2 + a.2.1 → F s ≤ n → ¬ at_m (T s) t n) → ∀ (pos : Int32) (ts vs : Nat → Int32), wX_at_37 post (nI s) t (pre0.length + 1) (-10003) (nI pre0.length - 1) f_seriesCount f_safeCount f_arenaEnd pos f_foundCount f_foundSum f_foundLeast f_foundMost f_foundGrowth f_before f_hasBefore f_levelNow a_labelsOf a_first a_end a_safeFirst a_safeEnd a_lastTime a_safeLast a_having a_blockCount a_startBit a_bitCount a_sampleCount a_firstNumber a_fromTime a_toTime a_fromValue a_toValue a_total a_smallest a_greatest a_grown a_bits a_lastStep ts vs := fun hn pos ts vs => ih pre0 (a :: suf) pos ts vs rfl hL2 (fun b hbm => by
      rcases List.mem_cons.mp hbm with y | y
      · subst y; exact hn
      · exact hsuf b y)
    rw [e0]
    refine br_f (nI_pos (by omega)) (br_t rfl (nm_r (ba_12 s pre0.length) ⟨hib, br_c (fun y => nm_r em (nx (fun n n1 n2 n3 n4 => ?_) _ _ _)) (fun y => wx_isPresent (by omega) (by omega) r4 r3 hF (by omega) (by omega) (fun w => br_f (by decide) ⟨hib, br_c (fun x => ?_) (fun x => H _ _ _ _ (Or.inr ⟨rfl, fun n n1 n2 n3 => ?_⟩))⟩) (fun w => br_t rfl (nm_r em (nx (fun n n1 n2 n3 => by omega) _ _ _))))⟩))
    · rw [hcb, r5, ba_lt] at y
      have := ci_hist_le hhs (m := a.2.2) (n := n) n1 (by omega)
      unfold at_m at n4; omega
    · -- look into the block
      obtain ⟨p', ts', vs', hts, W⟩ := cx_unpack f_seriesCount f_safeCount f_arenaEnd pos f_foundCount f_foundSum f_foundLeast f_foundMost f_foundGrowth f_before f_hasBefore f_levelNow a_labelsOf a_first a_end a_safeFirst a_safeEnd a_lastTime a_safeLast a_having a_blockCount a_startBit a_bitCount a_sampleCount a_firstNumber a_fromTime a_toTime a_fromValue a_toValue a_total a_smallest a_greatest a_grown a_bits a_lastStep ts vs hci hs hk
      refine W _ ⟨a.2.1 + 1, wx_lat13 (T := T s) (V := V s) (F := F s) (by omega) (by omega) r3 r4 hF (by omega) (by omega) (by omega) ht hts (fun r hr => nm_r em ?_) a.2.1 0 (-10003) (by omega) (Or.inr ⟨rfl, fun n n1 n2 => by split at n1 <;> omega⟩)⟩
      rcases hr with ⟨n, n1, n2, n3, n4, n5⟩ | ⟨q1, q2⟩
      · have hn1 : F s ≤ n ∧ a.2.2 ≤ n := by split at n1 <;> omega
        have hfin : at_sp (T s) (V s) (F s) (E s) t r := Or.inl ⟨n, hn1.1, by omega, n3, n4, fun n' g1 g2 g3 => by
          obtain ⟨b, b1, b2, b3⟩ := p6 n' (by omega) g2
          rw [hL2] at b1
          rcases List.mem_append.mp b1 with c | c
          · rw [hL2] at hl2
            have := (List.pairwise_append.mp hl2).2.2 b c a (List.mem_cons_self ..)
            unfold ci_lt at this
            have := hl3 b (by rw [hL2]; exact List.mem_append_left _ c)
            omega
          · rcases List.mem_cons.mp c with d | d
            · subst d; exact n5 n' g1 b3 g3
            · exact hsuf b d n' b2 b3 (by omega) g3⟩
        have hne : ¬ r = -10003 := fun e => by
          have h0 := hhs.1 n (by omega)
          rw [← n4, e, show (-10003 : Int32).toInt = -10003 from by decide] at h0
          omega
        exact br_c (fun _ => H _ _ _ _ hfin) (fun _ => br_f hne (H _ _ _ _ hfin))
      · subst q1
        exact nx (fun n g1 g2 g3 g4 => q2 n (by split <;> omega) g2 g4) _ _ _
    · -- all is too old
      rw [hcb, r6, ba_lt, h50] at x
      obtain ⟨b, b1, b2, b3⟩ := p6 n n1 n2
      rw [hL2] at b1
      rcases List.mem_append.mp b1 with c | c
      · rw [hL2] at hl2
        have h9 := (List.pairwise_append.mp hl2).2.2 b c a (List.mem_cons_self ..)
        unfold ci_lt at h9
        have := hl3 b (by rw [hL2]; exact List.mem_append_left _ c)
        have := ci_hist_le hhs (m := n) (n := a.2.2 + (a.2.1 - 1)) (by omega) (by omega)
        unfold at_m at n3; omega
      · rcases List.mem_cons.mp c with d | d
        · subst d
          have := ci_hist_le hhs (m := n) (n := b.2.2 + (b.2.1 - 1)) (by omega) (by omega)
          unfold at_m at n3; omega
        · exact hsuf b d n b2 b3 n1 n3
theorem xx_at {post : Int32 → SX → Prop} {cn sn : Nat} {lb F E SF SE : Nat → Nat} {LT SLT : Nat → Int32} {T V : Nat → Nat → Int32} {L : Nat → List bk_T} {P : Nat → Nat → Nat} {ae : Nat} {s : Nat} {t : Int32} (I : xi_ok cn sn lb F E SF SE LT SLT T V L P ae f_seriesCount f_safeCount f_arenaEnd a_labelsOf a_first a_end a_safeFirst a_safeEnd a_lastTime a_safeLast a_having a_blockCount a_startBit a_bitCount a_sampleCount a_firstNumber a_fromTime a_toTime a_fromValue a_toValue a_total a_smallest a_greatest a_grown a_bits a_lastStep) (hs : s < cn) (ht : 0 ≤ t.toInt ∧ t.toInt ≤ 999)
    (H : ∀ r (pos : Int32) (ts vs : Nat → Int32), at_sp (T s) (V s) (F s) (E s) t r → post r (f_seriesCount, f_safeCount, f_arenaEnd, pos, f_foundCount, f_foundSum, f_foundLeast, f_foundMost, f_foundGrowth, f_before, f_hasBefore, f_levelNow, a_labelsOf, a_first, a_end, a_safeFirst, a_safeEnd, a_lastTime, a_safeLast, a_having, a_blockCount, a_startBit, a_bitCount, a_sampleCount, a_firstNumber, a_fromTime, a_toTime, a_fromValue, a_toValue, a_total, a_smallest, a_greatest, a_grown, a_bits, a_lastStep, ts, vs)) : wpX_at post (f_seriesCount, f_safeCount, f_arenaEnd, f_position, f_foundCount, f_foundSum, f_foundLeast, f_foundMost, f_foundGrowth, f_before, f_hasBefore, f_levelNow, a_labelsOf, a_first, a_end, a_safeFirst, a_safeEnd, a_lastTime, a_safeLast, a_having, a_blockCount, a_startBit, a_bitCount, a_sampleCount, a_firstNumber, a_fromTime, a_toTime, a_fromValue, a_toValue, a_total, a_smallest, a_greatest, a_grown, a_bits, a_lastStep, a_times, a_values) (nI s) t := by
  have h1 := I.1
  have hcn := I.2.2.2.2.1.1
  have hrow := I.2.2.2.2.1.2.2.1
  have hcs : (nI s).toNatClampNeg = s := nI_clamp (by omega)
  refine br_f (nI_pos (by omega)) (br_f (by rw [h1]; exact nI_ge hs (by omega)) ?_)
  refine br_f (by decide) (br_f ?_ (br_t ?_ ⟨vp_in_nI (by omega) (by omega), nm_r (e' := nI (L s).length - 1) (by rw [hcs, (hrow s hs).1]) ⟨(L s).length + 1, xx_at_l I hs ht H _ (L s) [] f_position a_times a_values rfl (List.append_nil _).symm (fun b hb => by cases hb)⟩⟩))
  · rw [ba_lt, ba_0]; omega
  · rw [ba_le, show (999 : Int32).toInt = 999 from by decide]; omega
end
end
section
/-! the component: countUpTo, ranked -/
/-- taken, and its value not above w -/
def qw_of (tk : Nat → Bool) (vl : Nat → Int32) (w : Int) (k : Nat) : Bool := tk k && decide ((vl k).toInt ≤ w)
theorem qw_f {tk : Nat → Bool} {vl : Nat → Int32} {w : Int} {k : Nat} (h : ¬ (tk k = true ∧ (vl k).toInt ≤ w)) : qw_of tk vl w k = false := by
  cases e : qw_of tk vl w k with
  | false => rfl
  | true => unfold qw_of at e; rw [Bool.and_eq_true, decide_eq_true_eq] at e; exact absurd e h
theorem qw_t {tk : Nat → Bool} {vl : Nat → Int32} {w : Int} {k : Nat} (h1 : tk k = true) (h2 : (vl k).toInt ≤ w) : qw_of tk vl w k = true := by
  unfold qw_of; rw [h1, decide_eq_true h2]; rfl
theorem cq_all {P : Nat → Bool} {K : Nat} : ∀ c, (∀ i, i < c → P (K + i) = true) → cq_of P (K + c) = cq_of P K + c
  | 0, _ => rfl
  | c + 1, h => by
    have ih := cq_all (P := P) (K := K) c (fun i hi => h i (by omega))
    show cq_of P (K + c) + (P (K + c)).toNat = _
    rw [ih, h c (by omega)]; rfl
theorem cq_none {P : Nat → Bool} {K : Nat} : ∀ c, (∀ i, i < c → P (K + i) = false) → cq_of P (K + c) = cq_of P K
  | 0, _ => rfl
  | c + 1, h => by
    have ih := cq_none (P := P) (K := K) c (fun i hi => h i (by omega))
    show cq_of P (K + c) + (P (K + c)).toNat = _
    rw [ih, h c (by omega)]; rfl
section
variable {f_seriesCount f_safeCount f_arenaEnd f_position f_foundCount f_foundSum f_foundLeast f_foundMost f_foundGrowth f_before f_hasBefore f_levelNow : Int32} {a_labelsOf a_first a_end a_safeFirst a_safeEnd a_lastTime a_safeLast a_having a_blockCount a_startBit a_bitCount a_sampleCount a_firstNumber a_fromTime a_toTime a_fromValue a_toValue a_total a_smallest a_greatest a_grown a_bits a_lastStep a_times a_values : Nat → Int32}
theorem wx_cib85 {post : Int32 → SX → Prop} {s b fn sc F K0 : Nat} {t u w : Int32} {tk : Nat → Bool} {vl : Nat → Int32} (hs : s < 8) (hb : b < 96) (h3 : a_sampleCount b = nI sc) (h4 : a_firstNumber b = nI fn) (hF : a_first s = nI F) (hsc : sc ≤ 8) (hfn : fn + sc ≤ 1000) (hF2 : F ≤ 1000)
    (hk : ∀ k, k < sc → F ≤ fn + k → (tk (32 * s + (fn + k - F)) = true ↔ t ≤ a_times k ∧ a_times k ≤ u) ∧ vl (32 * s + (fn + k - F)) = a_values k)
    (H : ∀ c, cq_of (qw_of tk vl w.toInt) (32 * s + (fn + sc - F)) = cq_of (qw_of tk vl w.toInt) K0 + c → post (nI c) (f_seriesCount, f_safeCount, f_arenaEnd, f_position, f_foundCount, f_foundSum, f_foundLeast, f_foundMost, f_foundGrowth, f_before, f_hasBefore, f_levelNow, a_labelsOf, a_first, a_end, a_safeFirst, a_safeEnd, a_lastTime, a_safeLast, a_having, a_blockCount, a_startBit, a_bitCount, a_sampleCount, a_firstNumber, a_fromTime, a_toTime, a_fromValue, a_toValue, a_total, a_smallest, a_greatest, a_grown, a_bits, a_lastStep, a_times, a_values)) :
    ∀ (d k c : Nat), k + d = sc → cq_of (qw_of tk vl w.toInt) (32 * s + (fn + k - F)) = cq_of (qw_of tk vl w.toInt) K0 + c → wX_countInBlock_85 post (nI s) (nI b) t u w f_seriesCount f_safeCount f_arenaEnd f_position f_foundCount f_foundSum f_foundLeast f_foundMost f_foundGrowth f_before f_hasBefore f_levelNow a_labelsOf a_first a_end a_safeFirst a_safeEnd a_lastTime a_safeLast a_having a_blockCount a_startBit a_bitCount a_sampleCount a_firstNumber a_fromTime a_toTime a_fromValue a_toValue a_total a_smallest a_greatest a_grown a_bits a_lastStep a_times a_values (d + 1) (nI c) (nI k) := by
  have hcb : (nI b).toNatClampNeg = b := nI_clamp (by omega)
  have hib : vp_in (nI b) 96 := vp_in_nI hb (by omega)
  have hcs : (nI s).toNatClampNeg = s := nI_clamp (by omega)
  have his : vp_in (nI s) 8 := vp_in_nI hs (by omega)
  intro d
  induction d with
  | zero =>
    intro k c hd hz
    have e : k = sc := by omega
    subst e
    exact ⟨hib, br_t (by rw [hcb, h3]; exact Int32.le_refl _) (H c hz)⟩
  | succ d ih =>
    intro k c hd hz
    have hck : (nI k).toNatClampNeg = k := nI_clamp (by omega)
    have hik : vp_in (nI k) 8 := vp_in_nI (by omega) (by omega)
    have hlt : (a_firstNumber (nI b).toNatClampNeg + nI k < a_first (nI s).toNatClampNeg) ↔ fn + k < F := by rw [hcs, hcb, hF, h4, nI_add, nI_ltI (by omega) (by omega)]
    refine ⟨hib, br_f (by rw [hcb, h3]; exact nI_ge (by omega) (by omega)) ⟨hik, ?_⟩⟩
    rcases Nat.lt_or_ge (fn + k) F with zf | zf
    · have nx := ih (k + 1) c (by omega) (by rw [show fn + (k + 1) - F = fn + k - F from by omega]; exact hz)
      exact br_c (fun z => nm_r (nI_1 k) nx) (fun z => ⟨hik, br_c (fun y => nm_r (nI_1 k) nx) (fun y => ⟨hib, his, br_t (hlt.mpr zf) (nm_r (nI_1 k) nx)⟩)⟩)
    · obtain ⟨g1, g2⟩ := hk k (by omega) zf
      have eK : 32 * s + (fn + (k + 1) - F) = 32 * s + (fn + k - F) + 1 := by omega
      have skip : ¬ ((t ≤ a_times k ∧ a_times k ≤ u) ∧ (a_values k).toInt ≤ w.toInt) → wX_countInBlock_85 post (nI s) (nI b) t u w f_seriesCount f_safeCount f_arenaEnd f_position f_foundCount f_foundSum f_foundLeast f_foundMost f_foundGrowth f_before f_hasBefore f_levelNow a_labelsOf a_first a_end a_safeFirst a_safeEnd a_lastTime a_safeLast a_having a_blockCount a_startBit a_bitCount a_sampleCount a_firstNumber a_fromTime a_toTime a_fromValue a_toValue a_total a_smallest a_greatest a_grown a_bits a_lastStep a_times a_values (d + 1) (nI c) (nI (k + 1)) := fun hn => ih (k + 1) c (by omega) (by
        rw [eK]
        have := cq_none (P := qw_of tk vl w.toInt) (K := 32 * s + (fn + k - F)) 1 (fun i hi => by
          rw [show i = 0 from by omega, Nat.add_zero]
          exact qw_f (fun z => hn ⟨g1.mp z.1, by rw [← g2]; exact z.2⟩))
        rw [this]; exact hz)
      refine br_c (fun z => nm_r (nI_1 k) (skip ?_)) (fun z => ⟨hik, br_c (fun y => nm_r (nI_1 k) (skip ?_)) (fun y => ⟨hib, his, br_f (fun x => by rw [hlt] at x; omega) ⟨hik, br_c (fun v => nm_r (nI_1 k) (skip ?_)) (fun v => nm_r (nI_1 c) (nm_r (nI_1 k) (ih (k + 1) (c + 1) (by omega) ?_)))⟩⟩)⟩)
      · rw [hck, ba_lt] at z
        rw [ba_le]; omega
      · rw [hck, ba_lt] at y
        rw [ba_le, ba_le]; omega
      · rw [hck, ba_lt] at v
        omega
      · rw [hck, ba_lt] at z y v
        rw [eK]
        have ht : tk (32 * s + (fn + k - F)) = true := g1.mpr ⟨by rw [ba_le]; omega, by rw [ba_le]; omega⟩
        have := cq_all (P := qw_of tk vl w.toInt) (K := 32 * s + (fn + k - F)) 1 (fun i hi => by
          rw [show i = 0 from by omega, Nat.add_zero]
          exact qw_t ht (by rw [g2]; omega))
        omega
theorem cx_cib {post : Int32 → SX → Prop} {cn m : Nat} {lb F E : Nat → Nat} {T V : Nat → Nat → Int32} {L : Nat → List bk_T} {P : Nat → Nat → Nat} {ae s k : Nat} {a : bk_T} {t u w : Int32} (I : ci_ok cn T V L P E ae a_blockCount a_startBit a_bitCount a_sampleCount a_firstNumber a_fromTime a_toTime a_fromValue a_toValue a_total a_smallest a_greatest a_grown a_bits a_lastStep) (hs : s < cn) (hk : (L s)[k]? = some a) (hF : a_first s = nI (F s)) (hFE : F s ≤ E s) (h32 : E s ≤ F s + 32) (hm : mt_u (lb s) m 3 = true)
    (H : ∀ c (pos : Int32) (ts vs : Nat → Int32), cq_of (qw_of (qt_of cn lb F E T m t u) (qv_of F V) w.toInt) (32 * s + (a.2.2 + a.2.1 - F s)) = cq_of (qw_of (qt_of cn lb F E T m t u) (qv_of F V) w.toInt) (32 * s + (a.2.2 - F s)) + c → post (nI c) (f_seriesCount, f_safeCount, f_arenaEnd, pos, f_foundCount, f_foundSum, f_foundLeast, f_foundMost, f_foundGrowth, f_before, f_hasBefore, f_levelNow, a_labelsOf, a_first, a_end, a_safeFirst, a_safeEnd, a_lastTime, a_safeLast, a_having, a_blockCount, a_startBit, a_bitCount, a_sampleCount, a_firstNumber, a_fromTime, a_toTime, a_fromValue, a_toValue, a_total, a_smallest, a_greatest, a_grown, a_bits, a_lastStep, ts, vs)) : wpX_countInBlock post (f_seriesCount, f_safeCount, f_arenaEnd, f_position, f_foundCount, f_foundSum, f_foundLeast, f_foundMost, f_foundGrowth, f_before, f_hasBefore, f_levelNow, a_labelsOf, a_first, a_end, a_safeFirst, a_safeEnd, a_lastTime, a_safeLast, a_having, a_blockCount, a_startBit, a_bitCount, a_sampleCount, a_firstNumber, a_fromTime, a_toTime, a_fromValue, a_toValue, a_total, a_smallest, a_greatest, a_grown, a_bits, a_lastStep, a_times, a_values) (nI s) (nI (12 * s + k)) t u w := by
  obtain ⟨hcn, hae, hrow, hse, henc, hdis⟩ := id I
  obtain ⟨hhs, hl1, hl2, hl3⟩ := hse s hs
  have hE := ci_hist_E hhs
  obtain ⟨ham, hkl⟩ := ls_mem hk
  have hb := hl3 a ham
  obtain ⟨r1, r2, r3, r4, r5, r6, r7, r8, r9, r10, r11, r12⟩ := ro_e ((hrow s hs).2 k a hk)
  have hcb : (nI (12 * s + k)).toNatClampNeg = 12 * s + k := nI_clamp (by omega)
  have hib : vp_in (nI (12 * s + k)) 96 := vp_in_nI (by omega) (by omega)
  have hcs : (nI s).toNatClampNeg = s := nI_clamp (by omega)
  have his : vp_in (nI s) 8 := vp_in_nI (by omega) (by omega)
  have htk : ∀ n, F s ≤ n → n < E s → (qt_of cn lb F E T m t u (32 * s + (n - F s)) = true ↔ t ≤ T s n ∧ T s n ≤ u) := fun n h1 h2 => qt_n hs h1 h2 h32 hm
  have un : wX_countInBlock_74 post (nI s) (nI (12 * s + k)) t u w f_seriesCount f_safeCount f_arenaEnd f_position f_foundCount f_foundSum f_foundLeast f_foundMost f_foundGrowth f_before f_hasBefore f_levelNow a_labelsOf a_first a_end a_safeFirst a_safeEnd a_lastTime a_safeLast a_having a_blockCount a_startBit a_bitCount a_sampleCount a_firstNumber a_fromTime a_toTime a_fromValue a_toValue a_total a_smallest a_greatest a_grown a_bits a_lastStep a_times a_values := by
    obtain ⟨p', ts, vs, hts, W⟩ := cx_unpack f_seriesCount f_safeCount f_arenaEnd f_position f_foundCount f_foundSum f_foundLeast f_foundMost f_foundGrowth f_before f_hasBefore f_levelNow a_labelsOf a_first a_end a_safeFirst a_safeEnd a_lastTime a_safeLast a_having a_blockCount a_startBit a_bitCount a_sampleCount a_firstNumber a_fromTime a_toTime a_fromValue a_toValue a_total a_smallest a_greatest a_grown a_bits a_lastStep a_times a_values I hs hk
    refine W _ ⟨a.2.1 + 1, wx_cib85 (K0 := 32 * s + (a.2.2 - F s)) (tk := qt_of cn lb F E T m t u) (vl := qv_of F V) (by omega) (by omega) r3 r4 hF (by omega) (by omega) (by omega) (fun j hj hjF => ?_) (fun c hc => H c _ _ _ hc) a.2.1 0 0 (by omega) rfl⟩
    rw [(hts j hj).1, (hts j hj).2]
    exact ⟨htk _ hjF (by omega), qv_n hjF (by omega)⟩
  have un48 : wX_countInBlock_48 post (nI s) (nI (12 * s + k)) t u w f_seriesCount f_safeCount f_arenaEnd f_position f_foundCount f_foundSum f_foundLeast f_foundMost f_foundGrowth f_before f_hasBefore f_levelNow a_labelsOf a_first a_end a_safeFirst a_safeEnd a_lastTime a_safeLast a_having a_blockCount a_startBit a_bitCount a_sampleCount a_firstNumber a_fromTime a_toTime a_fromValue a_toValue a_total a_smallest a_greatest a_grown a_bits a_lastStep a_times a_values := br_t rfl un
  refine br_c (fun _ => ⟨hib, br_c (fun _ => un48) (fun w1 => ⟨hib, br_c (fun _ => un48) (fun w2 => ⟨hib, his, br_c (fun _ => un48) (fun w3 => br_f (by decide) ⟨hib, br_c (fun _ => un) (fun w4 => ⟨hib, ?_⟩)⟩)⟩)⟩)⟩) (fun _ => un48)
  rw [hcb, r5, ba_lt] at w1
  rw [hcb, r6, ba_lt] at w2
  rw [hcb, hcs, r4, hF, nI_ltI (by omega) (by omega)] at w3
  rw [hcb, r11, ba_lt] at w4
  rw [hcb, r3]
  refine H _ f_position a_times a_values ?_
  have q := cq_all (P := qw_of (qt_of cn lb F E T m t u) (qv_of F V) w.toInt) (K := 32 * s + (a.2.2 - F s)) a.2.1 (fun i hi => by
    have e := htk (a.2.2 + i) (by omega) (by omega)
    have e2 := qv_n (F := F) (V := V) (s := s) (n := a.2.2 + i) (by omega) (by omega)
    rw [show 32 * s + (a.2.2 + i - F s) = 32 * s + (a.2.2 - F s) + i from by omega] at e e2
    have h1 := ci_hist_le hhs (m := a.2.2) (n := a.2.2 + i) (by omega) (by omega)
    have h2 := ci_hist_le hhs (m := a.2.2 + i) (n := a.2.2 + (a.2.1 - 1)) (by omega) (by omega)
    have h3 := (sm_max_r (fun i => V s (a.2.2 + i)) (a.2.1 - 1)).2 i (by omega)
    exact qw_t (e.mpr ⟨by rw [ba_le]; omega, by rw [ba_le]; omega⟩) (by rw [e2]; omega))
  rw [show 32 * s + (a.2.2 - F s) + a.2.1 = 32 * s + (a.2.2 + a.2.1 - F s) from by omega] at q
  exact q
theorem cx_cut34 {post : Int32 → SX → Prop} {J : Int32 → Int32 → Int32 → Int32 → Int32 → Int32 → Int32 → Int32 → Int32 → Int32 → Int32 → Int32 → Int32 → Int32 → (Nat → Int32) → (Nat → Int32) → (Nat → Int32) → (Nat → Int32) → (Nat → Int32) → (Nat → Int32) → (Nat → Int32) → (Nat → Int32) → (Nat → Int32) → (Nat → Int32) → (Nat → Int32) → (Nat → Int32) → (Nat → Int32) → (Nat → Int32) → (Nat → Int32) → (Nat → Int32) → (Nat → Int32) → (Nat → Int32) → (Nat → Int32) → (Nat → Int32) → (Nat → Int32) → (Nat → Int32) → (Nat → Int32) → (Nat → Int32) → (Nat → Int32) → Prop} {cn m : Nat} {lb F E : Nat → Nat} {T V : Nat → Nat → Int32} {L : Nat → List bk_T} {P : Nat → Nat → Nat} {ae s : Nat} {t u w S : Int32} (I : ci_ok cn T V L P E ae a_blockCount a_startBit a_bitCount a_sampleCount a_firstNumber a_fromTime a_toTime a_fromValue a_toValue a_total a_smallest a_greatest a_grown a_bits a_lastStep) (hs : s < cn) (hF : a_first s = nI (F s)) (hFE : F s ≤ E s) (h32 : E s ≤ F s + 32) (hm : mt_u (lb s) m 3 = true)
    (H : ∀ (pos : Int32) (ts vs : Nat → Int32), J (nI (cq_of (qw_of (qt_of cn lb F E T m t u) (qv_of F V) w.toInt) (32 * s + (E s - F s)))) (nI (s + 1)) f_seriesCount f_safeCount f_arenaEnd pos f_foundCount f_foundSum f_foundLeast f_foundMost f_foundGrowth f_before f_hasBefore f_levelNow a_labelsOf a_first a_end a_safeFirst a_safeEnd a_lastTime a_safeLast a_having a_blockCount a_startBit a_bitCount a_sampleCount a_firstNumber a_fromTime a_toTime a_fromValue a_toValue a_total a_smallest a_greatest a_grown a_bits a_lastStep ts vs) :
    ∀ (r pre : List bk_T) (num : Nat) (pos : Int32) (ts vs : Nat → Int32), L s = pre ++ r → cv_inv (F s) (E s) num r →
      wX_countUpTo_34 post J S t u w (nI s) (r.length + 1) (nI (cq_of (qw_of (qt_of cn lb F E T m t u) (qv_of F V) w.toInt) (32 * s + (num - F s)))) (nI (12 * s + pre.length)) f_seriesCount f_safeCount f_arenaEnd pos f_foundCount f_foundSum f_foundLeast f_foundMost f_foundGrowth f_before f_hasBefore f_levelNow a_labelsOf a_first a_end a_safeFirst a_safeEnd a_lastTime a_safeLast a_having a_blockCount a_startBit a_bitCount a_sampleCount a_firstNumber a_fromTime a_toTime a_fromValue a_toValue a_total a_smallest a_greatest a_grown a_bits a_lastStep ts vs := by
  obtain ⟨hcn, hae, hrow, hse, henc, hdis⟩ := id I
  obtain ⟨hhs, hl1, hl2, hl3⟩ := hse s hs
  have hE := ci_hist_E hhs
  have hcs : (nI s).toNatClampNeg = s := nI_clamp (by omega)
  have his : vp_in (nI s) 8 := vp_in_nI (by omega) (by omega)
  have he : 12 * nI s + a_blockCount (nI s).toNatClampNeg = nI (12 * s + (L s).length) := by rw [hcs, (hrow s hs).1, ba_12]
  have htk : ∀ n, F s ≤ n → n < E s → (qt_of cn lb F E T m t u (32 * s + (n - F s)) = true ↔ t ≤ T s n ∧ T s n ≤ u) := fun n h1 h2 => qt_n hs h1 h2 h32 hm
  intro r
  induction r with
  | nil =>
    intro pre num pos ts vs hL hv
    rw [cv_nil hv]
    refine ⟨his, br_t ?_ (nm_r (nI_1 s) (H _ _ _))⟩
    rw [he, hL, List.append_nil]; exact Int32.le_refl _
  | cons a r ih =>
    intro pre num pos ts vs hL hv
    have hk : (L s)[pre.length]? = some a := by rw [hL]; exact ls_mid _ _ _
    obtain ⟨ham, hkl⟩ := ls_mem hk
    have hb := hl3 a ham
    obtain ⟨r1, r2, r3, r4, r5, r6, r7, r8, r9, r10, r11, r12⟩ := ro_e ((hrow s hs).2 _ a hk)
    have hcb : (nI (12 * s + pre.length)).toNatClampNeg = 12 * s + pre.length := nI_clamp (by omega)
    have hib : vp_in (nI (12 * s + pre.length)) 96 := vp_in_nI (by omega) (by omega)
    have hpw : ∀ b, b ∈ r → ci_lt a b := by
      rw [hL] at hl2
      exact (List.pairwise_cons.mp (List.pairwise_append.mp hl2).2.1).1
    have hnext : ∀ (num' : Nat), cv_inv (F s) (E s) num' r → ∀ (pos : Int32) (ts vs : Nat → Int32), wX_countUpTo_34 post J S t u w (nI s) (r.length + 1) (nI (cq_of (qw_of (qt_of cn lb F E T m t u) (qv_of F V) w.toInt) (32 * s + (num' - F s)))) (nI (12 * s + pre.length + 1)) f_seriesCount f_safeCount f_arenaEnd pos f_foundCount f_foundSum f_foundLeast f_foundMost f_foundGrowth f_before f_hasBefore f_levelNow a_labelsOf a_first a_end a_safeFirst a_safeEnd a_lastTime a_safeLast a_having a_blockCount a_startBit a_bitCount a_sampleCount a_firstNumber a_fromTime a_toTime a_fromValue a_toValue a_total a_smallest a_greatest a_grown a_bits a_lastStep ts vs := fun num' hv' pos ts vs => by
      have := ih (pre ++ [a]) num' pos ts vs (by rw [hL, List.append_assoc]; rfl) hv'
      rw [List.length_append] at this
      exact this
    refine ⟨his, br_f (by rw [he]; exact nI_ge (by omega) (by omega)) (wx_isPresent (by omega) (by omega) r4 r3 hF (by omega) (by omega) (fun hp => br_f (by decide) ⟨hib, ?_⟩) (fun hp => br_t rfl (nm_r (nI_1 _) (hnext _ (cv_skip hv (by omega) hb.1).2 _ _ _))))⟩
    obtain ⟨⟨v1, v2, v3⟩, v4⟩ := cv_take hv hp hb.2.2.1 hb.1 hb.2.1 hpw
    rw [← v1]
    have skip : (∀ n, F s ≤ n → a.2.2 ≤ n → n < a.2.2 + a.2.1 → ¬ ((t ≤ T s n ∧ T s n ≤ u) ∧ (V s n).toInt ≤ w.toInt)) → wX_countUpTo_34 post J S t u w (nI s) (r.length + 1) (nI (cq_of (qw_of (qt_of cn lb F E T m t u) (qv_of F V) w.toInt) (32 * s + (a.2.2 - F s)))) (nI (12 * s + pre.length + 1)) f_seriesCount f_safeCount f_arenaEnd pos f_foundCount f_foundSum f_foundLeast f_foundMost f_foundGrowth f_before f_hasBefore f_levelNow a_labelsOf a_first a_end a_safeFirst a_safeEnd a_lastTime a_safeLast a_having a_blockCount a_startBit a_bitCount a_sampleCount a_firstNumber a_fromTime a_toTime a_fromValue a_toValue a_total a_smallest a_greatest a_grown a_bits a_lastStep ts vs := fun hn => by
      have q := cq_none (P := qw_of (qt_of cn lb F E T m t u) (qv_of F V) w.toInt) (K := 32 * s + (a.2.2 - F s)) (a.2.2 + a.2.1 - F s - (a.2.2 - F s)) (fun i hi => by
        have e := htk (F s + (a.2.2 - F s) + i) (by omega) (by omega)
        have e2 := qv_n (F := F) (V := V) (s := s) (n := F s + (a.2.2 - F s) + i) (by omega) (by omega)
        rw [show 32 * s + (F s + (a.2.2 - F s) + i - F s) = 32 * s + (a.2.2 - F s) + i from by omega] at e e2
        exact qw_f (fun z => hn _ (by omega) (by omega) (by omega) ⟨e.mp z.1, by rw [← e2]; exact z.2⟩))
      rw [show 32 * s + (a.2.2 - F s) + (a.2.2 + a.2.1 - F s - (a.2.2 - F s)) = 32 * s + (a.2.2 + a.2.1 - F s) from by omega] at q
      rw [← q]
      exact hnext _ v4 _ _ _
    refine br_c (fun z => nm_r (nI_1 _) (skip (fun n n1 n2 n3 n4 => ?_))) (fun z => ⟨hib, br_c (fun y => nm_r (nI_1 _) (skip (fun n n1 n2 n3 n4 => ?_))) (fun y => ⟨hib, br_c (fun x => ?_) (fun x => nm_r (nI_1 _) (skip (fun n n1 n2 n3 n4 => ?_)))⟩)⟩)
    · rw [hcb, r5, ba_lt] at z
      have := ci_hist_le hhs (m := a.2.2) (n := n) n2 (by omega)
      rw [ba_le, ba_le] at n4; omega
    · rw [hcb, r6, ba_lt] at y
      have := ci_hist_le hhs (m := n) (n := a.2.2 + (a.2.1 - 1)) (by omega) (by omega)
      rw [ba_le, ba_le] at n4; omega
    · refine cx_cib I hs hk hF hFE h32 hm (fun c pos ts vs hc => nm_r (e' := nI (cq_of (qw_of (qt_of cn lb F E T m t u) (qv_of F V) w.toInt) (32 * s + (a.2.2 + a.2.1 - F s)))) (by rw [hc, nI_add]) (nm_r (nI_1 _) (hnext _ v4 _ _ _)))
    · rw [hcb, r10, ba_le] at x
      have := (sm_min_r (fun i => V s (a.2.2 + i)) (a.2.1 - 1)).2 (n - a.2.2) (by omega)
      rw [show a.2.2 + (n - a.2.2) = n from by omega] at this
      omega
theorem xx_countUpTo {post : Int32 → SX → Prop} {cn sn : Nat} {lb F E SF SE : Nat → Nat} {LT SLT : Nat → Int32} {T V : Nat → Nat → Int32} {L : Nat → List bk_T} {P : Nat → Nat → Nat} {ae : Nat} {m : Nat} {t u w S : Int32} (I : xi_ok cn sn lb F E SF SE LT SLT T V L P ae f_seriesCount f_safeCount f_arenaEnd a_labelsOf a_first a_end a_safeFirst a_safeEnd a_lastTime a_safeLast a_having a_blockCount a_startBit a_bitCount a_sampleCount a_firstNumber a_fromTime a_toTime a_fromValue a_toValue a_total a_smallest a_greatest a_grown a_bits a_lastStep) (hS : mt_set cn lb m S)
    (H : ∀ (pos : Int32) (ts vs : Nat → Int32), post (nI (cq_of (qw_of (qt_of cn lb F E T m t u) (qv_of F V) w.toInt) 256)) (f_seriesCount, f_safeCount, f_arenaEnd, pos, f_foundCount, f_foundSum, f_foundLeast, f_foundMost, f_foundGrowth, f_before, f_hasBefore, f_levelNow, a_labelsOf, a_first, a_end, a_safeFirst, a_safeEnd, a_lastTime, a_safeLast, a_having, a_blockCount, a_startBit, a_bitCount, a_sampleCount, a_firstNumber, a_fromTime, a_toTime, a_fromValue, a_toValue, a_total, a_smallest, a_greatest, a_grown, a_bits, a_lastStep, ts, vs)) : wpX_countUpTo post (f_seriesCount, f_safeCount, f_arenaEnd, f_position, f_foundCount, f_foundSum, f_foundLeast, f_foundMost, f_foundGrowth, f_before, f_hasBefore, f_levelNow, a_labelsOf, a_first, a_end, a_safeFirst, a_safeEnd, a_lastTime, a_safeLast, a_having, a_blockCount, a_startBit, a_bitCount, a_sampleCount, a_firstNumber, a_fromTime, a_toTime, a_fromValue, a_toValue, a_total, a_smallest, a_greatest, a_grown, a_bits, a_lastStep, a_times, a_values) S t u w := by
  obtain ⟨h1, h2, h3, h4, hci, h6, h7, h8, h9, h10⟩ := I
  obtain ⟨hcn, _, _, hse, _⟩ := id hci
  have loop : ∀ (d s : Nat) (pos : Int32) (ts vs : Nat → Int32), s + d = cn → wX_countUpTo_6 post S t u w (d + 1) (nI (cq_of (qw_of (qt_of cn lb F E T m t u) (qv_of F V) w.toInt) (32 * s))) (nI s) f_seriesCount f_safeCount f_arenaEnd pos f_foundCount f_foundSum f_foundLeast f_foundMost f_foundGrowth f_before f_hasBefore f_levelNow a_labelsOf a_first a_end a_safeFirst a_safeEnd a_lastTime a_safeLast a_having a_blockCount a_startBit a_bitCount a_sampleCount a_firstNumber a_fromTime a_toTime a_fromValue a_toValue a_total a_smallest a_greatest a_grown a_bits a_lastStep ts vs := by
    intro d
    induction d with
    | zero =>
      intro s pos ts vs hs
      have e : s = cn := by omega
      subst e
      have q := cq_none (P := qw_of (qt_of s lb F E T m t u) (qv_of F V) w.toInt) (K := 32 * s) (256 - 32 * s) (fun i hi => qw_f (fun z => by have := (qt_e.mp z.1).1; omega))
      rw [show 32 * s + (256 - 32 * s) = 256 from by omega] at q
      rw [← q]
      exact br_t (by rw [h1]; exact Int32.le_refl _) (H _ _ _)
    | succ d ih =>
      intro s pos ts vs hs
      have hsc : s < cn := by omega
      obtain ⟨⟨p1, p2, p3, p4, p5, p6, p7⟩, pu⟩ := h8 s hsc
      have hbit := ba_bit (S := S) (s := s) (by omega)
      rw [hS s (by omega), decide_eq_true hsc, Bool.true_and] at hbit
      refine br_f (by rw [h1]; exact nI_ge hsc (by omega)) ?_
      cases hmt : mt_u (lb s) m 3 with
      | false =>
        rw [hmt] at hbit
        have q := cq_none (P := qw_of (qt_of cn lb F E T m t u) (qv_of F V) w.toInt) (K := 32 * s) 32 (fun i hi => qw_f (fun z => by
          have z5 := (qt_e.mp z.1).2.2.2.2
          rw [show (32 * s + i) / 32 = s from by omega, hmt] at z5
          cases z5))
        rw [show 32 * s + 32 = 32 * (s + 1) from by omega] at q
        rw [← q]
        exact br_t (hbit.trans rfl) (nm_r (nI_1 s) (ih (s + 1) pos ts vs (by omega)))
      | true =>
        rw [hmt] at hbit
        refine br_f (by rw [hbit]; decide) (nm_r (e' := nI (12 * s + 0)) (by rw [show (12 : Int32) = nI 12 from rfl, pk_mul]; rfl) ⟨(L s).length + 1, ?_⟩)
        have q := cq_none (P := qw_of (qt_of cn lb F E T m t u) (qv_of F V) w.toInt) (K := 32 * s + (E s - F s)) (32 - (E s - F s)) (fun i hi => qw_f (fun z => by
          have z2 := (qt_e.mp z.1).2.1
          rw [show (32 * s + (E s - F s) + i) / 32 = s from by omega] at z2
          omega))
        rw [show 32 * s + (E s - F s) + (32 - (E s - F s)) = 32 * (s + 1) from by omega] at q
        rw [show 32 * s = 32 * s + (F s - F s) from by omega]
        exact cx_cut34 hci hsc (h6 s hsc).1 p1 p2 hmt (fun pos ts vs => by rw [← q]; exact ih (s + 1) pos ts vs (by omega)) (L s) [] (F s) pos ts vs rfl (cv_0 p6 p1)
  exact ⟨cn + 1, loop cn 0 f_position a_times a_values (by omega)⟩
end
end
section
/-! ranks, pure; the component: ranked -/
theorem cq_congr {P Q : Nat → Bool} : ∀ {N : Nat}, (∀ k, k < N → P k = Q k) → cq_of P N = cq_of Q N
  | 0, _ => rfl
  | N + 1, h => by simp only [cq_of]; rw [cq_congr (fun k hk => h k (by omega)), h N (by omega)]
theorem cq_s (P : Nat → Bool) (N : Nat) : cq_of P (N + 1) = cq_of P N + (P N).toNat := rfl
theorem cq_le (P : Nat → Bool) : ∀ N, cq_of P N ≤ N
  | 0 => Nat.le_refl _
  | N + 1 => by have := cq_le P N; have := Bool.toNat_le (P N); simp only [cq_of]; omega
theorem cq_split {P Q R : Nat → Bool} : ∀ {N : Nat}, (∀ k, k < N → (P k).toNat = (Q k).toNat + (R k).toNat) → cq_of P N = cq_of Q N + cq_of R N
  | 0, _ => rfl
  | N + 1, h => by
    have ih := cq_split (P := P) (Q := Q) (R := R) (N := N) (fun k hk => h k (by omega))
    have := h N (by omega)
    simp only [cq_of]; omega
theorem cq_below {e : Nat → Bool} {J : Nat} : ∀ {N : Nat}, J ≤ N → cq_of (fun i => e i && decide (i < J)) N = cq_of e J
  | 0, h => by rw [show J = 0 from by omega]; rfl
  | N + 1, h => by
    rcases Nat.eq_or_lt_of_le h with z | z
    · rw [z]; exact cq_congr (fun k hk => by rw [decide_eq_true hk, Bool.and_true])
    · simp only [cq_of]
      rw [cq_below (by omega), decide_eq_false (by omega), Bool.and_false]; rfl
theorem cq_pos {P : Nat → Bool} : ∀ {N : Nat}, 0 < cq_of P N → ∃ k, k < N ∧ P k = true
  | 0, h => by cases h
  | N + 1, h => by
    cases e : P N with
    | true => exact ⟨N, by omega, e⟩
    | false =>
      simp only [cq_of] at h
      rw [e] at h
      obtain ⟨k, k1, k2⟩ := cq_pos (N := N) h
      exact ⟨k, by omega, k2⟩
theorem ql_le {tk : Nat → Bool} {vl : Nat → Int32} : ∀ {N k : Nat}, k < N → tk k = true → (ql_of tk vl N).toInt ≤ (vl k).toInt
  | 0, k, h, _ => by omega
  | N + 1, k, h, ht => by
    simp only [ql_of]
    rcases Nat.lt_or_ge k N with z | z
    · have ih := ql_le (tk := tk) (vl := vl) z ht
      split
      · split
        · exact ih
        · rename_i h2; rw [ba_le] at h2; omega
      · exact ih
    · have e : k = N := by omega
      subst e
      rw [if_pos ht]
      split
      · rename_i h2; exact ba_le.mp h2
      · exact Int.le_refl _
theorem qm_le {tk : Nat → Bool} {vl : Nat → Int32} : ∀ {N k : Nat}, k < N → tk k = true → (vl k).toInt ≤ (qm_of tk vl N).toInt
  | 0, k, h, _ => by omega
  | N + 1, k, h, ht => by
    simp only [qm_of]
    rcases Nat.lt_or_ge k N with z | z
    · have ih := qm_le (tk := tk) (vl := vl) z ht
      split
      · split
        · exact ih
        · rename_i h2; rw [ba_le] at h2; omega
      · exact ih
    · have e : k = N := by omega
      subst e
      rw [if_pos ht]
      split
      · rename_i h2; exact ba_le.mp h2
      · exact Int.le_refl _
theorem ql_or (tk : Nat → Bool) (vl : Nat → Int32) : ∀ N, ql_of tk vl N = 2000 ∨ ∃ k, k < N ∧ tk k = true ∧ ql_of tk vl N = vl k
  | 0 => Or.inl rfl
  | N + 1 => by
    have ih : ql_of tk vl N = 2000 ∨ ∃ k, k < N + 1 ∧ tk k = true ∧ ql_of tk vl N = vl k := by
      rcases ql_or tk vl N with z | ⟨k, k1, k2, k3⟩
      · exact Or.inl z
      · exact Or.inr ⟨k, by omega, k2, k3⟩
    simp only [ql_of]
    split
    · rename_i h1
      split
      · exact ih
      · exact Or.inr ⟨N, by omega, h1, rfl⟩
    · exact ih
theorem qm_or (tk : Nat → Bool) (vl : Nat → Int32) : ∀ N, qm_of tk vl N = -2000 ∨ ∃ k, k < N ∧ tk k = true ∧ qm_of tk vl N = vl k
  | 0 => Or.inl rfl
  | N + 1 => by
    have ih : qm_of tk vl N = -2000 ∨ ∃ k, k < N + 1 ∧ tk k = true ∧ qm_of tk vl N = vl k := by
      rcases qm_or tk vl N with z | ⟨k, k1, k2, k3⟩
      · exact Or.inl z
      · exact Or.inr ⟨k, by omega, k2, k3⟩
    simp only [qm_of]
    split
    · rename_i h1
      split
      · exact ih
      · exact Or.inr ⟨N, by omega, h1, rfl⟩
    · exact ih
/-- the values that are taken lie in their range -/
def qr_st (tk : Nat → Bool) (vl : Nat → Int32) : Prop := ∀ k, tk k = true → -1000 ≤ (vl k).toInt ∧ (vl k).toInt ≤ 1000
theorem ql_in {tk : Nat → Bool} {vl : Nat → Int32} {N : Nat} (hr : qr_st tk vl) (h : 0 < cq_of tk N) : ∃ k, k < N ∧ tk k = true ∧ ql_of tk vl N = vl k := by
  obtain ⟨k0, g1, g2⟩ := cq_pos h
  rcases ql_or tk vl N with z | z
  · have h1 := ql_le (tk := tk) (vl := vl) g1 g2
    have h2 := hr k0 g2
    rw [z, show (2000 : Int32).toInt = 2000 from by decide] at h1
    omega
  · exact z
theorem qm_in {tk : Nat → Bool} {vl : Nat → Int32} {N : Nat} (hr : qr_st tk vl) (h : 0 < cq_of tk N) : ∃ k, k < N ∧ tk k = true ∧ qm_of tk vl N = vl k := by
  obtain ⟨k0, g1, g2⟩ := cq_pos h
  rcases qm_or tk vl N with z | z
  · have h1 := qm_le (tk := tk) (vl := vl) g1 g2
    have h2 := hr k0 g2
    rw [z, show (-2000 : Int32).toInt = -2000 from by decide] at h1
    omega
  · exact z
/-- r is the smallest value up to which there are more than k -/
def rk_sp (tk : Nat → Bool) (vl : Nat → Int32) (k : Nat) (r : Int32) : Prop := cq_of (qw_of tk vl (r.toInt - 1)) 256 ≤ k ∧ k < cq_of (qw_of tk vl r.toInt) 256
def bw_of (tk : Nat → Bool) (vl : Nat → Int32) (j i : Nat) : Bool := tk i && (decide ((vl i).toInt < (vl j).toInt) || (decide ((vl i).toInt = (vl j).toInt) && decide (i < j)))
theorem bw_e {tk : Nat → Bool} {vl : Nat → Int32} {j i : Nat} : bw_of tk vl j i = true ↔ tk i = true ∧ ((vl i).toInt < (vl j).toInt ∨ ((vl i).toInt = (vl j).toInt ∧ i < j)) := by
  unfold bw_of
  rw [Bool.and_eq_true, Bool.or_eq_true, Bool.and_eq_true, decide_eq_true_eq, decide_eq_true_eq, decide_eq_true_eq]
theorem qw_e {tk : Nat → Bool} {vl : Nat → Int32} {w : Int} {i : Nat} : qw_of tk vl w i = true ↔ tk i = true ∧ (vl i).toInt ≤ w := by
  unfold qw_of
  rw [Bool.and_eq_true, decide_eq_true_eq]
theorem bw_self (tk : Nat → Bool) (vl : Nat → Int32) (j : Nat) : bw_of tk vl j j = false := by
  cases e : bw_of tk vl j j with
  | false => rfl
  | true => have := (bw_e.mp e).2; omega
theorem rk_lt {tk : Nat → Bool} {vl : Nat → Int32} {j : Nat} (hj : j < 256) (ht : tk j = true) : cq_of (bw_of tk vl j) 256 < cq_of tk 256 :=
  cq_lt (bw_self tk vl j) ht (fun k _ h => (bw_e.mp h).1) hj
theorem rk_eq {tk : Nat → Bool} {vl : Nat → Int32} {j k : Nat} {r : Int32} (h : rk_sp tk vl k r) (hj : j < 256) (ht : tk j = true) (hb : cq_of (bw_of tk vl j) 256 = k) : vl j = r := by
  obtain ⟨h1, h2⟩ := h
  apply Int32.toInt_inj.mp
  rcases Int.lt_trichotomy (vl j).toInt r.toInt with z | z | z
  · have a := cq_lt (P := bw_of tk vl j) (Q := qw_of tk vl (vl j).toInt) (bw_self tk vl j) (qw_t ht (Int.le_refl _)) (N := 256) (fun i _ hi => by
      have := bw_e.mp hi
      exact qw_t this.1 (by omega)) hj
    have b := cq_mono (P := qw_of tk vl (vl j).toInt) (Q := qw_of tk vl (r.toInt - 1)) (N := 256) (fun i _ hi => by
      have := qw_e.mp hi
      exact qw_t this.1 (by omega))
    omega
  · exact z
  · have a := cq_mono (P := qw_of tk vl r.toInt) (Q := bw_of tk vl j) (N := 256) (fun i _ hi => by
      have := qw_e.mp hi
      exact bw_e.mpr ⟨this.1, Or.inl (by omega)⟩)
    omega
theorem rk_ex {tk : Nat → Bool} {vl : Nat → Int32} {k : Nat} {r : Int32} (h : rk_sp tk vl k r) : ∃ j, j < 256 ∧ tk j = true ∧ cq_of (bw_of tk vl j) 256 = k := by
  obtain ⟨h1, h2⟩ := h
  have hsum : cq_of (qw_of tk vl r.toInt) 256 = cq_of (qw_of tk vl (r.toInt - 1)) 256 + cq_of (fun i => tk i && decide ((vl i).toInt = r.toInt)) 256 := cq_split (fun i _ => by
    unfold qw_of
    cases tk i with
    | false => rfl
    | true =>
      simp only [Bool.true_and]
      rcases Int.lt_trichotomy (vl i).toInt r.toInt with z | z | z
      · rw [decide_eq_true (by omega : (vl i).toInt ≤ r.toInt), decide_eq_true (by omega : (vl i).toInt ≤ r.toInt - 1), decide_eq_false (by omega : ¬ (vl i).toInt = r.toInt)]; rfl
      · rw [decide_eq_true (by omega : (vl i).toInt ≤ r.toInt), decide_eq_false (by omega : ¬ (vl i).toInt ≤ r.toInt - 1), decide_eq_true z]; rfl
      · rw [decide_eq_false (by omega : ¬ (vl i).toInt ≤ r.toInt), decide_eq_false (by omega : ¬ (vl i).toInt ≤ r.toInt - 1), decide_eq_false (by omega : ¬ (vl i).toInt = r.toInt)]; rfl)
  obtain ⟨J, hJ1, hJ2⟩ := pk_least (fun J => k < cq_of (qw_of tk vl (r.toInt - 1)) 256 + cq_of (fun i => tk i && decide ((vl i).toInt = r.toInt)) J) ⟨256, by omega⟩
  rcases Nat.eq_zero_or_pos J with z | z
  · subst z
    have hJ0 : k < cq_of (qw_of tk vl (r.toInt - 1)) 256 + 0 := hJ1
    omega
  obtain ⟨j, rfl⟩ : ∃ j, J = j + 1 := ⟨J - 1, by omega⟩
  have hj1 : ¬ k < cq_of (qw_of tk vl (r.toInt - 1)) 256 + cq_of (fun i => tk i && decide ((vl i).toInt = r.toInt)) j := hJ2 j (by omega)
  have hJ3 : k < cq_of (qw_of tk vl (r.toInt - 1)) 256 + (cq_of (fun i => tk i && decide ((vl i).toInt = r.toInt)) j + (tk j && decide ((vl j).toInt = r.toInt)).toNat) := hJ1
  have hj256 : j < 256 := by
    rcases Nat.lt_or_ge j 256 with y | y
    · exact y
    · exact absurd (by omega) (hJ2 256 (by omega))
  have hej : (tk j && decide ((vl j).toInt = r.toInt)) = true := by
    cases e : (tk j && decide ((vl j).toInt = r.toInt)) with
    | true => rfl
    | false =>
      rw [e, Bool.toNat_false] at hJ3
      omega
  have hJ1' : k < cq_of (qw_of tk vl (r.toInt - 1)) 256 + (cq_of (fun i => tk i && decide ((vl i).toInt = r.toInt)) j + 1) := by
    rw [hej, Bool.toNat_true] at hJ3
    exact hJ3
  rw [Bool.and_eq_true, decide_eq_true_eq] at hej
  refine ⟨j, hj256, hej.1, ?_⟩
  have hb : cq_of (bw_of tk vl j) 256 = cq_of (qw_of tk vl (r.toInt - 1)) 256 + cq_of (fun i => (tk i && decide ((vl i).toInt = r.toInt)) && decide (i < j)) 256 := cq_split (fun i _ => by
    unfold bw_of qw_of
    rw [hej.2]
    cases tk i with
    | false => rfl
    | true =>
      simp only [Bool.true_and]
      rcases Int.lt_trichotomy (vl i).toInt r.toInt with y | y | y
      · rw [decide_eq_true y, decide_eq_true (by omega : (vl i).toInt ≤ r.toInt - 1), decide_eq_false (by omega : ¬ (vl i).toInt = r.toInt)]; rfl
      · rw [decide_eq_false (by omega : ¬ (vl i).toInt < r.toInt), decide_eq_false (by omega : ¬ (vl i).toInt ≤ r.toInt - 1), decide_eq_true y]; simp
      · rw [decide_eq_false (by omega : ¬ (vl i).toInt < r.toInt), decide_eq_false (by omega : ¬ (vl i).toInt ≤ r.toInt - 1), decide_eq_false (by omega : ¬ (vl i).toInt = r.toInt)]; rfl)
  rw [cq_below (by omega)] at hb
  omega
theorem qr_of {cn m : Nat} {lb F E : Nat → Nat} {T V : Nat → Nat → Int32} {t u : Int32} (h : ∀ s, s < cn → ci_hist (T s) (V s) (E s)) : qr_st (qt_of cn lb F E T m t u) (qv_of F V) := fun k hk => by
  obtain ⟨h1, h2, _⟩ := qt_e.mp hk
  have := (h _ h1).1 (F (k / 32) + k % 32) (by omega)
  unfold qv_of
  omega
section
variable {f_seriesCount f_safeCount f_arenaEnd f_position f_foundCount f_foundSum f_foundLeast f_foundMost f_foundGrowth f_before f_hasBefore f_levelNow : Int32} {a_labelsOf a_first a_end a_safeFirst a_safeEnd a_lastTime a_safeLast a_having a_blockCount a_startBit a_bitCount a_sampleCount a_firstNumber a_fromTime a_toTime a_fromValue a_toValue a_total a_smallest a_greatest a_grown a_bits a_lastStep a_times a_values : Nat → Int32}
theorem wx_rank56 {post : Int32 → SX → Prop} {cn sn : Nat} {lb F E SF SE : Nat → Nat} {LT SLT : Nat → Int32} {T V : Nat → Nat → Int32} {L : Nat → List bk_T} {P : Nat → Nat → Nat} {ae : Nat} {m k : Nat} {t u S : Int32} (I : xi_ok cn sn lb F E SF SE LT SLT T V L P ae f_seriesCount f_safeCount f_arenaEnd a_labelsOf a_first a_end a_safeFirst a_safeEnd a_lastTime a_safeLast a_having a_blockCount a_startBit a_bitCount a_sampleCount a_firstNumber a_fromTime a_toTime a_fromValue a_toValue a_total a_smallest a_greatest a_grown a_bits a_lastStep) (hS : mt_set cn lb m S) (hk : k < 256)
    (H : ∀ r (pos : Int32) (ts vs : Nat → Int32), rk_sp (qt_of cn lb F E T m t u) (qv_of F V) k r → post r (f_seriesCount, f_safeCount, f_arenaEnd, pos, f_foundCount, f_foundSum, f_foundLeast, f_foundMost, f_foundGrowth, f_before, f_hasBefore, f_levelNow, a_labelsOf, a_first, a_end, a_safeFirst, a_safeEnd, a_lastTime, a_safeLast, a_having, a_blockCount, a_startBit, a_bitCount, a_sampleCount, a_firstNumber, a_fromTime, a_toTime, a_fromValue, a_toValue, a_total, a_smallest, a_greatest, a_grown, a_bits, a_lastStep, ts, vs)) :
    ∀ (d : Nat) (lo hi : Int32) (pos : Int32) (ts vs : Nat → Int32), lo.toInt ≤ hi.toInt → hi.toInt - lo.toInt ≤ d → -2000 ≤ lo.toInt → hi.toInt ≤ 2000 → cq_of (qw_of (qt_of cn lb F E T m t u) (qv_of F V) (lo.toInt - 1)) 256 ≤ k → k < cq_of (qw_of (qt_of cn lb F E T m t u) (qv_of F V) hi.toInt) 256 →
      wX_ranked_56 post t u (nI k) S (d + 1) lo hi f_seriesCount f_safeCount f_arenaEnd pos f_foundCount f_foundSum f_foundLeast f_foundMost f_foundGrowth f_before f_hasBefore f_levelNow a_labelsOf a_first a_end a_safeFirst a_safeEnd a_lastTime a_safeLast a_having a_blockCount a_startBit a_bitCount a_sampleCount a_firstNumber a_fromTime a_toTime a_fromValue a_toValue a_total a_smallest a_greatest a_grown a_bits a_lastStep ts vs := by
  intro d
  induction d with
  | zero =>
    intro lo hi pos ts vs h1 h2 h3 h4 h5 h6
    have e : hi.toInt = lo.toInt := by omega
    refine br_t (by rw [ba_le]; omega) (H lo pos ts vs ⟨h5, by rw [← e]; exact h6⟩)
  | succ d ih =>
    intro lo hi pos ts vs h1 h2 h3 h4 h5 h6
    by_cases hle : hi.toInt ≤ lo.toInt
    · have e : hi.toInt = lo.toInt := by omega
      exact br_t (by rw [ba_le]; exact hle) (H lo pos ts vs ⟨h5, by rw [← e]; exact h6⟩)
    · have em : ((lo + hi) >>> ((1 : Int32) &&& 31)).toInt = (lo.toInt + hi.toInt) / 2 := by
        rw [pk_shr _ _ 1 (by decide), ba_add (by omega) (by omega), Int.shiftRight_eq_div_pow]; rfl
      refine br_f (by rw [ba_le]; exact hle) (nm_e (xx_countUpTo I hS (fun pos ts vs => br_c (fun z => nm_e ?_) (fun z => ?_))))
      · have e1 : ((lo + hi) >>> ((1 : Int32) &&& 31) + 1).toInt = (lo.toInt + hi.toInt) / 2 + 1 := by
          rw [ba_add (by rw [em, show (1 : Int32).toInt = 1 from by decide]; omega) (by rw [em, show (1 : Int32).toInt = 1 from by decide]; omega), em]; rfl
        have hc := cq_le (qw_of (qt_of cn lb F E T m t u) (qv_of F V) ((lo + hi) >>> ((1 : Int32) &&& 31)).toInt) 256
        rw [nI_leI (by omega) (by omega), em] at z
        refine ih _ hi pos ts vs (by omega) (by omega) (by omega) h4 ?_ h6
        rw [e1, show (lo.toInt + hi.toInt) / 2 + 1 - 1 = (lo.toInt + hi.toInt) / 2 from by omega]
        exact z
      · have hc := cq_le (qw_of (qt_of cn lb F E T m t u) (qv_of F V) ((lo + hi) >>> ((1 : Int32) &&& 31)).toInt) 256
        rw [nI_leI (by omega) (by omega)] at z
        exact ih lo _ pos ts vs (by omega) (by omega) h3 (by omega) h5 (by omega)
theorem xx_ranked {post : Int32 → SX → Prop} {cn sn : Nat} {lb F E SF SE : Nat → Nat} {LT SLT : Nat → Int32} {T V : Nat → Nat → Int32} {L : Nat → List bk_T} {P : Nat → Nat → Nat} {ae : Nat} {m : Nat} {t u p3 : Int32} (I : xi_ok cn sn lb F E SF SE LT SLT T V L P ae f_seriesCount f_safeCount f_arenaEnd a_labelsOf a_first a_end a_safeFirst a_safeEnd a_lastTime a_safeLast a_having a_blockCount a_startBit a_bitCount a_sampleCount a_firstNumber a_fromTime a_toTime a_fromValue a_toValue a_total a_smallest a_greatest a_grown a_bits a_lastStep) (hm : m ≤ 728)
    (Hn : (∀ k, k < cq_of (qt_of cn lb F E T m t u) 256 → p3 ≠ nI k) → ∀ (fc fs fl fm fg bf hb : Int32) (pos : Int32) (ts vs : Nat → Int32), post (-10003) (f_seriesCount, f_safeCount, f_arenaEnd, pos, fc, fs, fl, fm, fg, bf, hb, f_levelNow, a_labelsOf, a_first, a_end, a_safeFirst, a_safeEnd, a_lastTime, a_safeLast, a_having, a_blockCount, a_startBit, a_bitCount, a_sampleCount, a_firstNumber, a_fromTime, a_toTime, a_fromValue, a_toValue, a_total, a_smallest, a_greatest, a_grown, a_bits, a_lastStep, ts, vs))
    (Hr : ∀ k, k < cq_of (qt_of cn lb F E T m t u) 256 → p3 = nI k → ∀ r (fc fs fl fm fg bf hb : Int32) (pos : Int32) (ts vs : Nat → Int32), rk_sp (qt_of cn lb F E T m t u) (qv_of F V) k r → post r (f_seriesCount, f_safeCount, f_arenaEnd, pos, fc, fs, fl, fm, fg, bf, hb, f_levelNow, a_labelsOf, a_first, a_end, a_safeFirst, a_safeEnd, a_lastTime, a_safeLast, a_having, a_blockCount, a_startBit, a_bitCount, a_sampleCount, a_firstNumber, a_fromTime, a_toTime, a_fromValue, a_toValue, a_total, a_smallest, a_greatest, a_grown, a_bits, a_lastStep, ts, vs)) : wpX_ranked post (f_seriesCount, f_safeCount, f_arenaEnd, f_position, f_foundCount, f_foundSum, f_foundLeast, f_foundMost, f_foundGrowth, f_before, f_hasBefore, f_levelNow, a_labelsOf, a_first, a_end, a_safeFirst, a_safeEnd, a_lastTime, a_safeLast, a_having, a_blockCount, a_startBit, a_bitCount, a_sampleCount, a_firstNumber, a_fromTime, a_toTime, a_fromValue, a_toValue, a_total, a_smallest, a_greatest, a_grown, a_bits, a_lastStep, a_times, a_values) (nI m) t u p3 := by
  unfold wpX_ranked
  refine wx_isM1 hm ?_
  refine br_f (by decide) ?_
  refine xx_ask I hm (fun fc fs fl fm fg bf hb pos ts vs hz => ?_)
  obtain ⟨z1, z2, z3, z4, z5⟩ := hz
  have hc := cq_le (qt_of cn lb F E T m t u) 256
  refine br_c (fun z => Hn (fun k hk e => ?_) _ _ _ _ _ _ _ _ _ _) (fun z => ?_)
  · rw [e] at z; exact nI_pos (by omega) z
  · obtain ⟨k, hk, rfl⟩ := nI_of z
    rw [z1, nI_ltI hk (by omega)]
    refine br_c (fun y => ?_) (fun y => Hn (fun j hj e => ?_) _ _ _ _ _ _ _ _ _ _)
    · have hse := I.2.2.2.2.1.2.2.2.1
      have hr := qr_of (m := m) (lb := lb) (F := F) (t := t) (u := u) (fun s hs => (hse s hs).1)
      obtain ⟨kl, l1, l2, l3⟩ := ql_in (N := 256) hr (by omega)
      obtain ⟨km, m1, m2, m3⟩ := qm_in (N := 256) hr (by omega)
      have hl := hr kl l2
      have hmm := hr km m2
      have hlm := ql_le (tk := qt_of cn lb F E T m t u) (vl := qv_of F V) (N := 256) m1 m2
      rw [← m3] at hlm
      rw [← l3] at hl
      rw [← m3] at hmm
      refine wx_matching I.2.2.2.2.1.1 I.1 I.2.2.2.2.2.2.2.2.2 hm (fun S hS => ⟨(fm.toInt - fl.toInt).toNat + 1, ?_⟩)
      refine wx_rank56 I hS (by omega) (fun r pos ts vs h => Hr k y rfl r _ _ _ _ _ _ _ _ _ _ h) _ fl fm pos ts vs (by rw [z3, z4]; exact hlm) (by rw [z3, z4]; omega) (by rw [z3]; omega) (by rw [z4]; omega) ?_ ?_
      · have := cq_none (P := qw_of (qt_of cn lb F E T m t u) (qv_of F V) (fl.toInt - 1)) (K := 0) 256 (fun i hi => qw_f (fun w => by
          have := ql_le (tk := qt_of cn lb F E T m t u) (vl := qv_of F V) (N := 256) (k := 0 + i) (by omega) w.1
          rw [← z3] at this
          have := w.2
          omega))
        rw [Nat.zero_add] at this
        rw [this]; exact Nat.zero_le _
      · have : cq_of (qw_of (qt_of cn lb F E T m t u) (qv_of F V) fm.toInt) 256 = cq_of (qt_of cn lb F E T m t u) 256 := cq_congr (fun i hi => by
          cases e : qt_of cn lb F E T m t u i with
          | false => exact qw_f (fun w => by rw [e] at w; cases w.1)
          | true =>
            have := qm_le (tk := qt_of cn lb F E T m t u) (vl := qv_of F V) (N := 256) hi e
            rw [← z4] at this
            exact qw_t e this)
        rw [this]; exact y
    · have := (nI_eq hk (by omega)).mp e
      omega
end
end
section
/-! the reference: questions -/
/-- the numbers of all series -/
def nu_ok (cn : Nat) (lb F E : Nat → Nat) (T V : Nat → Nat → Int32) : Prop := cn ≤ 8 ∧ ∀ s, s < cn → F s ≤ E s ∧ E s ≤ F s + 32 ∧ lb s < 64 ∧ ci_hist (T s) (V s) (E s)
section
variable {g_n g_safeN : Int32} {b_labels b_length b_latest b_times b_values b_safeLabels b_safeLength b_safeLatest b_safeTimes b_safeValues : Nat → Int32}
theorem wy_isM1 {post : Int32 → Prop} {m : Nat} (hm : m ≤ 728) (hp : post 1) : wpY_isMatcher post (g_n, g_safeN, b_labels, b_length, b_latest, b_times, b_values, b_safeLabels, b_safeLength, b_safeLatest, b_safeTimes, b_safeValues) (nI m) :=
  br_f (nI_pos (by omega)) (br_f (nI_nlt (a := 728) hm (by omega)) hp)
theorem wy_isM0 {post : Int32 → Prop} {p : Int32} (hm : p < 0 ∨ 728 < p) (hp : post 0) : wpY_isMatcher post (g_n, g_safeN, b_labels, b_length, b_latest, b_times, b_values, b_safeLabels, b_safeLength, b_safeLatest, b_safeTimes, b_safeValues) p :=
  br_c (fun _ => hp) (fun z => br_t (hm.elim (fun y => absurd y z) id) hp)
theorem wy_mat_l {post : Int32 → Prop} {l m : Nat} (hl : l < 64) (hm : m ≤ 728) (H1 : mt_u l m 3 = true → post 1) (H0 : mt_u l m 3 = false → post 0) :
    ∀ d k : Nat, k + d = 3 → mt_u l m k = true → wY_matches_13 post g_n g_safeN b_labels b_length b_latest b_times b_values b_safeLabels b_safeLength b_safeLatest b_safeTimes b_safeValues (d + 1) (nI (m / 9 ^ k)) (nI (l / 4 ^ k)) (nI k) := by
  intro d
  induction d with
  | zero =>
    intro k hk hu
    have e : k = 3 := by omega
    subst e
    exact br_t (by decide) (H1 hu)
  | succ d ih =>
    intro k hk hu
    have hmk : m / 9 ^ k ≤ 728 := Nat.le_trans (Nat.div_le_self _ _) hm
    have hlk : l / 4 ^ k ≤ 64 := Nat.le_trans (Nat.div_le_self _ _) (by omega)
    have hd9 : m / 9 ^ k % 9 < 9 := Nat.mod_lt _ (by omega)
    have hv4 : l / 4 ^ k % 4 < 4 := Nat.mod_lt _ (by omega)
    have e1 : nI (m / 9 ^ k) - nI (m / 9 ^ k) / 9 * 9 = nI (m / 9 ^ k % 9) := pk_rem (d := 9) (by omega) (by omega) (by omega)
    have e1' : nI (l / 4 ^ k) - nI (l / 4 ^ k) / 4 * 4 = nI (l / 4 ^ k % 4) := pk_rem (d := 4) (by omega) (by omega) (by omega)
    have e2 : nI (m / 9 ^ k) / 9 = nI (m / 9 ^ (k + 1)) := by
      rw [show (9 : Int32) = nI 9 from rfl, pk_div (by omega) (by omega) (by omega), Nat.div_div_eq_div_mul, Nat.pow_succ]
    have e2' : nI (l / 4 ^ k) / 4 = nI (l / 4 ^ (k + 1)) := by
      rw [show (4 : Int32) = nI 4 from rfl, pk_div (by omega) (by omega) (by omega), Nat.div_div_eq_div_mul, Nat.pow_succ]
    have yes : mt_k l m k = true → wY_matches_61 post (wY_matches_13 post g_n g_safeN b_labels b_length b_latest b_times b_values b_safeLabels b_safeLength b_safeLatest b_safeTimes b_safeValues (d + 1)) (nI (m / 9 ^ k)) (nI (l / 4 ^ k)) (nI k) g_n g_safeN b_labels b_length b_latest b_times b_values b_safeLabels b_safeLength b_safeLatest b_safeTimes b_safeValues := fun h =>
      ⟨by decide, nm_r e2 ⟨by decide, nm_r e2' (nm_r (nI_1 k) (ih (k + 1) (by omega) (by show (_ && _) = true; rw [hu, h]; rfl)))⟩⟩
    have no : mt_k l m k = false → post 0 := fun h => H0 (by
      have := mt_u_f (l := l) (m := m) (k := k + 1) (by show (_ && _) = false; rw [h, Bool.and_false]) (2 - k)
      rw [show k + 1 + (2 - k) = 3 from by omega] at this
      exact this)
    unfold mt_k at yes no
    refine br_f (nI_ge (b := 3) (by omega) (by omega)) ⟨by decide, nm_r e1 ⟨by decide, nm_r e1' ?_⟩⟩
    rcases Nat.lt_or_ge (m / 9 ^ k % 9) 4 with z | z
    · rw [if_pos z] at yes no
      refine br_f (nI_ge (b := 4) z (by omega)) ?_
      rw [nI_eq (by omega) (by omega)]
      exact ⟨fun y => br_t (nI_le (b := 4) (by omega) (by omega)) (yes (decide_eq_true y)), fun y => no (decide_eq_false y)⟩
    · rw [if_neg (by omega)] at yes no
      refine br_t (nI_le (a := 4) z (by omega)) ?_
      rcases Nat.lt_or_ge 4 (m / 9 ^ k % 9) with y | y
      · rw [if_neg (by omega)] at yes no
        refine br_f (nI_ge (a := 4) y (by omega)) ?_
        rw [show (5 : Int32) = nI 5 from rfl, pk_sub (by omega), nI_eq (by omega) (by omega)]
        exact ⟨fun x => no (by rw [decide_eq_true x]; rfl), fun x => yes (by rw [decide_eq_false x]; rfl)⟩
      · rw [if_pos y] at yes
        exact br_t (nI_le (b := 4) y (by omega)) (yes rfl)
theorem wy_matches {post : Int32 → Prop} {l m s : Nat} (hs : s < 8) (hb : b_labels s = nI l) (hl : l < 64) (hm : m ≤ 728) (H1 : mt_u l m 3 = true → post 1) (H0 : mt_u l m 3 = false → post 0) : wpY_matches post (g_n, g_safeN, b_labels, b_length, b_latest, b_times, b_values, b_safeLabels, b_safeLength, b_safeLatest, b_safeTimes, b_safeValues) (nI s) (nI m) := by
  have hcs : (nI s).toNatClampNeg = s := nI_clamp (by omega)
  refine ⟨vp_in_nI hs (by omega), nm_r (e' := nI (l / 4 ^ 0)) (by rw [hcs, hb, Nat.pow_zero, Nat.div_one]) ⟨4, ?_⟩⟩
  rw [show nI m = nI (m / 9 ^ 0) from by rw [Nat.pow_zero, Nat.div_one]]
  exact wy_mat_l hl hm H1 H0 3 0 (by omega) rfl
theorem wy_takes {post : Int32 → Prop} {cn sn : Nat} {lb F E SF SE : Nat → Nat} {LT SLT : Nat → Int32} {T V : Nat → Nat → Int32} {m k : Nat} {t u : Int32} (I : yi_ok cn sn lb F E SF SE LT SLT T V g_n g_safeN b_labels b_length b_latest b_times b_values b_safeLabels b_safeLength b_safeLatest b_safeTimes b_safeValues) (hn : nu_ok cn lb F E T V) (hm : m ≤ 728) (hk : k < 256) (H1 : qt_of cn lb F E T m t u k = true → post 1) (H0 : qt_of cn lb F E T m t u k = false → post 0) : wpY_takes post (g_n, g_safeN, b_labels, b_length, b_latest, b_times, b_values, b_safeLabels, b_safeLength, b_safeLatest, b_safeTimes, b_safeValues) (nI k) (nI m) t u := by
  obtain ⟨i1, i2, i3, i4⟩ := I
  have hcn := hn.1
  have e1 : nI k / 32 = nI (k / 32) := pk_div (d := 32) (by omega) (by omega) (by omega)
  have e2 : nI k - nI k / 32 * 32 = nI (k % 32) := pk_rem (d := 32) (by omega) (by omega) (by omega)
  have hck : (nI k).toNatClampNeg = k := nI_clamp (by omega)
  have hik : vp_in (nI k) 256 := vp_in_nI hk (by omega)
  have hcs : (nI (k / 32)).toNatClampNeg = k / 32 := nI_clamp (by omega)
  have H0' : ¬ (k / 32 < cn ∧ k % 32 < E (k / 32) - F (k / 32) ∧ t ≤ T (k / 32) (F (k / 32) + k % 32) ∧ T (k / 32) (F (k / 32) + k % 32) ≤ u ∧ mt_u (lb (k / 32)) m 3 = true) → post 0 := fun h => H0 (qt_f h)
  refine ⟨by decide, nm_r e1 (br_c (fun z => H0' ?_) (fun z => ⟨by decide, vp_in_nI (by omega) (by omega), br_c (fun y => H0' ?_) (fun y => ⟨hik, br_c (fun x => H0' ?_) (fun x => ⟨hik, br_c (fun w => H0' ?_) (fun w => ?_)⟩)⟩)⟩))⟩
  · rw [i1, nI_leI (by omega) (by omega)] at z
    omega
  · rw [i1, nI_leI (by omega) (by omega)] at z
    obtain ⟨j1, j2, j3, j4⟩ := i3 (k / 32) (by omega)
    have := hn.2 (k / 32) (by omega)
    rw [hcs, e2, j2, nI_leI (by omega) (by omega)] at y
    omega
  all_goals
    rw [i1, nI_leI (by omega) (by omega)] at z
    obtain ⟨j1, j2, j3, j4⟩ := i3 (k / 32) (by omega)
    have hns := hn.2 (k / 32) (by omega)
    rw [hcs, e2, j2, nI_leI (by omega) (by omega)] at y
    obtain ⟨j5, j6⟩ := j4 (k % 32) (by omega)
    rw [show 32 * (k / 32) + k % 32 = k from by omega] at j5 j6
    rw [hck, j5] at x
  · intro h
    rw [ba_lt] at x
    have := ba_le.mp h.2.2.1
    omega
  · intro h
    rw [hck, j5, ba_lt] at w
    have := ba_le.mp h.2.2.2.1
    omega
  · rw [hck, j5] at w
    refine wy_matches (by omega) j1 hns.2.2.1 hm (fun h => br_f (by decide) (H1 (qt_e.mpr ⟨by omega, by omega, ?_, ?_, h⟩))) (fun h => br_t rfl (H0' (fun g => by rw [h] at g; cases g.2.2.2.2)))
    · rw [ba_lt] at x
      rw [ba_le]; omega
    · rw [ba_lt] at w
      rw [ba_le]; omega
theorem yy_val {cn sn : Nat} {lb F E SF SE : Nat → Nat} {LT SLT : Nat → Int32} {T V : Nat → Nat → Int32} {m k : Nat} {t u : Int32} (I : yi_ok cn sn lb F E SF SE LT SLT T V g_n g_safeN b_labels b_length b_latest b_times b_values b_safeLabels b_safeLength b_safeLatest b_safeTimes b_safeValues) (h : qt_of cn lb F E T m t u k = true) : b_values k = qv_of F V k := by
  obtain ⟨h1, h2, _⟩ := qt_e.mp h
  obtain ⟨_, _, _, j4⟩ := I.2.2.1 (k / 32) h1
  have := (j4 (k % 32) h2).2
  rw [show 32 * (k / 32) + k % 32 = k from by omega] at this
  exact this
theorem yy_count {post : Int32 → Prop} {cn sn : Nat} {lb F E SF SE : Nat → Nat} {LT SLT : Nat → Int32} {T V : Nat → Nat → Int32} {m : Nat} {t u : Int32} (I : yi_ok cn sn lb F E SF SE LT SLT T V g_n g_safeN b_labels b_length b_latest b_times b_values b_safeLabels b_safeLength b_safeLatest b_safeTimes b_safeValues) (hn : nu_ok cn lb F E T V) (hm : m ≤ 728) (H : post (nI (cq_of (qt_of cn lb F E T m t u) 256))) : wpY_count post (g_n, g_safeN, b_labels, b_length, b_latest, b_times, b_values, b_safeLabels, b_safeLength, b_safeLatest, b_safeTimes, b_safeValues) (nI m) t u := by
  have loop : ∀ d k : Nat, k + d = 256 → wY_count_18 post (nI m) t u g_n g_safeN b_labels b_length b_latest b_times b_values b_safeLabels b_safeLength b_safeLatest b_safeTimes b_safeValues (d + 1) (nI (cq_of (qt_of cn lb F E T m t u) k)) (nI k) := by
    intro d
    induction d with
    | zero =>
      intro k hk
      have e : k = 256 := by omega
      subst e
      exact br_t (by decide) H
    | succ d ih =>
      intro k hk
      have nx := ih (k + 1) (by omega)
      refine br_f (nI_ge (b := 256) (by omega) (by omega)) (wy_takes I hn hm (by omega) (fun h => br_f (by decide) (nm_r (nI_1 _) (nm_r (nI_1 k) ?_))) (fun h => br_t rfl (nm_r (nI_1 k) ?_)))
      · rw [cq_s, h] at nx; exact nx
      · rw [cq_s, h] at nx; exact nx
  unfold wpY_count
  refine wy_isM1 hm ?_
  exact br_f (by decide) ⟨257, loop 256 0 (by omega)⟩
theorem yy_sum {post : Int32 → Prop} {cn sn : Nat} {lb F E SF SE : Nat → Nat} {LT SLT : Nat → Int32} {T V : Nat → Nat → Int32} {m : Nat} {t u : Int32} (I : yi_ok cn sn lb F E SF SE LT SLT T V g_n g_safeN b_labels b_length b_latest b_times b_values b_safeLabels b_safeLength b_safeLatest b_safeTimes b_safeValues) (hn : nu_ok cn lb F E T V) (hm : m ≤ 728) (H : post (qs_of (qt_of cn lb F E T m t u) (qv_of F V) 256)) : wpY_sum post (g_n, g_safeN, b_labels, b_length, b_latest, b_times, b_values, b_safeLabels, b_safeLength, b_safeLatest, b_safeTimes, b_safeValues) (nI m) t u := by
  have loop : ∀ d k : Nat, k + d = 256 → wY_sum_16 post (nI m) t u g_n g_safeN b_labels b_length b_latest b_times b_values b_safeLabels b_safeLength b_safeLatest b_safeTimes b_safeValues (d + 1) (qs_of (qt_of cn lb F E T m t u) (qv_of F V) k) (nI k) := by
    intro d
    induction d with
    | zero =>
      intro k hk
      have e : k = 256 := by omega
      subst e
      exact br_t (by decide) H
    | succ d ih =>
      intro k hk
      have hck : (nI k).toNatClampNeg = k := nI_clamp (by omega)
      have nx : wY_sum_16 post (nI m) t u g_n g_safeN b_labels b_length b_latest b_times b_values b_safeLabels b_safeLength b_safeLatest b_safeTimes b_safeValues (d + 1) (if qt_of cn lb F E T m t u k = true then qs_of (qt_of cn lb F E T m t u) (qv_of F V) k + qv_of F V k else qs_of (qt_of cn lb F E T m t u) (qv_of F V) k) (nI (k + 1)) := ih (k + 1) (by omega)
      refine br_f (nI_ge (b := 256) (by omega) (by omega)) (wy_takes I hn hm (by omega) (fun h => br_f (by decide) ⟨vp_in_nI (by omega) (by omega), nm_r (e' := qs_of (qt_of cn lb F E T m t u) (qv_of F V) k + qv_of F V k) (by rw [hck, yy_val I h]) (nm_r (nI_1 k) ?_)⟩) (fun h => br_t rfl (nm_r (nI_1 k) ?_)))
      · rw [if_pos h] at nx; exact nx
      · rw [if_neg (by rw [h]; decide)] at nx; exact nx
  unfold wpY_sum
  refine wy_isM1 hm ?_
  exact br_f (by decide) ⟨257, loop 256 0 (by omega)⟩
/-- least (sign 1) and most (sign -1) -/
theorem yy_ext_l {post : Int32 → Prop} {cn sn : Nat} {lb F E SF SE : Nat → Nat} {LT SLT : Nat → Int32} {T V : Nat → Nat → Int32} {m : Nat} {t u sg : Int32} (q : Nat → Int32) (I : yi_ok cn sn lb F E SF SE LT SLT T V g_n g_safeN b_labels b_length b_latest b_times b_values b_safeLabels b_safeLength b_safeLatest b_safeTimes b_safeValues) (hn : nu_ok cn lb F E T V) (hm : m ≤ 728)
    (hq1 : ∀ k, cq_of (qt_of cn lb F E T m t u) k = 0 → qt_of cn lb F E T m t u k = true → q (k + 1) = qv_of F V k) (hq2 : ∀ k, 0 < cq_of (qt_of cn lb F E T m t u) k → ¬ q k = -10003)
    (hq3 : ∀ k, 0 < cq_of (qt_of cn lb F E T m t u) k → qt_of cn lb F E T m t u k = true → (sg * q k ≤ sg * qv_of F V k → q (k + 1) = q k) ∧ (¬ sg * q k ≤ sg * qv_of F V k → q (k + 1) = qv_of F V k)) (hq4 : ∀ k, qt_of cn lb F E T m t u k = false → q (k + 1) = q k)
    (H : post (if cq_of (qt_of cn lb F E T m t u) 256 = 0 then -10003 else q 256)) : ∀ d k : Nat, k + d = 256 → wY_extreme_8 post (nI m) t u sg g_n g_safeN b_labels b_length b_latest b_times b_values b_safeLabels b_safeLength b_safeLatest b_safeTimes b_safeValues (d + 1) (if cq_of (qt_of cn lb F E T m t u) k = 0 then -10003 else q k) (nI k) := by
  intro d
  induction d with
  | zero =>
    intro k hk
    have e : k = 256 := by omega
    subst e
    exact br_t (by decide) H
  | succ d ih =>
    intro k hk
    have hck : (nI k).toNatClampNeg = k := nI_clamp (by omega)
    have hik : vp_in (nI k) 256 := vp_in_nI (by omega) (by omega)
    have nx := ih (k + 1) (by omega)
    rw [cq_s] at nx
    refine br_f (nI_ge (b := 256) (by omega) (by omega)) (wy_takes I hn hm (by omega) (fun h => br_f (by decide) ?_) (fun h => br_t rfl (nm_r (nI_1 k) ?_)))
    · have hv := yy_val I h
      rw [h, Bool.toNat_true, if_neg (by omega)] at nx
      rcases Nat.eq_zero_or_pos (cq_of (qt_of cn lb F E T m t u) k) with z | z
      · rw [if_pos z]
        rw [hq1 k z h] at nx
        exact br_t rfl ⟨hik, nm_r (e' := qv_of F V k) (by rw [hck, hv]) (nm_r (nI_1 k) nx)⟩
      · rw [if_neg (by omega)]
        refine br_f (hq2 k z) ⟨hik, br_c (fun y => nm_r (nI_1 k) ?_) (fun y => ⟨hik, nm_r (e' := qv_of F V k) (by rw [hck, hv]) (nm_r (nI_1 k) ?_)⟩)⟩
        · rw [hck, hv] at y
          rw [(hq3 k z h).1 y] at nx; exact nx
        · rw [hck, hv] at y
          rw [(hq3 k z h).2 y] at nx; exact nx
    · rw [h, Bool.toNat_false, Nat.add_zero, hq4 k h] at nx; exact nx
theorem ql_0 {tk : Nat → Bool} {vl : Nat → Int32} {k : Nat} (h : cq_of tk k = 0) : ql_of tk vl k = 2000 ∧ qm_of tk vl k = -2000 := by
  have h0 : ∀ i, i < k → tk i = false := fun i hi => by
    cases e : tk i with
    | false => rfl
    | true =>
      have := cq_lt (P := fun _ => false) (Q := tk) rfl e (N := k) (fun _ _ h => by cases h) hi
      omega
  constructor
  · rcases ql_or tk vl k with z | ⟨j, j1, j2, _⟩
    · exact z
    · rw [h0 j j1] at j2; cases j2
  · rcases qm_or tk vl k with z | ⟨j, j1, j2, _⟩
    · exact z
    · rw [h0 j j1] at j2; cases j2
theorem yy_least {post : Int32 → Prop} {cn sn : Nat} {lb F E SF SE : Nat → Nat} {LT SLT : Nat → Int32} {T V : Nat → Nat → Int32} {m : Nat} {t u : Int32} (I : yi_ok cn sn lb F E SF SE LT SLT T V g_n g_safeN b_labels b_length b_latest b_times b_values b_safeLabels b_safeLength b_safeLatest b_safeTimes b_safeValues) (hn : nu_ok cn lb F E T V) (hm : m ≤ 728) (H : post (if cq_of (qt_of cn lb F E T m t u) 256 = 0 then -10003 else ql_of (qt_of cn lb F E T m t u) (qv_of F V) 256)) : wpY_least post (g_n, g_safeN, b_labels, b_length, b_latest, b_times, b_values, b_safeLabels, b_safeLength, b_safeLatest, b_safeTimes, b_safeValues) (nI m) t u := by
  have hr := qr_of (m := m) (lb := lb) (F := F) (t := t) (u := u) (fun s hs => (hn.2 s hs).2.2.2)
  unfold wpY_least
  refine wy_isM1 hm ?_
  refine br_f (by decide) ⟨257, yy_ext_l (ql_of (qt_of cn lb F E T m t u) (qv_of F V)) I hn hm (fun k hk h => ?_) (fun k hk e => ?_) (fun k hk h => ?_) (fun k h => ?_) H 256 0 (by omega)⟩
  · have h2 := hr k h
    simp only [ql_of]
    rw [if_pos h, (ql_0 hk).1, if_neg]
    rw [ba_le, show (2000 : Int32).toInt = 2000 from by decide]; omega
  · obtain ⟨j, _, j2, j3⟩ := ql_in hr hk
    have := hr j j2
    rw [← j3, e, show (-10003 : Int32).toInt = -10003 from by decide] at this
    omega
  · simp only [ql_of]
    rw [if_pos h, Int32.one_mul, Int32.one_mul]
    exact ⟨fun z => if_pos z, fun z => if_neg z⟩
  · simp only [ql_of]
    rw [if_neg (by rw [h]; decide)]
theorem ba_neg1 {x : Int32} (h : -2000 ≤ x.toInt ∧ x.toInt ≤ 2000) : ((-1) * x).toInt = -x.toInt := by
  rw [ba_mul (by rw [ba_m1]; omega) (by rw [ba_m1]; omega), ba_m1]; omega
theorem yy_most {post : Int32 → Prop} {cn sn : Nat} {lb F E SF SE : Nat → Nat} {LT SLT : Nat → Int32} {T V : Nat → Nat → Int32} {m : Nat} {t u : Int32} (I : yi_ok cn sn lb F E SF SE LT SLT T V g_n g_safeN b_labels b_length b_latest b_times b_values b_safeLabels b_safeLength b_safeLatest b_safeTimes b_safeValues) (hn : nu_ok cn lb F E T V) (hm : m ≤ 728) (H : post (if cq_of (qt_of cn lb F E T m t u) 256 = 0 then -10003 else qm_of (qt_of cn lb F E T m t u) (qv_of F V) 256)) : wpY_most post (g_n, g_safeN, b_labels, b_length, b_latest, b_times, b_values, b_safeLabels, b_safeLength, b_safeLatest, b_safeTimes, b_safeValues) (nI m) t u := by
  have hr := qr_of (m := m) (lb := lb) (F := F) (t := t) (u := u) (fun s hs => (hn.2 s hs).2.2.2)
  unfold wpY_most
  refine wy_isM1 hm ?_
  refine br_f (by decide) ⟨257, yy_ext_l (qm_of (qt_of cn lb F E T m t u) (qv_of F V)) I hn hm (fun k hk h => ?_) (fun k hk e => ?_) (fun k hk h => ?_) (fun k h => ?_) H 256 0 (by omega)⟩
  · have h2 := hr k h
    simp only [qm_of]
    rw [if_pos h, (ql_0 hk).2, if_neg]
    rw [ba_le, show (-2000 : Int32).toInt = -2000 from by decide]; omega
  · obtain ⟨j, _, j2, j3⟩ := qm_in hr hk
    have := hr j j2
    rw [← j3, e, show (-10003 : Int32).toInt = -10003 from by decide] at this
    omega
  · obtain ⟨j, _, j2, j3⟩ := qm_in hr hk
    have h1 := hr j j2
    have h2 := hr k h
    rw [← j3] at h1
    simp only [qm_of]
    rw [if_pos h, ba_le, ba_neg1 (by omega), ba_neg1 (by omega)]
    exact ⟨fun z => if_pos (by rw [ba_le]; omega), fun z => if_neg (by rw [ba_le]; omega)⟩
  · simp only [qm_of]
    rw [if_neg (by rw [h]; decide)]
theorem yy_growth {post : Int32 → Prop} {cn sn : Nat} {lb F E SF SE : Nat → Nat} {LT SLT : Nat → Int32} {T V : Nat → Nat → Int32} {m : Nat} {t u : Int32} (I : yi_ok cn sn lb F E SF SE LT SLT T V g_n g_safeN b_labels b_length b_latest b_times b_values b_safeLabels b_safeLength b_safeLatest b_safeTimes b_safeValues) (hn : nu_ok cn lb F E T V) (hm : m ≤ 728) (H : post (qg_of (qt_of cn lb F E T m t u) (qv_of F V) 256)) : wpY_growth post (g_n, g_safeN, b_labels, b_length, b_latest, b_times, b_values, b_safeLabels, b_safeLength, b_safeLatest, b_safeTimes, b_safeValues) (nI m) t u := by
  have hr := qr_of (m := m) (lb := lb) (F := F) (t := t) (u := u) (fun s hs => (hn.2 s hs).2.2.2)
  have loop : ∀ d k : Nat, k + 1 + d = 256 → wY_growth_16 post (nI m) t u g_n g_safeN b_labels b_length b_latest b_times b_values b_safeLabels b_safeLength b_safeLatest b_safeTimes b_safeValues (d + 1) (qg_of (qt_of cn lb F E T m t u) (qv_of F V) (k + 1)) (nI (k + 1)) := by
    intro d
    induction d with
    | zero =>
      intro k hk
      have e : k = 255 := by omega
      subst e
      exact br_t (by decide) H
    | succ d ih =>
      intro k hk
      have hck : (nI (k + 1)).toNatClampNeg = k + 1 := nI_clamp (by omega)
      have hck0 : (nI k).toNatClampNeg = k := nI_clamp (by omega)
      have hik : vp_in (nI (k + 1)) 256 := vp_in_nI (by omega) (by omega)
      have hik0 : vp_in (nI k) 256 := vp_in_nI (by omega) (by omega)
      have e2 : nI (k + 1) - nI (k + 1) / 32 * 32 = nI ((k + 1) % 32) := pk_rem (d := 32) (by omega) (by omega) (by omega)
      have nx : wY_growth_16 post (nI m) t u g_n g_safeN b_labels b_length b_latest b_times b_values b_safeLabels b_safeLength b_safeLatest b_safeTimes b_safeValues (d + 1) (if ((k + 1) % 32 ≠ 0 ∧ qt_of cn lb F E T m t u k = true) ∧ qt_of cn lb F E T m t u (k + 1) = true then qg_of (qt_of cn lb F E T m t u) (qv_of F V) (k + 1) + sm_g (qv_of F V k) (qv_of F V (k + 1)) else qg_of (qt_of cn lb F E T m t u) (qv_of F V) (k + 1)) (nI (k + 1 + 1)) := ih (k + 1) (by omega)
      refine br_f (nI_ge (b := 256) (by omega) (by omega)) ⟨by decide, br_c (fun z => nm_r (nI_1 _) ?_) (fun z => ?_)⟩
      · rw [e2] at z
        have z0 : (k + 1) % 32 = 0 := by
          rcases Nat.eq_zero_or_pos ((k + 1) % 32) with y | y
          · exact y
          · exact absurd z (nI_nle y (by omega))
        rw [if_neg (fun h => h.1.1 z0)] at nx; exact nx
      · rw [e2] at z
        have z0 : (k + 1) % 32 ≠ 0 := fun y => z (by rw [y]; decide)
        rw [nI_pred]
        refine wy_takes I hn hm (by omega) (fun h => br_f (by decide) (wy_takes I hn hm (by omega) (fun h' => br_f (by decide) ⟨hik, hik0, ?_⟩) (fun h' => br_t rfl (nm_r (nI_1 _) ?_)))) (fun h => br_t rfl (nm_r (nI_1 _) ?_))
        · have v0 := hr k h
          have v1 := hr (k + 1) h'
          have ed := ba_sub (x := qv_of F V (k + 1)) (y := qv_of F V k) (by omega) (by omega)
          rw [if_pos ⟨⟨z0, h⟩, h'⟩] at nx
          unfold sm_g at nx
          refine nm_r (e' := qv_of F V (k + 1) - qv_of F V k) (by rw [hck, hck0, yy_val I h, yy_val I h']) (br_c (fun y => ⟨hik, br_c (fun x => nm_r (nI_1 _) ?_) (fun x => ⟨hik, nm_r (e' := qg_of (qt_of cn lb F E T m t u) (qv_of F V) (k + 1) + qv_of F V (k + 1)) (by rw [hck, yy_val I h']) (nm_r (nI_1 _) ?_)⟩)⟩) (fun y => nm_e (nm_r (nI_1 _) ?_)))
          · rw [ba_lt, ed, ba_0] at y
            rw [hck, yy_val I h'] at x
            rw [if_pos (by rw [ba_lt]; omega), if_pos x, Int32.add_zero] at nx; exact nx
          · rw [ba_lt, ed, ba_0] at y
            rw [hck, yy_val I h'] at x
            rw [if_pos (by rw [ba_lt]; omega), if_neg x] at nx; exact nx
          · rw [ba_lt, ed, ba_0] at y
            rw [if_neg (by rw [ba_lt]; omega)] at nx; exact nx
        · rw [if_neg (fun g => by rw [h'] at g; cases g.2)] at nx; exact nx
        · rw [if_neg (fun g => by rw [h] at g; cases g.1.2)] at nx; exact nx
  unfold wpY_growth
  refine wy_isM1 hm ?_
  exact br_f (by decide) ⟨256, loop 255 0 (by omega)⟩
end
end
section
/-! the reference: at, ranked, matching -/
theorem ba_32 (s k : Nat) : 32 * nI s + nI k = nI (32 * s + k) := by rw [show (32 : Int32) = nI 32 from rfl, pk_mul, nI_add]
section
variable {g_n g_safeN : Int32} {b_labels b_length b_latest b_times b_values b_safeLabels b_safeLength b_safeLatest b_safeTimes b_safeValues : Nat → Int32}
theorem yy_at {post : Int32 → Prop} {cn sn : Nat} {lb F E SF SE : Nat → Nat} {LT SLT : Nat → Int32} {T V : Nat → Nat → Int32} {s : Nat} {t : Int32} (I : yi_ok cn sn lb F E SF SE LT SLT T V g_n g_safeN b_labels b_length b_latest b_times b_values b_safeLabels b_safeLength b_safeLatest b_safeTimes b_safeValues) (hn : nu_ok cn lb F E T V) (hs : s < cn) (ht : 0 ≤ t.toInt ∧ t.toInt ≤ 999) (H : ∀ r, at_sp (T s) (V s) (F s) (E s) t r → post r) : wpY_at post (g_n, g_safeN, b_labels, b_length, b_latest, b_times, b_values, b_safeLabels, b_safeLength, b_safeLatest, b_safeTimes, b_safeValues) (nI s) t := by
  obtain ⟨i1, i2, i3, i4⟩ := I
  have hcn := hn.1
  obtain ⟨n1, n2, n3, hh⟩ := hn.2 s hs
  obtain ⟨j1, j2, j3, j4⟩ := i3 s hs
  have hcs : (nI s).toNatClampNeg = s := nI_clamp (by omega)
  have his : vp_in (nI s) 8 := vp_in_nI (by omega) (by omega)
  have h50 := at_50 ht
  have he : 32 * nI s + b_length (nI s).toNatClampNeg = nI (32 * s + (E s - F s)) := by rw [hcs, j2, ba_32]
  have loop : ∀ (d j : Nat) (r : Int32), j + d = E s - F s → at_sp (T s) (V s) (F s) (F s + j) t r → wY_at_33 post (nI s) t g_n g_safeN b_labels b_length b_latest b_times b_values b_safeLabels b_safeLength b_safeLatest b_safeTimes b_safeValues (d + 1) r (nI (32 * s + j)) := by
    intro d
    induction d with
    | zero =>
      intro j r hj h
      have e : j = E s - F s := by omega
      subst e
      refine ⟨his, br_t (by rw [he]; exact Int32.le_refl _) (H r ?_)⟩
      rw [show F s + (E s - F s) = E s from by omega] at h
      exact h
    | succ d ih =>
      intro j r hj h
      have hck : (nI (32 * s + j)).toNatClampNeg = 32 * s + j := nI_clamp (by omega)
      have hik : vp_in (nI (32 * s + j)) 256 := vp_in_nI (by omega) (by omega)
      obtain ⟨t1, t2⟩ := j4 j (by omega)
      have skip : ¬ at_m (T s) t (F s + j) → wY_at_33 post (nI s) t g_n g_safeN b_labels b_length b_latest b_times b_values b_safeLabels b_safeLength b_safeLatest b_safeTimes b_safeValues (d + 1) r (nI (32 * s + j + 1)) := fun hno => ih (j + 1) r (by omega) (by
        rcases h with ⟨n, n1, n2, n3, n4, n5⟩ | ⟨h1, h2⟩
        · refine Or.inl ⟨n, n1, by omega, n3, n4, fun n' g1 g2 g3 => ?_⟩
          rcases Nat.lt_or_ge n' (F s + j) with z | z
          · exact n5 n' g1 z g3
          · rw [show n' = F s + j from by omega] at g3
            exact hno g3
        · refine Or.inr ⟨h1, fun n g1 g2 g3 => ?_⟩
          rcases Nat.lt_or_ge n (F s + j) with z | z
          · exact h2 n g1 z g3
          · rw [show n = F s + j from by omega] at g3
            exact hno g3)
      refine ⟨his, br_f (by rw [he]; exact nI_ge (by omega) (by omega)) ⟨hik, br_c (fun z => nm_r (nI_1 _) (skip ?_)) (fun z => ⟨hik, br_c (fun y => nm_r (nI_1 _) (skip ?_)) (fun y => ⟨hik, nm_r (e' := V s (F s + j)) (by rw [hck, t2]) (nm_r (nI_1 _) (ih (j + 1) _ (by omega) ?_))⟩)⟩)⟩⟩
      · rw [hck, t1, ba_lt] at z
        unfold at_m; omega
      · rw [hck, t1, ba_le, h50] at y
        unfold at_m; omega
      · rw [hck, t1, ba_lt] at z
        rw [hck, t1, ba_le, h50] at y
        exact Or.inl ⟨F s + j, by omega, by omega, ⟨by omega, by omega⟩, rfl, fun n' g1 g2 => by omega⟩
  refine br_f (nI_pos (by omega)) (br_f (by rw [i1]; exact nI_ge hs (by omega)) ?_)
  refine br_f (by decide) (br_f ?_ (br_t ?_ (nm_r (e' := nI (32 * s + 0)) (by rw [show (32 : Int32) = nI 32 from rfl, pk_mul]; rfl) ⟨E s - F s + 1, loop (E s - F s) 0 _ (by omega) (Or.inr ⟨rfl, fun n g1 g2 => by omega⟩)⟩)))
  · rw [ba_lt, ba_0]; omega
  · rw [ba_le, show (999 : Int32).toInt = 999 from by decide]; omega
theorem yy_rk_l {post : Int32 → Prop} {J : Int32 → Prop} {cn sn : Nat} {lb F E SF SE : Nat → Nat} {LT SLT : Nat → Int32} {T V : Nat → Nat → Int32} {m j : Nat} {t u p3 : Int32} (I : yi_ok cn sn lb F E SF SE LT SLT T V g_n g_safeN b_labels b_length b_latest b_times b_values b_safeLabels b_safeLength b_safeLatest b_safeTimes b_safeValues) (hn : nu_ok cn lb F E T V) (hm : m ≤ 728) (hj : j < 256) (htj : qt_of cn lb F E T m t u j = true)
    (H1 : p3 = nI (cq_of (bw_of (qt_of cn lb F E T m t u) (qv_of F V) j) 256) → post (qv_of F V j)) (H0 : ¬ p3 = nI (cq_of (bw_of (qt_of cn lb F E T m t u) (qv_of F V) j) 256) → J (nI (j + 1))) :
    ∀ d k : Nat, k + d = 256 → wY_ranked_41 post J (nI m) t u p3 (nI j) g_n g_safeN b_labels b_length b_latest b_times b_values b_safeLabels b_safeLength b_safeLatest b_safeTimes b_safeValues (d + 1) (nI (cq_of (bw_of (qt_of cn lb F E T m t u) (qv_of F V) j) k)) (nI k) := by
  have hcj : (nI j).toNatClampNeg = j := nI_clamp (by omega)
  have hij : vp_in (nI j) 256 := vp_in_nI hj (by omega)
  have vj := yy_val I htj
  intro d
  induction d with
  | zero =>
    intro k hk
    have e : k = 256 := by omega
    subst e
    refine br_t (by decide) (br_c (fun z => ⟨hij, ?_⟩) (fun z => nm_r (nI_1 j) (H0 (fun y => z y.symm))))
    rw [hcj, vj]; exact H1 z.symm
  | succ d ih =>
    intro k hk
    have hck : (nI k).toNatClampNeg = k := nI_clamp (by omega)
    have hik : vp_in (nI k) 256 := vp_in_nI (by omega) (by omega)
    have nx := ih (k + 1) (by omega)
    rw [cq_s] at nx
    have skip : bw_of (qt_of cn lb F E T m t u) (qv_of F V) j k = false → wY_ranked_41 post J (nI m) t u p3 (nI j) g_n g_safeN b_labels b_length b_latest b_times b_values b_safeLabels b_safeLength b_safeLatest b_safeTimes b_safeValues (d + 1) (nI (cq_of (bw_of (qt_of cn lb F E T m t u) (qv_of F V) j) k)) (nI (k + 1)) := fun h => by rw [h] at nx; exact nx
    have take : bw_of (qt_of cn lb F E T m t u) (qv_of F V) j k = true → wY_ranked_41 post J (nI m) t u p3 (nI j) g_n g_safeN b_labels b_length b_latest b_times b_values b_safeLabels b_safeLength b_safeLatest b_safeTimes b_safeValues (d + 1) (nI (cq_of (bw_of (qt_of cn lb F E T m t u) (qv_of F V) j) k + 1)) (nI (k + 1)) := fun h => by rw [h] at nx; exact nx
    have no : ¬ (qt_of cn lb F E T m t u k = true ∧ ((qv_of F V k).toInt < (qv_of F V j).toInt ∨ ((qv_of F V k).toInt = (qv_of F V j).toInt ∧ k < j))) → bw_of (qt_of cn lb F E T m t u) (qv_of F V) j k = false := fun h => by
      cases e : bw_of (qt_of cn lb F E T m t u) (qv_of F V) j k with
      | false => rfl
      | true => exact absurd (bw_e.mp e) h
    refine br_f (nI_ge (b := 256) (by omega) (by omega)) (wy_takes I hn hm (by omega) (fun h => br_f (by decide) ⟨hik, hij, ?_⟩) (fun h => br_t rfl (nm_r (nI_1 k) (skip (no (fun g => by rw [h] at g; cases g.1))))))
    rw [hck, hcj, yy_val I h, vj]
    refine br_c (fun z => nm_r (nI_1 _) (nm_r (nI_1 k) (take (bw_e.mpr ⟨h, Or.inl (ba_lt.mp z)⟩)))) (fun z => ⟨hik, hij, br_c (fun y => ?_) (fun y => nm_r (nI_1 k) (skip (no (fun g => ?_))))⟩)
    · rw [nI_leI (by omega) (by omega)]
      exact ⟨fun x => nm_r (nI_1 k) (skip (no (fun g => by rw [ba_lt] at z; omega))), fun x => nm_r (nI_1 _) (nm_r (nI_1 k) (take (bw_e.mpr ⟨h, Or.inr ⟨by rw [y], by omega⟩⟩)))⟩
    · rw [ba_lt] at z
      rcases g.2 with w | w
      · exact z w
      · exact y (Int32.toInt_inj.mp w.1)
theorem yy_ranked {post : Int32 → Prop} {cn sn : Nat} {lb F E SF SE : Nat → Nat} {LT SLT : Nat → Int32} {T V : Nat → Nat → Int32} {m : Nat} {t u p3 : Int32} (I : yi_ok cn sn lb F E SF SE LT SLT T V g_n g_safeN b_labels b_length b_latest b_times b_values b_safeLabels b_safeLength b_safeLatest b_safeTimes b_safeValues) (hn : nu_ok cn lb F E T V) (hm : m ≤ 728)
    (Hr : ∀ j, j < 256 → qt_of cn lb F E T m t u j = true → p3 = nI (cq_of (bw_of (qt_of cn lb F E T m t u) (qv_of F V) j) 256) → post (qv_of F V j))
    (Hn : (∀ j, j < 256 → qt_of cn lb F E T m t u j = true → ¬ p3 = nI (cq_of (bw_of (qt_of cn lb F E T m t u) (qv_of F V) j) 256)) → post (-10003)) : wpY_ranked post (g_n, g_safeN, b_labels, b_length, b_latest, b_times, b_values, b_safeLabels, b_safeLength, b_safeLatest, b_safeTimes, b_safeValues) (nI m) t u p3 := by
  have loop : ∀ d j : Nat, j + d = 256 → (∀ i, i < j → qt_of cn lb F E T m t u i = true → ¬ p3 = nI (cq_of (bw_of (qt_of cn lb F E T m t u) (qv_of F V) i) 256)) → wY_ranked_15 post (nI m) t u p3 g_n g_safeN b_labels b_length b_latest b_times b_values b_safeLabels b_safeLength b_safeLatest b_safeTimes b_safeValues (d + 1) (nI j) := by
    intro d
    induction d with
    | zero =>
      intro j hj h
      have e : j = 256 := by omega
      subst e
      exact br_t (by decide) (Hn h)
    | succ d ih =>
      intro j hj h
      refine br_f (nI_ge (b := 256) (by omega) (by omega)) (wy_takes I hn hm (by omega) (fun ht => br_f (by decide) ⟨257, ?_⟩) (fun ht => br_t rfl (nm_r (nI_1 j) (ih (j + 1) (by omega) (fun i hi hti => ?_)))))
      · refine yy_rk_l I hn hm (by omega) ht (Hr j (by omega) ht) (fun hne => ih (j + 1) (by omega) (fun i hi hti => ?_)) 256 0 (by omega)
        rcases Nat.lt_or_ge i j with z | z
        · exact h i z hti
        · rw [show i = j from by omega]; exact hne
      · rcases Nat.lt_or_ge i j with z | z
        · exact h i z hti
        · rw [show i = j from by omega, ht] at hti; cases hti
  unfold wpY_ranked
  refine wy_isM1 hm ?_
  exact br_f (by decide) ⟨257, loop 256 0 (by omega) (fun i hi => by omega)⟩
theorem yy_matching {post : Int32 → Prop} {cn sn : Nat} {lb F E SF SE : Nat → Nat} {LT SLT : Nat → Int32} {T V : Nat → Nat → Int32} {m : Nat} (I : yi_ok cn sn lb F E SF SE LT SLT T V g_n g_safeN b_labels b_length b_latest b_times b_values b_safeLabels b_safeLength b_safeLatest b_safeTimes b_safeValues) (hn : nu_ok cn lb F E T V) (hm : m ≤ 728) (H : ∀ S, mt_set cn lb m S → post S) : wpY_matching post (g_n, g_safeN, b_labels, b_length, b_latest, b_times, b_values, b_safeLabels, b_safeLength, b_safeLatest, b_safeTimes, b_safeValues) (nI m) := by
  obtain ⟨i1, i2, i3, i4⟩ := I
  have hcn := hn.1
  have loop : ∀ (d s : Nat) (S : Int32), s + d = cn → (∀ b, b < 32 → bt S b = (decide (b < s) && mt_u (lb b) m 3)) → wY_matching_16 post (nI m) g_n g_safeN b_labels b_length b_latest b_times b_values b_safeLabels b_safeLength b_safeLatest b_safeTimes b_safeValues (d + 1) S (nI s) := by
    intro d
    induction d with
    | zero =>
      intro s S hs hS
      have e : s = cn := by omega
      subst e
      exact br_t (by rw [i1]; exact Int32.le_refl _) (H S hS)
    | succ d ih =>
      intro s S hs hS
      refine br_f (by rw [i1]; exact nI_ge (by omega) (by omega)) (wy_matches (by omega) (i3 s (by omega)).1 (hn.2 s (by omega)).2.2.1 hm (fun h => br_f (by decide) (nm_e (nm_r (nI_1 s) (ih (s + 1) _ (by omega) (fun b hb => ?_))))) (fun h => br_t rfl (nm_r (nI_1 s) (ih (s + 1) _ (by omega) (fun b hb => ?_)))))
      · rw [b_or, hS b hb, bi_mask (by omega) hb]
        by_cases e : b = s
        · subst e
          rw [decide_eq_true rfl, Bool.or_true, decide_eq_true (by omega : b < b + 1), h]; rfl
        · rw [decide_eq_false e, Bool.or_false]
          by_cases e2 : b < s
          · rw [decide_eq_true e2, decide_eq_true (by omega : b < s + 1)]
          · rw [decide_eq_false e2, decide_eq_false (by omega : ¬ b < s + 1)]
      · rw [hS b hb]
        by_cases e : b = s
        · subst e
          rw [h, Bool.and_false, Bool.and_false]
        · by_cases e2 : b < s
          · rw [decide_eq_true e2, decide_eq_true (by omega : b < s + 1)]
          · rw [decide_eq_false e2, decide_eq_false (by omega : ¬ b < s + 1)]
  unfold wpY_matching
  refine wy_isM1 hm ?_
  exact br_f (by decide) ⟨cn + 1, loop cn 0 0 (by omega) (fun b hb => by rw [b_0, decide_eq_false (by omega), Bool.false_and])⟩
end
end
section
/-! the reference: series, append, expire, sync, crash -/
/-- the numbers of the safe series -/
def nv_ok (cn sn : Nat) (E SF SE : Nat → Nat) : Prop := sn ≤ cn ∧ ∀ s, s < sn → SF s ≤ SE s ∧ SE s ≤ E s ∧ SE s ≤ SF s + 32
section
variable {g_n g_safeN : Int32} {b_labels b_length b_latest b_times b_values b_safeLabels b_safeLength b_safeLatest b_safeTimes b_safeValues : Nat → Int32}
theorem wy_ser_there {post : Int32 → SY → Prop} {cn l : Nat} {lb : Nat → Nat} (hcn : cn ≤ 8) (hfs : g_n = nI cn) (hlb : ∀ s, s < cn → b_labels s = nI (lb s)) (hp : post (-10002) (g_n, g_safeN, b_labels, b_length, b_latest, b_times, b_values, b_safeLabels, b_safeLength, b_safeLatest, b_safeTimes, b_safeValues)) :
    ∀ d s : Nat, s + d = cn → (∃ s', s ≤ s' ∧ s' < cn ∧ lb s' = l) → wY_series_16 post (nI l) g_n g_safeN b_labels b_length b_latest b_times b_values b_safeLabels b_safeLength b_safeLatest b_safeTimes b_safeValues (d + 1) (nI s) := by
  intro d
  induction d with
  | zero => intro s hs ⟨s', h1, h2, _⟩; omega
  | succ d ih =>
    intro s hs ⟨s', h1, h2, h3⟩
    have hcs : (nI s).toNatClampNeg = s := nI_clamp (by omega)
    have k1 := hlb s (by omega)
    refine br_f (by rw [hfs]; exact nI_ge (by omega) (by omega)) ⟨vp_in_nI (by omega) (by omega), br_c (fun _ => hp) (fun z => nm_r (nI_1 s) (ih (s + 1) (by omega) ⟨s', ?_, h2, h3⟩))⟩
    rcases Nat.eq_or_lt_of_le h1 with e | e
    · subst e
      exact absurd (by rw [hcs, k1, h3]) z
    · exact e
theorem wy_ser_none {post : Int32 → SY → Prop} {cn l : Nat} {lb : Nat → Nat} (hcn : cn ≤ 8) (hfs : g_n = nI cn) (hlb : ∀ s, s < cn → b_labels s = nI (lb s) ∧ lb s < 64) (hl : l < 64) (hno : ∀ s, s < cn → lb s ≠ l) (K : wY_series_16 post (nI l) g_n g_safeN b_labels b_length b_latest b_times b_values b_safeLabels b_safeLength b_safeLatest b_safeTimes b_safeValues 1 (nI cn)) :
    ∀ d s : Nat, s + d = cn → wY_series_16 post (nI l) g_n g_safeN b_labels b_length b_latest b_times b_values b_safeLabels b_safeLength b_safeLatest b_safeTimes b_safeValues (d + 1) (nI s) := by
  intro d
  induction d with
  | zero =>
    intro s hs
    have e : s = cn := by omega
    subst e
    exact K
  | succ d ih =>
    intro s hs
    have hcs : (nI s).toNatClampNeg = s := nI_clamp (by omega)
    obtain ⟨k1, k2⟩ := hlb s (by omega)
    refine br_f (by rw [hfs]; exact nI_ge (by omega) (by omega)) ⟨vp_in_nI (by omega) (by omega), br_f ?_ (nm_r (nI_1 s) (ih (s + 1) (by omega)))⟩
    rw [hcs, k1, nI_eq (by omega) (by omega)]
    exact hno s (by omega)
theorem yy_there {post : Int32 → SY → Prop} {cn sn : Nat} {lb F E SF SE : Nat → Nat} {LT SLT : Nat → Int32} {T V : Nat → Nat → Int32} {l : Nat} (I : yi_ok cn sn lb F E SF SE LT SLT T V g_n g_safeN b_labels b_length b_latest b_times b_values b_safeLabels b_safeLength b_safeLatest b_safeTimes b_safeValues) (hn : nu_ok cn lb F E T V) (hl : l < 64) (hex : ∃ s, s < cn ∧ lb s = l) (hp : post (-10002) (g_n, g_safeN, b_labels, b_length, b_latest, b_times, b_values, b_safeLabels, b_safeLength, b_safeLatest, b_safeTimes, b_safeValues)) : wpY_series post (g_n, g_safeN, b_labels, b_length, b_latest, b_times, b_values, b_safeLabels, b_safeLength, b_safeLatest, b_safeTimes, b_safeValues) (nI l) := by
  obtain ⟨s, s1, s2⟩ := hex
  exact br_f (nI_pos (by omega)) (br_t (ba_le63 hl) ⟨cn + 1, wy_ser_there hn.1 I.1 (fun s hs => (I.2.2.1 s hs).1) hp cn 0 (by omega) ⟨s, by omega, s1, s2⟩⟩)
theorem yy_full {post : Int32 → SY → Prop} {cn sn : Nat} {lb F E SF SE : Nat → Nat} {LT SLT : Nat → Int32} {T V : Nat → Nat → Int32} {l : Nat} (I : yi_ok cn sn lb F E SF SE LT SLT T V g_n g_safeN b_labels b_length b_latest b_times b_values b_safeLabels b_safeLength b_safeLatest b_safeTimes b_safeValues) (hn : nu_ok cn lb F E T V) (hl : l < 64) (hno : ∀ s, s < cn → lb s ≠ l) (hc8 : cn = 8) (hp : post (-10001) (g_n, g_safeN, b_labels, b_length, b_latest, b_times, b_values, b_safeLabels, b_safeLength, b_safeLatest, b_safeTimes, b_safeValues)) : wpY_series post (g_n, g_safeN, b_labels, b_length, b_latest, b_times, b_values, b_safeLabels, b_safeLength, b_safeLatest, b_safeTimes, b_safeValues) (nI l) :=
  br_f (nI_pos (by omega)) (br_t (ba_le63 hl) ⟨cn + 1, wy_ser_none hn.1 I.1 (fun s hs => ⟨(I.2.2.1 s hs).1, (hn.2 s hs).2.2.1⟩) hl hno (br_t (by rw [I.1]; exact Int32.le_refl _) (br_t (by rw [I.1, hc8]; rfl) hp)) cn 0 (by omega)⟩)
theorem yy_new {post : Int32 → SY → Prop} {cn sn : Nat} {lb F E SF SE : Nat → Nat} {LT SLT : Nat → Int32} {T V : Nat → Nat → Int32} {l : Nat} (I : yi_ok cn sn lb F E SF SE LT SLT T V g_n g_safeN b_labels b_length b_latest b_times b_values b_safeLabels b_safeLength b_safeLatest b_safeTimes b_safeValues) (hn : nu_ok cn lb F E T V) (hv : nv_ok cn sn E SF SE) (hl : l < 64) (hno : ∀ s, s < cn → lb s ≠ l) (hc8 : cn < 8)
    (H : ∀ (b_labels1 b_length1 b_latest1 : Nat → Int32), yi_ok (cn + 1) sn (up_f lb cn l) (up_f F cn 0) (up_f E cn 0) SF SE (up_f LT cn (-1)) SLT T V (nI (cn + 1)) g_safeN b_labels1 b_length1 b_latest1 b_times b_values b_safeLabels b_safeLength b_safeLatest b_safeTimes b_safeValues → post (nI cn) (nI (cn + 1), g_safeN, b_labels1, b_length1, b_latest1, b_times, b_values, b_safeLabels, b_safeLength, b_safeLatest, b_safeTimes, b_safeValues)) : wpY_series post (g_n, g_safeN, b_labels, b_length, b_latest, b_times, b_values, b_safeLabels, b_safeLength, b_safeLatest, b_safeTimes, b_safeValues) (nI l) := by
  obtain ⟨i1, i2, i3, i4⟩ := I
  have hcc : g_n.toNatClampNeg = cn := by rw [i1]; exact nI_clamp (by omega)
  have hic : vp_in g_n 8 := by rw [i1]; exact vp_in_nI hc8 (by omega)
  refine br_f (nI_pos (by omega)) (br_t (ba_le63 hl) ⟨cn + 1, wy_ser_none hn.1 i1 (fun s hs => ⟨(i3 s hs).1, (hn.2 s hs).2.2.1⟩) hl hno ?_ cn 0 (by omega)⟩)
  refine br_t (by rw [i1]; exact Int32.le_refl _) (br_f ?_ ⟨hic, nm_r (e' := upd b_labels cn (nI l)) (by rw [hcc]) ⟨hic, nm_r (e' := upd b_length cn 0) (by rw [hcc]) ⟨hic, nm_r (e' := upd b_latest cn (-1)) (by rw [hcc]) (nm_r (e' := nI (cn + 1)) (by rw [i1, nI_1]) ?_)⟩⟩⟩)
  · rw [i1]
    intro e
    have := (nI_eq (a := cn) (b := 8) (by omega) (by omega)).mp e
    omega
  · rw [nI_pred]
    refine H _ _ _ ⟨rfl, i2, fun s hs => ?_, fun s hs => ?_⟩
    · by_cases e : s = cn
      · subst e
        rw [pk_us, pk_us, pk_us, up_s, up_s, up_s, up_s]
        exact ⟨rfl, rfl, rfl, fun j hj => by omega⟩
      · rw [pk_un e, pk_un e, pk_un e, up_o e, up_o e, up_o e, up_o e]
        exact i3 s (by omega)
    · have := hv.1
      rw [up_o (by omega)]
      exact i4 s hs
theorem yy_append {post : Int32 → SY → Prop} {cn sn : Nat} {lb F E SF SE : Nat → Nat} {LT SLT : Nat → Int32} {T V : Nat → Nat → Int32} {s : Nat} {t v : Int32} (I : yi_ok cn sn lb F E SF SE LT SLT T V g_n g_safeN b_labels b_length b_latest b_times b_values b_safeLabels b_safeLength b_safeLatest b_safeTimes b_safeValues) (hn : nu_ok cn lb F E T V) (hv : nv_ok cn sn E SF SE) (hs : s < cn) (ht1 : (LT s).toInt < t.toInt) (ht : 0 ≤ t.toInt ∧ t.toInt ≤ 999) (hvv : -1000 ≤ v.toInt ∧ v.toInt ≤ 1000) (hroom : E s - F s < 32)
    (H : ∀ (b_length1 b_latest1 b_times1 b_values1 : Nat → Int32), yi_ok cn sn lb F (up_f E s (E s + 1)) SF SE (up_f LT s t) SLT (up_f T s (up_f (T s) (E s) t)) (up_f V s (up_f (V s) (E s) v)) g_n g_safeN b_labels b_length1 b_latest1 b_times1 b_values1 b_safeLabels b_safeLength b_safeLatest b_safeTimes b_safeValues → post (nI (E s + 1 - F s)) (g_n, g_safeN, b_labels, b_length1, b_latest1, b_times1, b_values1, b_safeLabels, b_safeLength, b_safeLatest, b_safeTimes, b_safeValues)) : wpY_append post (g_n, g_safeN, b_labels, b_length, b_latest, b_times, b_values, b_safeLabels, b_safeLength, b_safeLatest, b_safeTimes, b_safeValues) (nI s) t v := by
  obtain ⟨i1, i2, i3, i4⟩ := I
  have hcn := hn.1
  obtain ⟨n1, n2, n3, hh⟩ := hn.2 s hs
  obtain ⟨j1, j2, j3, j4⟩ := i3 s hs
  have hcs : (nI s).toNatClampNeg = s := nI_clamp (by omega)
  have his : vp_in (nI s) 8 := vp_in_nI (by omega) (by omega)
  have ei : 32 * nI s + b_length (nI s).toNatClampNeg = nI (32 * s + (E s - F s)) := by rw [hcs, j2, ba_32]
  have hii : vp_in (32 * nI s + b_length (nI s).toNatClampNeg) 256 := by rw [ei]; exact vp_in_nI (by omega) (by omega)
  have hci : (32 * nI s + b_length (nI s).toNatClampNeg).toNatClampNeg = 32 * s + (E s - F s) := by rw [ei]; exact nI_clamp (by omega)
  refine br_f (nI_pos (by omega)) (br_f (by rw [i1]; exact nI_ge hs (by omega)) ?_)
  refine br_f (by decide) (br_f ?_ (br_f ?_ (br_f ?_ (br_t ?_ ⟨his, br_t ?_ ⟨his, br_f ?_ ⟨his, hii, nm_r (e' := upd b_times (32 * s + (E s - F s)) t) (by rw [hci]) ⟨his, hii, nm_r (e' := upd b_values (32 * s + (E s - F s)) v) (by rw [hci]) ⟨his, nm_r (e' := upd b_latest s t) (by rw [hcs]) ⟨his, his, nm_r (e' := upd b_length s (nI (E s + 1 - F s))) ?_ ⟨his, ?_⟩⟩⟩⟩⟩⟩⟩))))
  · rw [ba_lt, ba_0]; omega
  · rw [ba_lt, show (999 : Int32).toInt = 999 from by decide]; omega
  · rw [ba_lt, show (-1000 : Int32).toInt = -1000 from by decide]; omega
  · rw [ba_le, show (1000 : Int32).toInt = 1000 from by decide]; omega
  · rw [hcs, j3, ba_lt]; exact ht1
  · rw [hcs, j2]
    intro e
    have := (nI_eq (a := E s - F s) (b := 32) (by omega) (by omega)).mp e
    omega
  · rw [hcs, j2, nI_1, show E s - F s + 1 = E s + 1 - F s from by omega]
  · rw [hcs, pk_us]
    refine H _ _ _ _ ⟨i1, i2, fun s' hs' => ?_, fun s' hs' => ?_⟩
    · by_cases e : s' = s
      · subst e
        rw [pk_us, pk_us, up_s, up_s, up_s, up_s]
        refine ⟨j1, rfl, rfl, fun j hj => ?_⟩
        by_cases e : j = E s' - F s'
        · rw [e, pk_us, pk_us, show F s' + (E s' - F s') = E s' from by omega, up_s, up_s]; exact ⟨rfl, rfl⟩
        · rw [pk_un (by omega), pk_un (by omega), up_o (by omega), up_o (by omega)]; exact j4 j (by omega)
      · rw [pk_un e, pk_un e, up_o e, up_o e, up_o e, up_o e]
        obtain ⟨m1, m2, m3, m4⟩ := i3 s' hs'
        have := hn.2 s' hs'
        exact ⟨m1, m2, m3, fun j hj => by rw [pk_un (by omega), pk_un (by omega)]; exact m4 j hj⟩
    · obtain ⟨m1, m2, m3, m4⟩ := i4 s' hs'
      refine ⟨m1, m2, m3, fun j hj => ?_⟩
      have hse := hv.2 s' hs'
      by_cases e : s' = s
      · subst e
        rw [up_s, up_s, up_o (by omega), up_o (by omega)]; exact m4 j hj
      · rw [up_o e, up_o e]; exact m4 j hj
/-! expire -/
theorem wy_exp21 {post : Int32 → SY → Prop} {J : Int32 → Int32 → (Nat → Int32) → (Nat → Int32) → (Nat → Int32) → (Nat → Int32) → (Nat → Int32) → (Nat → Int32) → (Nat → Int32) → (Nat → Int32) → (Nat → Int32) → (Nat → Int32) → Prop} {s F E F' : Nat} {T V : Nat → Int32} {t x2 : Int32} (hs : s < 8) (hlen : b_length s = nI (E - F)) (h32 : E ≤ F + 32) (hsp : ex_sp T F E t F')
    (H : ∀ (b_times1 b_values1 : Nat → Int32), (∀ j, j < E - F' → b_times1 (32 * s + j) = T (F' + j) ∧ b_values1 (32 * s + j) = V (F' + j)) → (∀ q, q < 32 * s ∨ 32 * s + 32 ≤ q → b_times1 q = b_times q ∧ b_values1 q = b_values q) → J (x2 + nI (F' - F)) (nI (s + 1)) b_labels (upd b_length s (nI (E - F'))) b_latest b_times1 b_values1 b_safeLabels b_safeLength b_safeLatest b_safeTimes b_safeValues) :
    ∀ (d j : Nat) (b_times0 b_values0 : Nat → Int32), j + d = E - F → (∀ i, j ≤ i → i < E - F → b_times0 (32 * s + i) = T (F + i) ∧ b_values0 (32 * s + i) = V (F + i)) → (∀ i, i < j - (F' - F) → b_times0 (32 * s + i) = T (F' + i) ∧ b_values0 (32 * s + i) = V (F' + i)) → (∀ q, q < 32 * s ∨ 32 * s + 32 ≤ q → b_times0 q = b_times q ∧ b_values0 q = b_values q) →
      wY_expire_21 post J t x2 (nI s) g_n g_safeN (d + 1) (nI (j - (F' - F))) (nI (32 * s + j)) b_labels b_length b_latest b_times0 b_values0 b_safeLabels b_safeLength b_safeLatest b_safeTimes b_safeValues := by
  obtain ⟨e1, e2, e3, e4⟩ := hsp
  have hcs : (nI s).toNatClampNeg = s := nI_clamp (by omega)
  have his : vp_in (nI s) 8 := vp_in_nI hs (by omega)
  have he : 32 * nI s + b_length (nI s).toNatClampNeg = nI (32 * s + (E - F)) := by rw [hcs, hlen, ba_32]
  intro d
  induction d with
  | zero =>
    intro j b_times0 b_values0 hj h1 h2 h3
    have e : j = E - F := by omega
    subst e
    refine ⟨his, br_t (by rw [he]; exact Int32.le_refl _) ⟨his, nm_r (e' := x2 + nI (F' - F)) ?_ ⟨his, nm_r (e' := upd b_length s (nI (E - F'))) ?_ (nm_r (nI_1 s) (H _ _ (fun i hi => h2 i (by omega)) h3))⟩⟩⟩
    · rw [hcs, hlen, pk_sub (by omega)]
      exact congrArg (fun z => x2 + nI z) (by omega)
    · rw [hcs, show E - F - (F' - F) = E - F' from by omega]
  | succ d ih =>
    intro j b_times0 b_values0 hj h1 h2 h3
    have hck : (nI (32 * s + j)).toNatClampNeg = 32 * s + j := nI_clamp (by omega)
    have hik : vp_in (nI (32 * s + j)) 256 := vp_in_nI (by omega) (by omega)
    obtain ⟨t1, t2⟩ := h1 j (Nat.le_refl _) (by omega)
    have hlt : b_times0 (nI (32 * s + j)).toNatClampNeg < t ↔ j < F' - F := by
      rw [hck, t1, ba_lt]
      constructor
      · intro z
        rcases Nat.lt_or_ge j (F' - F) with y | y
        · exact y
        · have := e4 (F + j) (by omega) (by omega)
          omega
      · intro z
        exact e3 (F + j) (by omega) (by omega)
    refine ⟨his, br_f (by rw [he]; exact nI_ge (by omega) (by omega)) ⟨hik, br_c (fun z => nm_r (nI_1 _) ?_) (fun z => ?_)⟩⟩
    · rw [hlt] at z
      have := ih (j + 1) b_times0 b_values0 (by omega) (fun i hi1 hi2 => h1 i (by omega) hi2) (fun i hi => by omega) h3
      rw [show j + 1 - (F' - F) = j - (F' - F) from by omega] at this
      exact this
    · rw [hlt] at z
      have ew : 32 * nI s + nI (j - (F' - F)) = nI (32 * s + (j - (F' - F))) := ba_32 _ _
      have hcw : (32 * nI s + nI (j - (F' - F))).toNatClampNeg = 32 * s + (j - (F' - F)) := by rw [ew]; exact nI_clamp (by omega)
      have hiw : vp_in (32 * nI s + nI (j - (F' - F))) 256 := by rw [ew]; exact vp_in_nI (by omega) (by omega)
      have eF : F + j = F' + (j - (F' - F)) := by omega
      have nx := ih (j + 1) (upd b_times0 (32 * s + (j - (F' - F))) (T (F + j))) (upd b_values0 (32 * s + (j - (F' - F))) (V (F + j))) (by omega) (fun i hi1 hi2 => by rw [pk_un (by omega), pk_un (by omega)]; exact h1 i (by omega) hi2) (fun i hi => by
        by_cases e : i = j - (F' - F)
        · subst e; rw [pk_us, pk_us, eF]; exact ⟨rfl, rfl⟩
        · rw [pk_un (by omega), pk_un (by omega)]; exact h2 i (by omega)) (fun q hq => by rw [pk_un (by omega), pk_un (by omega)]; exact h3 q hq)
      rw [show j + 1 - (F' - F) = j - (F' - F) + 1 from by omega] at nx
      exact ⟨hik, hiw, nm_r (e' := upd b_times0 (32 * s + (j - (F' - F))) (T (F + j))) (by rw [hcw, hck, t1]) ⟨hik, hiw, nm_r (e' := upd b_values0 (32 * s + (j - (F' - F))) (V (F + j))) (by rw [hcw, hck, t2]) (nm_r (nI_1 _) (nm_r (nI_1 _) nx))⟩⟩
theorem yy_expire {post : Int32 → SY → Prop} {cn sn : Nat} {lb F E SF SE : Nat → Nat} {LT SLT : Nat → Int32} {T V : Nat → Nat → Int32} {F' : Nat → Nat} {t : Int32} (I : yi_ok cn sn lb F E SF SE LT SLT T V g_n g_safeN b_labels b_length b_latest b_times b_values b_safeLabels b_safeLength b_safeLatest b_safeTimes b_safeValues) (hn : nu_ok cn lb F E T V) (hsp : ∀ s, s < cn → ex_sp (T s) (F s) (E s) t (F' s))
    (H : ∀ (b_length1 b_times1 b_values1 : Nat → Int32), yi_ok cn sn lb F' E SF SE LT SLT T V g_n g_safeN b_labels b_length1 b_latest b_times1 b_values1 b_safeLabels b_safeLength b_safeLatest b_safeTimes b_safeValues → post (nI (sx_sum (fun j => F' j - F j) cn)) (g_n, g_safeN, b_labels, b_length1, b_latest, b_times1, b_values1, b_safeLabels, b_safeLength, b_safeLatest, b_safeTimes, b_safeValues)) : wpY_expire post (g_n, g_safeN, b_labels, b_length, b_latest, b_times, b_values, b_safeLabels, b_safeLength, b_safeLatest, b_safeTimes, b_safeValues) t := by
  obtain ⟨i1, i2, i3, i4⟩ := I
  have hcn := hn.1
  have loop : ∀ (d s : Nat) (b_length0 b_times0 b_values0 : Nat → Int32), s + d = cn → (∀ s', s ≤ s' → s' < cn → b_length0 s' = nI (E s' - F s') ∧ ∀ j, j < E s' - F s' → b_times0 (32 * s' + j) = T s' (F s' + j) ∧ b_values0 (32 * s' + j) = V s' (F s' + j)) → (∀ s', s' < s → b_length0 s' = nI (E s' - F' s') ∧ ∀ j, j < E s' - F' s' → b_times0 (32 * s' + j) = T s' (F' s' + j) ∧ b_values0 (32 * s' + j) = V s' (F' s' + j)) →
      wY_expire_4 post t g_n g_safeN (d + 1) (nI (sx_sum (fun j => F' j - F j) s)) (nI s) b_labels b_length0 b_latest b_times0 b_values0 b_safeLabels b_safeLength b_safeLatest b_safeTimes b_safeValues := by
    intro d
    induction d with
    | zero =>
      intro s b_length0 b_times0 b_values0 hs h1 h2
      have e : s = cn := by omega
      subst e
      refine br_t (by rw [i1]; exact Int32.le_refl _) (H _ _ _ ⟨i1, i2, fun s hs => ?_, i4⟩)
      obtain ⟨j1, _, j3, _⟩ := i3 s hs
      exact ⟨j1, (h2 s hs).1, j3, (h2 s hs).2⟩
    | succ d ih =>
      intro s b_length0 b_times0 b_values0 hs h1 h2
      have hsc : s < cn := by omega
      obtain ⟨k1, k2⟩ := h1 s (Nat.le_refl _) hsc
      have hns := hn.2 s hsc
      refine br_f (by rw [i1]; exact nI_ge hsc (by omega)) (nm_r (e' := nI (32 * s + 0)) (by rw [show (32 : Int32) = nI 32 from rfl, pk_mul]; rfl) ⟨E s - F s + 1, ?_⟩)
      have key := wy_exp21 (g_n := g_n) (g_safeN := g_safeN) (b_labels := b_labels) (b_latest := b_latest) (b_safeLabels := b_safeLabels) (b_safeLength := b_safeLength) (b_safeLatest := b_safeLatest) (b_safeTimes := b_safeTimes) (b_safeValues := b_safeValues) (post := post) (J := wY_expire_4 post t g_n g_safeN (d + 1)) (b_length := b_length0) (b_times := b_times0) (b_values := b_values0) (T := T s) (V := V s) (x2 := nI (sx_sum (fun j => F' j - F j) s)) (by omega) k1 hns.2.1 (hsp s hsc) (fun b_times1 b_values1 g1 g2 => by
        have nx := ih (s + 1) (upd b_length0 s (nI (E s - F' s))) b_times1 b_values1 (by omega) (fun s' hs1 hs2 => by
          have hs32 := hn.2 s' hs2
          rw [pk_un (by omega)]
          refine ⟨(h1 s' (by omega) hs2).1, fun j hj => ?_⟩
          rw [(g2 (32 * s' + j) (by omega)).1, (g2 (32 * s' + j) (by omega)).2]
          exact (h1 s' (by omega) hs2).2 j hj) (fun s' hs1 => by
          by_cases e : s' = s
          · subst e; rw [pk_us]; exact ⟨rfl, g1⟩
          · have hs32 := hn.2 s' (by omega)
            have hsp' := hsp s' (by omega)
            rw [pk_un e]
            refine ⟨(h2 s' (by omega)).1, fun j hj => ?_⟩
            have := hsp'.1
            rw [(g2 (32 * s' + j) (by omega)).1, (g2 (32 * s' + j) (by omega)).2]
            exact (h2 s' (by omega)).2 j hj)
        rw [nI_add]
        exact nx) (E s - F s) 0 b_times0 b_values0 (by omega) (fun i _ hi => k2 i hi) (fun i hi => by omega) (fun _ _ => ⟨rfl, rfl⟩)
      rw [Nat.zero_sub] at key
      exact key
  exact ⟨cn + 1, loop cn 0 b_length b_times b_values (by omega) (fun s' _ hs' => ⟨(i3 s' hs').2.1, (i3 s' hs').2.2.2⟩) (fun s' h => by omega)⟩
/-! sync -/
theorem yy_sync {post : SY → Prop} {cn sn : Nat} {lb F E SF SE : Nat → Nat} {LT SLT : Nat → Int32} {T V : Nat → Nat → Int32} (I : yi_ok cn sn lb F E SF SE LT SLT T V g_n g_safeN b_labels b_length b_latest b_times b_values b_safeLabels b_safeLength b_safeLatest b_safeTimes b_safeValues) (hn : nu_ok cn lb F E T V) (H : ∀ (b_safeLabels1 b_safeLength1 b_safeLatest1 b_safeTimes1 b_safeValues1 : Nat → Int32), yi_ok cn cn lb F E F E LT LT T V g_n (nI cn) b_labels b_length b_latest b_times b_values b_safeLabels1 b_safeLength1 b_safeLatest1 b_safeTimes1 b_safeValues1 → post (g_n, nI cn, b_labels, b_length, b_latest, b_times, b_values, b_safeLabels1, b_safeLength1, b_safeLatest1, b_safeTimes1, b_safeValues1)) : wpY_sync post (g_n, g_safeN, b_labels, b_length, b_latest, b_times, b_values, b_safeLabels, b_safeLength, b_safeLatest, b_safeTimes, b_safeValues) := by
  obtain ⟨i1, i2, i3, i4⟩ := I
  have hcn := hn.1
  have loop2 : ∀ (b_safeLabels0 b_safeLength0 b_safeLatest0 : Nat → Int32), (∀ i, i < 8 → b_safeLabels0 i = b_labels i ∧ b_safeLength0 i = b_length i ∧ b_safeLatest0 i = b_latest i) → ∀ (d k : Nat) (b_safeTimes0 b_safeValues0 : Nat → Int32), k + d = 256 → (∀ i, i < k → b_safeTimes0 i = b_times i ∧ b_safeValues0 i = b_values i) → wY_sync_60 post g_n g_n (d + 1) (nI k) b_labels b_length b_latest b_times b_values b_safeLabels0 b_safeLength0 b_safeLatest0 b_safeTimes0 b_safeValues0 := by
    intro b_safeLabels0 b_safeLength0 b_safeLatest0 h8 d
    induction d with
    | zero =>
      intro k b_safeTimes0 b_safeValues0 hk h
      have e : k = 256 := by omega
      subst e
      refine br_t (by decide) ?_
      have := H b_safeLabels0 b_safeLength0 b_safeLatest0 b_safeTimes0 b_safeValues0 ⟨i1, rfl, i3, fun s hs => ?_⟩
      · rw [← i1] at this; exact this
      · obtain ⟨j1, j2, j3, j4⟩ := i3 s hs
        have hns := hn.2 s hs
        obtain ⟨q1, q2, q3⟩ := h8 s (by omega)
        rw [q1, q2, q3]
        refine ⟨j1, j2, j3, fun j hj => ?_⟩
        rw [(h (32 * s + j) (by omega)).1, (h (32 * s + j) (by omega)).2]
        exact j4 j hj
    | succ d ih =>
      intro k b_safeTimes0 b_safeValues0 hk h
      have hck : (nI k).toNatClampNeg = k := nI_clamp (by omega)
      have hik : vp_in (nI k) 256 := vp_in_nI (by omega) (by omega)
      exact br_f (nI_ge (b := 256) (by omega) (by omega)) ⟨hik, hik, nm_r (e' := upd b_safeTimes0 k (b_times k)) (by rw [hck]) ⟨hik, hik, nm_r (e' := upd b_safeValues0 k (b_values k)) (by rw [hck]) (nm_r (nI_1 k) (ih (k + 1) _ _ (by omega) (fun i hi => by
        by_cases e : i = k
        · subst e; rw [pk_us, pk_us]; exact ⟨rfl, rfl⟩
        · rw [pk_un e, pk_un e]; exact h i (by omega))))⟩⟩
  have loop1 : ∀ (d k : Nat) (b_safeLabels0 b_safeLength0 b_safeLatest0 : Nat → Int32), k + d = 8 → (∀ i, i < k → b_safeLabels0 i = b_labels i ∧ b_safeLength0 i = b_length i ∧ b_safeLatest0 i = b_latest i) → wY_sync_10 post g_n g_n (d + 1) (nI k) b_labels b_length b_latest b_times b_values b_safeLabels0 b_safeLength0 b_safeLatest0 b_safeTimes b_safeValues := by
    intro d
    induction d with
    | zero =>
      intro k b_safeLabels0 b_safeLength0 b_safeLatest0 hk h
      have e : k = 8 := by omega
      subst e
      exact br_t (by decide) ⟨257, loop2 _ _ _ h 256 0 b_safeTimes b_safeValues (by omega) (fun i hi => by omega)⟩
    | succ d ih =>
      intro k b_safeLabels0 b_safeLength0 b_safeLatest0 hk h
      have hck : (nI k).toNatClampNeg = k := nI_clamp (by omega)
      have hik : vp_in (nI k) 8 := vp_in_nI (by omega) (by omega)
      exact br_f (nI_ge (b := 8) (by omega) (by omega)) ⟨hik, hik, nm_r (e' := upd b_safeLabels0 k (b_labels k)) (by rw [hck]) ⟨hik, hik, nm_r (e' := upd b_safeLength0 k (b_length k)) (by rw [hck]) ⟨hik, hik, nm_r (e' := upd b_safeLatest0 k (b_latest k)) (by rw [hck]) (nm_r (nI_1 k) (ih (k + 1) _ _ _ (by omega) (fun i hi => by
        by_cases e : i = k
        · subst e; rw [pk_us, pk_us, pk_us]; exact ⟨rfl, rfl, rfl⟩
        · rw [pk_un e, pk_un e, pk_un e]; exact h i (by omega))))⟩⟩⟩
  exact ⟨9, loop1 8 0 b_safeLabels b_safeLength b_safeLatest (by omega) (fun i hi => by omega)⟩
theorem yy_samples {post : Int32 → Prop} {n : Nat} {len : Nat → Nat} (hn8 : n ≤ 8) (h1 : g_n = nI n) (h2 : ∀ s, s < n → b_length s = nI (len s)) (H : post (nI (sx_sum len n))) : wpY_samples post (g_n, g_safeN, b_labels, b_length, b_latest, b_times, b_values, b_safeLabels, b_safeLength, b_safeLatest, b_safeTimes, b_safeValues) := by
  have loop : ∀ d s : Nat, s + d = n → wY_samples_4 post g_n g_safeN b_labels b_length b_latest b_times b_values b_safeLabels b_safeLength b_safeLatest b_safeTimes b_safeValues (d + 1) (nI (sx_sum len s)) (nI s) := by
    intro d
    induction d with
    | zero =>
      intro s hs
      have e : s = n := by omega
      subst e
      exact br_t (by rw [h1]; exact Int32.le_refl _) H
    | succ d ih =>
      intro s hs
      have hcs : (nI s).toNatClampNeg = s := nI_clamp (by omega)
      exact br_f (by rw [h1]; exact nI_ge (by omega) (by omega)) ⟨vp_in_nI (by omega) (by omega), nm_r (e' := nI (sx_sum len (s + 1))) (by rw [hcs, h2 s (by omega), nI_add]; rfl) (nm_r (nI_1 s) (ih (s + 1) (by omega)))⟩
  exact ⟨n + 1, loop n 0 (by omega)⟩
theorem yy_crash {post : Int32 → SY → Prop} {cn sn : Nat} {lb F E SF SE : Nat → Nat} {LT SLT : Nat → Int32} {T V : Nat → Nat → Int32} (I : yi_ok cn sn lb F E SF SE LT SLT T V g_n g_safeN b_labels b_length b_latest b_times b_values b_safeLabels b_safeLength b_safeLatest b_safeTimes b_safeValues) (hn : nu_ok cn lb F E T V) (hv : nv_ok cn sn E SF SE) (H : ∀ (b_labels1 b_length1 b_latest1 b_times1 b_values1 : Nat → Int32), yi_ok sn sn lb SF SE SF SE SLT SLT T V (nI sn) g_safeN b_labels1 b_length1 b_latest1 b_times1 b_values1 b_safeLabels b_safeLength b_safeLatest b_safeTimes b_safeValues → post (nI (sx_sum (fun j => E j - F j) cn) - nI (sx_sum (fun j => SE j - SF j) sn)) (nI sn, g_safeN, b_labels1, b_length1, b_latest1, b_times1, b_values1, b_safeLabels, b_safeLength, b_safeLatest, b_safeTimes, b_safeValues)) : wpY_crash post (g_n, g_safeN, b_labels, b_length, b_latest, b_times, b_values, b_safeLabels, b_safeLength, b_safeLatest, b_safeTimes, b_safeValues) := by
  obtain ⟨i1, i2, i3, i4⟩ := I
  have hcn := hn.1
  have hsn := hv.1
  have loop2 : ∀ (b_labels0 b_length0 b_latest0 : Nat → Int32), (∀ i, i < 8 → b_labels0 i = b_safeLabels i ∧ b_length0 i = b_safeLength i ∧ b_latest0 i = b_safeLatest i) → ∀ (d k : Nat) (b_times0 b_values0 : Nat → Int32), k + d = 256 → (∀ i, i < k → b_times0 i = b_safeTimes i ∧ b_values0 i = b_safeValues i) → wY_crash_65 post (nI (sx_sum (fun j => E j - F j) cn)) g_safeN g_safeN (d + 1) (nI k) b_labels0 b_length0 b_latest0 b_times0 b_values0 b_safeLabels b_safeLength b_safeLatest b_safeTimes b_safeValues := by
    intro b_labels0 b_length0 b_latest0 h8 d
    induction d with
    | zero =>
      intro k b_times0 b_values0 hk h
      have e : k = 256 := by omega
      subst e
      have hl : ∀ s, s < sn → b_length0 s = nI (SE s - SF s) := fun s hs => by rw [(h8 s (by omega)).2.1]; exact (i4 s hs).2.1
      refine br_t (by decide) (yy_samples (n := sn) (len := fun j => SE j - SF j) (by omega) i2 hl ?_)
      have := H b_labels0 b_length0 b_latest0 b_times0 b_values0 ⟨rfl, i2, fun s hs => ?_, i4⟩
      · rw [← i2] at this; exact this
      · obtain ⟨j1, j2, j3, j4⟩ := i4 s hs
        have hns := hv.2 s hs
        obtain ⟨q1, q2, q3⟩ := h8 s (by omega)
        rw [q1, q2, q3]
        refine ⟨j1, j2, j3, fun j hj => ?_⟩
        rw [(h (32 * s + j) (by omega)).1, (h (32 * s + j) (by omega)).2]
        exact j4 j hj
    | succ d ih =>
      intro k b_times0 b_values0 hk h
      have hck : (nI k).toNatClampNeg = k := nI_clamp (by omega)
      have hik : vp_in (nI k) 256 := vp_in_nI (by omega) (by omega)
      exact br_f (nI_ge (b := 256) (by omega) (by omega)) ⟨hik, hik, nm_r (e' := upd b_times0 k (b_safeTimes k)) (by rw [hck]) ⟨hik, hik, nm_r (e' := upd b_values0 k (b_safeValues k)) (by rw [hck]) (nm_r (nI_1 k) (ih (k + 1) _ _ (by omega) (fun i hi => by
        by_cases e : i = k
        · subst e; rw [pk_us, pk_us]; exact ⟨rfl, rfl⟩
        · rw [pk_un e, pk_un e]; exact h i (by omega))))⟩⟩
  have loop1 : ∀ (d k : Nat) (b_labels0 b_length0 b_latest0 : Nat → Int32), k + d = 8 → (∀ i, i < k → b_labels0 i = b_safeLabels i ∧ b_length0 i = b_safeLength i ∧ b_latest0 i = b_safeLatest i) → wY_crash_15 post (nI (sx_sum (fun j => E j - F j) cn)) g_safeN g_safeN (d + 1) (nI k) b_labels0 b_length0 b_latest0 b_times b_values b_safeLabels b_safeLength b_safeLatest b_safeTimes b_safeValues := by
    intro d
    induction d with
    | zero =>
      intro k b_labels0 b_length0 b_latest0 hk h
      have e : k = 8 := by omega
      subst e
      exact br_t (by decide) ⟨257, loop2 _ _ _ h 256 0 b_times b_values (by omega) (fun i hi => by omega)⟩
    | succ d ih =>
      intro k b_labels0 b_length0 b_latest0 hk h
      have hck : (nI k).toNatClampNeg = k := nI_clamp (by omega)
      have hik : vp_in (nI k) 8 := vp_in_nI (by omega) (by omega)
      exact br_f (nI_ge (b := 8) (by omega) (by omega)) ⟨hik, hik, nm_r (e' := upd b_labels0 k (b_safeLabels k)) (by rw [hck]) ⟨hik, hik, nm_r (e' := upd b_length0 k (b_safeLength k)) (by rw [hck]) ⟨hik, hik, nm_r (e' := upd b_latest0 k (b_safeLatest k)) (by rw [hck]) (nm_r (nI_1 k) (ih (k + 1) _ _ _ (by omega) (fun i hi => by
        by_cases e : i = k
        · subst e; rw [pk_us, pk_us, pk_us]; exact ⟨rfl, rfl, rfl⟩
        · rw [pk_un e, pk_un e, pk_un e]; exact h i (by omega))))⟩⟩⟩
  unfold wpY_crash
  refine yy_samples (n := cn) (len := fun j => E j - F j) hcn i1 (fun s hs => (i3 s hs).2.1) ?_
  exact ⟨9, loop1 8 0 b_labels b_length b_latest (by omega) (fun i hi => by omega)⟩
end
end
section
/-! what is owed -/
theorem re_nu {f_seriesCount f_safeCount f_arenaEnd : Int32} {a_labelsOf a_first a_end a_safeFirst a_safeEnd a_lastTime a_safeLast a_having a_blockCount a_startBit a_bitCount a_sampleCount a_firstNumber a_fromTime a_toTime a_fromValue a_toValue a_total a_smallest a_greatest a_grown a_bits a_lastStep : Nat → Int32} {cn sn : Nat} {lb F E SF SE : Nat → Nat} {LT SLT : Nat → Int32} {T V : Nat → Nat → Int32} {L : Nat → List bk_T} {P : Nat → Nat → Nat} {ae : Nat} (I : xi_ok cn sn lb F E SF SE LT SLT T V L P ae f_seriesCount f_safeCount f_arenaEnd a_labelsOf a_first a_end a_safeFirst a_safeEnd a_lastTime a_safeLast a_having a_blockCount a_startBit a_bitCount a_sampleCount a_firstNumber a_fromTime a_toTime a_fromValue a_toValue a_total a_smallest a_greatest a_grown a_bits a_lastStep) : nu_ok cn lb F E T V ∧ nv_ok cn sn E SF SE := by
  obtain ⟨h1, h2, h3, h4, hci, h6, h7, h8, h9, h10⟩ := I
  obtain ⟨hcn, _, _, hse, _⟩ := hci
  refine ⟨⟨hcn, fun s hs => ?_⟩, h4, fun s hs => ?_⟩
  · obtain ⟨⟨p1, p2, _⟩, _⟩ := h8 s hs
    exact ⟨p1, p2, (h9 s hs).2, (hse s hs).1⟩
  · obtain ⟨k1, k2, k3, _⟩ := (h8 s (by omega)).1.2.2.2.2.2.2 (decide_eq_true hs)
    exact ⟨k1, k2, k3⟩
section
variable {f_seriesCount f_safeCount f_arenaEnd f_position f_foundCount f_foundSum f_foundLeast f_foundMost f_foundGrowth f_before f_hasBefore f_levelNow : Int32} {a_labelsOf a_first a_end a_safeFirst a_safeEnd a_lastTime a_safeLast a_having a_blockCount a_startBit a_bitCount a_sampleCount a_firstNumber a_fromTime a_toTime a_fromValue a_toValue a_total a_smallest a_greatest a_grown a_bits a_lastStep a_times a_values : Nat → Int32}
variable {g_n g_safeN : Int32} {b_labels b_length b_latest b_times b_values b_safeLabels b_safeLength b_safeLatest b_safeTimes b_safeValues : Nat → Int32}
theorem re_in {k : Nat} {cn sn : Nat} {lb F E SF SE : Nat → Nat} {LT SLT : Nat → Int32} {T V : Nat → Nat → Int32} {L : Nat → List bk_T} {P : Nat → Nat → Nat} {ae : Nat} (hX : xi_ok cn sn lb F E SF SE LT SLT T V L P ae f_seriesCount f_safeCount f_arenaEnd a_labelsOf a_first a_end a_safeFirst a_safeEnd a_lastTime a_safeLast a_having a_blockCount a_startBit a_bitCount a_sampleCount a_firstNumber a_fromTime a_toTime a_fromValue a_toValue a_total a_smallest a_greatest a_grown a_bits a_lastStep) (hY : yi_ok cn sn lb F E SF SE LT SLT T V g_n g_safeN b_labels b_length b_latest b_times b_values b_safeLabels b_safeLength b_safeLatest b_safeTimes b_safeValues) : i_Rel k (f_seriesCount, f_safeCount, f_arenaEnd, f_position, f_foundCount, f_foundSum, f_foundLeast, f_foundMost, f_foundGrowth, f_before, f_hasBefore, f_levelNow, a_labelsOf, a_first, a_end, a_safeFirst, a_safeEnd, a_lastTime, a_safeLast, a_having, a_blockCount, a_startBit, a_bitCount, a_sampleCount, a_firstNumber, a_fromTime, a_toTime, a_fromValue, a_toValue, a_total, a_smallest, a_greatest, a_grown, a_bits, a_lastStep, a_times, a_values) (g_n, g_safeN, b_labels, b_length, b_latest, b_times, b_values, b_safeLabels, b_safeLength, b_safeLatest, b_safeTimes, b_safeValues) := ⟨cn, sn, lb, F, E, SF, SE, LT, SLT, T, V, L, P, ae, hX, hY⟩
theorem wx_app_bad {post : Int32 → SX → Prop} {v1 v2 v3 : Int32} (h : v1 < 0 ∨ f_seriesCount ≤ v1 ∨ v2 < 0 ∨ 999 < v2 ∨ v3 < -1000 ∨ ¬ v3 ≤ 1000) (hp : post (-10000) (f_seriesCount, f_safeCount, f_arenaEnd, f_position, f_foundCount, f_foundSum, f_foundLeast, f_foundMost, f_foundGrowth, f_before, f_hasBefore, f_levelNow, a_labelsOf, a_first, a_end, a_safeFirst, a_safeEnd, a_lastTime, a_safeLast, a_having, a_blockCount, a_startBit, a_bitCount, a_sampleCount, a_firstNumber, a_fromTime, a_toTime, a_fromValue, a_toValue, a_total, a_smallest, a_greatest, a_grown, a_bits, a_lastStep, a_times, a_values)) : wpX_append post (f_seriesCount, f_safeCount, f_arenaEnd, f_position, f_foundCount, f_foundSum, f_foundLeast, f_foundMost, f_foundGrowth, f_before, f_hasBefore, f_levelNow, a_labelsOf, a_first, a_end, a_safeFirst, a_safeEnd, a_lastTime, a_safeLast, a_having, a_blockCount, a_startBit, a_bitCount, a_sampleCount, a_firstNumber, a_fromTime, a_toTime, a_fromValue, a_toValue, a_total, a_smallest, a_greatest, a_grown, a_bits, a_lastStep, a_times, a_values) v1 v2 v3 :=
  br_c (fun _ => br_t rfl hp) (fun z1 => br_c (fun _ => br_t rfl hp) (fun z2 => br_f (by decide) (br_c (fun _ => hp) (fun z3 => br_c (fun _ => hp) (fun z4 => br_c (fun _ => hp) (fun z5 => br_f (by
    rcases h with h | h | h | h | h | h
    · exact absurd h z1
    · exact absurd h z2
    · exact absurd h z3
    · exact absurd h z4
    · exact absurd h z5
    · exact h) hp))))))
theorem wy_app_bad {post : Int32 → SY → Prop} {v1 v2 v3 : Int32} (h : v1 < 0 ∨ g_n ≤ v1 ∨ v2 < 0 ∨ 999 < v2 ∨ v3 < -1000 ∨ ¬ v3 ≤ 1000) (hp : post (-10000) (g_n, g_safeN, b_labels, b_length, b_latest, b_times, b_values, b_safeLabels, b_safeLength, b_safeLatest, b_safeTimes, b_safeValues)) : wpY_append post (g_n, g_safeN, b_labels, b_length, b_latest, b_times, b_values, b_safeLabels, b_safeLength, b_safeLatest, b_safeTimes, b_safeValues) v1 v2 v3 :=
  br_c (fun _ => br_t rfl hp) (fun z1 => br_c (fun _ => br_t rfl hp) (fun z2 => br_f (by decide) (br_c (fun _ => hp) (fun z3 => br_c (fun _ => hp) (fun z4 => br_c (fun _ => hp) (fun z5 => br_f (by
    rcases h with h | h | h | h | h | h
    · exact absurd h z1
    · exact absurd h z2
    · exact absurd h z3
    · exact absurd h z4
    · exact absurd h z5
    · exact h) hp))))))
theorem wx_at_bad {post : Int32 → SX → Prop} {v1 v2 : Int32} (h : v1 < 0 ∨ f_seriesCount ≤ v1 ∨ v2 < 0 ∨ ¬ v2 ≤ 999) (hp : post (-10000) (f_seriesCount, f_safeCount, f_arenaEnd, f_position, f_foundCount, f_foundSum, f_foundLeast, f_foundMost, f_foundGrowth, f_before, f_hasBefore, f_levelNow, a_labelsOf, a_first, a_end, a_safeFirst, a_safeEnd, a_lastTime, a_safeLast, a_having, a_blockCount, a_startBit, a_bitCount, a_sampleCount, a_firstNumber, a_fromTime, a_toTime, a_fromValue, a_toValue, a_total, a_smallest, a_greatest, a_grown, a_bits, a_lastStep, a_times, a_values)) : wpX_at post (f_seriesCount, f_safeCount, f_arenaEnd, f_position, f_foundCount, f_foundSum, f_foundLeast, f_foundMost, f_foundGrowth, f_before, f_hasBefore, f_levelNow, a_labelsOf, a_first, a_end, a_safeFirst, a_safeEnd, a_lastTime, a_safeLast, a_having, a_blockCount, a_startBit, a_bitCount, a_sampleCount, a_firstNumber, a_fromTime, a_toTime, a_fromValue, a_toValue, a_total, a_smallest, a_greatest, a_grown, a_bits, a_lastStep, a_times, a_values) v1 v2 :=
  br_c (fun _ => br_t rfl hp) (fun z1 => br_c (fun _ => br_t rfl hp) (fun z2 => br_f (by decide) (br_c (fun _ => hp) (fun z3 => br_f (by
    rcases h with h | h | h | h
    · exact absurd h z1
    · exact absurd h z2
    · exact absurd h z3
    · exact h) hp))))
theorem wy_at_bad {post : Int32 → Prop} {v1 v2 : Int32} (h : v1 < 0 ∨ g_n ≤ v1 ∨ v2 < 0 ∨ ¬ v2 ≤ 999) (hp : post (-10000)) : wpY_at post (g_n, g_safeN, b_labels, b_length, b_latest, b_times, b_values, b_safeLabels, b_safeLength, b_safeLatest, b_safeTimes, b_safeValues) v1 v2 :=
  br_c (fun _ => br_t rfl hp) (fun z1 => br_c (fun _ => br_t rfl hp) (fun z2 => br_f (by decide) (br_c (fun _ => hp) (fun z3 => br_f (by
    rcases h with h | h | h | h
    · exact absurd h z1
    · exact absurd h z2
    · exact absurd h z3
    · exact h) hp))))
end
/-- an int is no series, or the number of one -/
theorem re_ser {v1 : Int32} {cn : Nat} (hcn : cn ≤ 8) : (v1 < 0 ∨ nI cn ≤ v1) ∨ ∃ s, s < cn ∧ v1 = nI s := by
  rcases pk_ix v1 (n := cn) (by omega) with z | z | z
  · exact Or.inl (Or.inl z)
  · exact Or.inl (Or.inr z)
  · exact Or.inr z
theorem re_mat (v1 : Int32) : (v1 < 0 ∨ 728 < v1) ∨ ∃ m, m ≤ 728 ∧ v1 = nI m := by
  rcases pk_ix v1 (n := 729) (by omega) with z | z | ⟨j, j1, j2⟩
  · exact Or.inl (Or.inl z)
  · refine Or.inl (Or.inr ?_)
    rw [ba_le, nI_toInt (by omega)] at z
    rw [ba_lt, show (728 : Int32).toInt = 728 from by decide]; omega
  · exact Or.inr ⟨j, by omega, j2⟩
theorem i_vc0 : wpX_init (fun u => wpY_init (fun v => i_Rel 0 u v)) :=
  ⟨0, 0, fun _ => 0, fun _ => 0, fun _ => 0, fun _ => 0, fun _ => 0, fun _ => 0, fun _ => 0, fun _ _ => 0, fun _ _ => 0, fun _ => [], fun _ _ => 0, 0,
    ⟨rfl, rfl, rfl, Nat.le_refl _, ⟨Nat.zero_le _, Nat.zero_le _, fun s hs => absurd hs (Nat.not_lt_zero _), fun s hs => absurd hs (Nat.not_lt_zero _), fun s hs => absurd hs (Nat.not_lt_zero _), fun s hs => absurd hs (Nat.not_lt_zero _)⟩,
      fun s hs => absurd hs (Nat.not_lt_zero _), fun s hs => absurd hs (Nat.not_lt_zero _), fun s hs => absurd hs (Nat.not_lt_zero _), fun s hs => absurd hs (Nat.not_lt_zero _), fun i _ s _ => by rw [b_0, decide_eq_false (Nat.not_lt_zero _), Bool.false_and]⟩,
    ⟨rfl, rfl, fun s hs => absurd hs (Nat.not_lt_zero _), fun s hs => absurd hs (Nat.not_lt_zero _)⟩⟩
theorem i_vc_series {k : Nat} {u : SX} {v : SY} (I : i_Rel k u v) (hk : k + 5 ≤ 2560) (v1 : Int32) : wpX_series (fun r u' => wpY_series (fun r' v' => r' = r ∧ i_Rel (k + 5) u' v') v v1) u v1 := by
  refine re_el (Q := fun u v => wpX_series (fun r u' => wpY_series (fun r' v' => r' = r ∧ i_Rel (k + 5) u' v') v v1) u v1) I ?_
  intro f_seriesCount f_safeCount f_arenaEnd f_position f_foundCount f_foundSum f_foundLeast f_foundMost f_foundGrowth f_before f_hasBefore f_levelNow a_labelsOf a_first a_end a_safeFirst a_safeEnd a_lastTime a_safeLast a_having a_blockCount a_startBit a_bitCount a_sampleCount a_firstNumber a_fromTime a_toTime a_fromValue a_toValue a_total a_smallest a_greatest a_grown a_bits a_lastStep a_times a_values g_n g_safeN b_labels b_length b_latest b_times b_values b_safeLabels b_safeLength b_safeLatest b_safeTimes b_safeValues cn sn lb F E SF SE LT SLT T V L P ae hX hY
  obtain ⟨hn, hv⟩ := re_nu hX
  have IR : i_Rel (k + 5) (f_seriesCount, f_safeCount, f_arenaEnd, f_position, f_foundCount, f_foundSum, f_foundLeast, f_foundMost, f_foundGrowth, f_before, f_hasBefore, f_levelNow, a_labelsOf, a_first, a_end, a_safeFirst, a_safeEnd, a_lastTime, a_safeLast, a_having, a_blockCount, a_startBit, a_bitCount, a_sampleCount, a_firstNumber, a_fromTime, a_toTime, a_fromValue, a_toValue, a_total, a_smallest, a_greatest, a_grown, a_bits, a_lastStep, a_times, a_values) (g_n, g_safeN, b_labels, b_length, b_latest, b_times, b_values, b_safeLabels, b_safeLength, b_safeLatest, b_safeTimes, b_safeValues) := re_in hX hY
  by_cases h0 : v1 < 0
  · exact br_t h0 (br_t h0 ⟨rfl, IR⟩)
  · by_cases h1 : v1 ≤ 63
    · obtain ⟨l, hl, rfl⟩ := nI_of2 (M := 63) (n := 63) (by decide) h0 h1
      by_cases hex : ∃ s, s < cn ∧ lb s = l
      · exact xx_there f_seriesCount f_safeCount f_arenaEnd f_position f_foundCount f_foundSum f_foundLeast f_foundMost f_foundGrowth f_before f_hasBefore f_levelNow a_labelsOf a_first a_end a_safeFirst a_safeEnd a_lastTime a_safeLast a_having a_blockCount a_startBit a_bitCount a_sampleCount a_firstNumber a_fromTime a_toTime a_fromValue a_toValue a_total a_smallest a_greatest a_grown a_bits a_lastStep a_times a_values hX (by omega) hex (yy_there hY hn (by omega) hex ⟨rfl, IR⟩)
      · have hno : ∀ s, s < cn → lb s ≠ l := fun s hs e => hex ⟨s, hs, e⟩
        by_cases hc8 : cn = 8
        · exact xx_full f_seriesCount f_safeCount f_arenaEnd f_position f_foundCount f_foundSum f_foundLeast f_foundMost f_foundGrowth f_before f_hasBefore f_levelNow a_labelsOf a_first a_end a_safeFirst a_safeEnd a_lastTime a_safeLast a_having a_blockCount a_startBit a_bitCount a_sampleCount a_firstNumber a_fromTime a_toTime a_fromValue a_toValue a_total a_smallest a_greatest a_grown a_bits a_lastStep a_times a_values hX (by omega) hno hc8 (yy_full hY hn (by omega) hno hc8 ⟨rfl, IR⟩)
        · have := hn.1
          obtain ⟨hv1, IX, W⟩ := xx_new f_seriesCount f_safeCount f_arenaEnd f_position f_foundCount f_foundSum f_foundLeast f_foundMost f_foundGrowth f_before f_hasBefore f_levelNow a_labelsOf a_first a_end a_safeFirst a_safeEnd a_lastTime a_safeLast a_having a_blockCount a_startBit a_bitCount a_sampleCount a_firstNumber a_fromTime a_toTime a_fromValue a_toValue a_total a_smallest a_greatest a_grown a_bits a_lastStep a_times a_values hX (l := l) (by omega) hno (by omega)
          exact W _ (yy_new hY hn hv (by omega) hno (by omega) (fun _ _ _ IY => ⟨rfl, re_in IX IY⟩))
    · exact br_f h0 (br_f h1 (br_f h0 (br_f h1 ⟨rfl, IR⟩)))
theorem i_vc_append {k : Nat} {u : SX} {v : SY} (I : i_Rel k u v) (hk : k + 5 ≤ 2560) (v1 : Int32) (v2 : Int32) (v3 : Int32) : wpX_append (fun r u' => wpY_append (fun r' v' => r' = r ∧ i_Rel (k + 5) u' v') v v1 v2 v3) u v1 v2 v3 := by
  refine re_el (Q := fun u v => wpX_append (fun r u' => wpY_append (fun r' v' => r' = r ∧ i_Rel (k + 5) u' v') v v1 v2 v3) u v1 v2 v3) I ?_
  intro f_seriesCount f_safeCount f_arenaEnd f_position f_foundCount f_foundSum f_foundLeast f_foundMost f_foundGrowth f_before f_hasBefore f_levelNow a_labelsOf a_first a_end a_safeFirst a_safeEnd a_lastTime a_safeLast a_having a_blockCount a_startBit a_bitCount a_sampleCount a_firstNumber a_fromTime a_toTime a_fromValue a_toValue a_total a_smallest a_greatest a_grown a_bits a_lastStep a_times a_values g_n g_safeN b_labels b_length b_latest b_times b_values b_safeLabels b_safeLength b_safeLatest b_safeTimes b_safeValues cn sn lb F E SF SE LT SLT T V L P ae hX hY
  obtain ⟨hn, hv⟩ := re_nu hX
  have hcn := hn.1
  have IR : i_Rel (k + 5) (f_seriesCount, f_safeCount, f_arenaEnd, f_position, f_foundCount, f_foundSum, f_foundLeast, f_foundMost, f_foundGrowth, f_before, f_hasBefore, f_levelNow, a_labelsOf, a_first, a_end, a_safeFirst, a_safeEnd, a_lastTime, a_safeLast, a_having, a_blockCount, a_startBit, a_bitCount, a_sampleCount, a_firstNumber, a_fromTime, a_toTime, a_fromValue, a_toValue, a_total, a_smallest, a_greatest, a_grown, a_bits, a_lastStep, a_times, a_values) (g_n, g_safeN, b_labels, b_length, b_latest, b_times, b_values, b_safeLabels, b_safeLength, b_safeLatest, b_safeTimes, b_safeValues) := re_in hX hY
  have hx1 := hX.1
  have hy1 := hY.1
  have z999 : (999 : Int32).toInt = 999 := by decide
  have z1000 : (1000 : Int32).toInt = 1000 := by decide
  have zm1000 : (-1000 : Int32).toInt = -1000 := by decide
  have bad : (v1 < 0 ∨ nI cn ≤ v1) ∨ (v2 < 0 ∨ 999 < v2 ∨ v3 < -1000 ∨ ¬ v3 ≤ 1000) → wpX_append (fun r u' => wpY_append (fun r' v' => r' = r ∧ i_Rel (k + 5) u' v') (g_n, g_safeN, b_labels, b_length, b_latest, b_times, b_values, b_safeLabels, b_safeLength, b_safeLatest, b_safeTimes, b_safeValues) v1 v2 v3) (f_seriesCount, f_safeCount, f_arenaEnd, f_position, f_foundCount, f_foundSum, f_foundLeast, f_foundMost, f_foundGrowth, f_before, f_hasBefore, f_levelNow, a_labelsOf, a_first, a_end, a_safeFirst, a_safeEnd, a_lastTime, a_safeLast, a_having, a_blockCount, a_startBit, a_bitCount, a_sampleCount, a_firstNumber, a_fromTime, a_toTime, a_fromValue, a_toValue, a_total, a_smallest, a_greatest, a_grown, a_bits, a_lastStep, a_times, a_values) v1 v2 v3 := fun h => by
    have h' : v1 < 0 ∨ nI cn ≤ v1 ∨ v2 < 0 ∨ 999 < v2 ∨ v3 < -1000 ∨ ¬ v3 ≤ 1000 := by
      rcases h with (h | h) | h
      · exact Or.inl h
      · exact Or.inr (Or.inl h)
      · exact Or.inr (Or.inr h)
    exact wx_app_bad (by rw [hx1]; exact h') (wy_app_bad (by rw [hy1]; exact h') ⟨rfl, IR⟩)
  rcases re_ser (v1 := v1) hcn with z | ⟨s, hs, rfl⟩
  · exact bad (Or.inl z)
  · by_cases g1 : v2 < 0
    · exact bad (Or.inr (Or.inl g1))
    · by_cases g2 : 999 < v2
      · exact bad (Or.inr (Or.inr (Or.inl g2)))
      · by_cases g3 : v3 < -1000
        · exact bad (Or.inr (Or.inr (Or.inr (Or.inl g3))))
        · by_cases g4 : v3 ≤ 1000
          · have ht : 0 ≤ v2.toInt ∧ v2.toInt ≤ 999 := by
              rw [ba_lt, ba_0] at g1
              rw [ba_lt, z999] at g2
              omega
            have hvv : -1000 ≤ v3.toInt ∧ v3.toInt ≤ 1000 := by
              rw [ba_lt, zm1000] at g3
              rw [ba_le, z1000] at g4
              omega
            obtain ⟨k1, k2, k3⟩ := hX.2.2.2.2.2.1 s hs
            obtain ⟨y1, y2, y3, y4⟩ := hY.2.2.1 s hs
            obtain ⟨n1, n2, n3, hh⟩ := hn.2 s hs
            have hE := ci_hist_E hh
            have hcs : (nI s).toNatClampNeg = s := nI_clamp (by omega)
            have his : vp_in (nI s) 8 := vp_in_nI (by omega) (by omega)
            have hsx : ¬ f_seriesCount ≤ nI s := by rw [hx1]; exact nI_ge hs (by omega)
            have hsy : ¬ g_n ≤ nI s := by rw [hy1]; exact nI_ge hs (by omega)
            have hs0 : ¬ nI s < 0 := nI_pos (by omega)
            have ha1 : ¬ (1 : Int32) = 0 := by decide
            by_cases g5 : (LT s).toInt < v2.toInt
            · by_cases g6 : E s - F s < 32
              · obtain ⟨L', P', ae', f_position1, a_blockCount1, a_startBit1, a_bitCount1, a_sampleCount1, a_firstNumber1, a_fromTime1, a_toTime1, a_fromValue1, a_toValue1, a_total1, a_smallest1, a_greatest1, a_grown1, a_bits1, a_lastStep1, IX, W⟩ := xx_append f_seriesCount f_safeCount f_arenaEnd f_position f_foundCount f_foundSum f_foundLeast f_foundMost f_foundGrowth f_before f_hasBefore f_levelNow a_labelsOf a_first a_end a_safeFirst a_safeEnd a_lastTime a_safeLast a_having a_blockCount a_startBit a_bitCount a_sampleCount a_firstNumber a_fromTime a_toTime a_fromValue a_toValue a_total a_smallest a_greatest a_grown a_bits a_lastStep a_times a_values hX hs g5 ht hvv g6
                exact W _ (yy_append hY hn hv hs g5 ht hvv g6 (fun _ _ _ _ IY => ⟨rfl, re_in IX IY⟩))
              · -- FULL
                have e32 : a_end (nI s).toNatClampNeg - a_first (nI s).toNatClampNeg = nI (E s - F s) := by rw [hcs, k1, k2, pk_sub n1]
                refine br_f hs0 (br_f hsx (br_f ha1 (br_f g1 (br_f g2 (br_f g3 (br_t g4 ⟨his, br_t (by rw [hcs, k3, ba_lt]; exact g5) ⟨his, his, br_f (by rw [e32]; exact nI_nlt (b := 32) (by omega) (by omega)) ?_⟩⟩))))))
                refine br_f hs0 (br_f hsy (br_f ha1 (br_f g1 (br_f g2 (br_f g3 (br_t g4 ⟨his, br_t (by rw [hcs, y3, ba_lt]; exact g5) ⟨his, br_t ?_ ⟨rfl, IR⟩⟩⟩))))))
                rw [hcs, y2, show E s - F s = 32 from by omega]; rfl
            · -- OLD
              exact br_f hs0 (br_f hsx (br_f ha1 (br_f g1 (br_f g2 (br_f g3 (br_t g4 ⟨his, br_f (by rw [hcs, k3, ba_lt]; exact g5) (br_f hs0 (br_f hsy (br_f ha1 (br_f g1 (br_f g2 (br_f g3 (br_t g4 ⟨his, br_f (by rw [hcs, y3, ba_lt]; exact g5) ⟨rfl, IR⟩⟩)))))))⟩))))))
          · exact bad (Or.inr (Or.inr (Or.inr (Or.inr g4))))
theorem i_vc_expire {k : Nat} {u : SX} {v : SY} (I : i_Rel k u v) (hk : k + 5 ≤ 2560) (v1 : Int32) : wpX_expire (fun r u' => wpY_expire (fun r' v' => r' = r ∧ i_Rel (k + 5) u' v') v v1) u v1 := by
  refine re_el (Q := fun u v => wpX_expire (fun r u' => wpY_expire (fun r' v' => r' = r ∧ i_Rel (k + 5) u' v') v v1) u v1) I ?_
  intro f_seriesCount f_safeCount f_arenaEnd f_position f_foundCount f_foundSum f_foundLeast f_foundMost f_foundGrowth f_before f_hasBefore f_levelNow a_labelsOf a_first a_end a_safeFirst a_safeEnd a_lastTime a_safeLast a_having a_blockCount a_startBit a_bitCount a_sampleCount a_firstNumber a_fromTime a_toTime a_fromValue a_toValue a_total a_smallest a_greatest a_grown a_bits a_lastStep a_times a_values g_n g_safeN b_labels b_length b_latest b_times b_values b_safeLabels b_safeLength b_safeLatest b_safeTimes b_safeValues cn sn lb F E SF SE LT SLT T V L P ae hX hY
  obtain ⟨hn, hv⟩ := re_nu hX
  obtain ⟨F', L', f_position1, a_first1, a_blockCount1, a_startBit1, a_bitCount1, a_sampleCount1, a_firstNumber1, a_fromTime1, a_toTime1, a_fromValue1, a_toValue1, a_total1, a_smallest1, a_greatest1, a_grown1, a_times1, a_values1, IX, hsp, W⟩ := xx_expire f_seriesCount f_safeCount f_arenaEnd f_position f_foundCount f_foundSum f_foundLeast f_foundMost f_foundGrowth f_before f_hasBefore f_levelNow a_labelsOf a_first a_end a_safeFirst a_safeEnd a_lastTime a_safeLast a_having a_blockCount a_startBit a_bitCount a_sampleCount a_firstNumber a_fromTime a_toTime a_fromValue a_toValue a_total a_smallest a_greatest a_grown a_bits a_lastStep a_times a_values hX v1
  exact W _ (yy_expire hY hn hsp (fun _ _ _ IY => ⟨rfl, re_in IX IY⟩))
theorem i_vc_sync {k : Nat} {u : SX} {v : SY} (I : i_Rel k u v) (hk : k + 5 ≤ 2560) : wpX_sync (fun u' => wpY_sync (fun v' => i_Rel (k + 5) u' v') v) u := by
  refine re_el (Q := fun u v => wpX_sync (fun u' => wpY_sync (fun v' => i_Rel (k + 5) u' v') v) u) I ?_
  intro f_seriesCount f_safeCount f_arenaEnd f_position f_foundCount f_foundSum f_foundLeast f_foundMost f_foundGrowth f_before f_hasBefore f_levelNow a_labelsOf a_first a_end a_safeFirst a_safeEnd a_lastTime a_safeLast a_having a_blockCount a_startBit a_bitCount a_sampleCount a_firstNumber a_fromTime a_toTime a_fromValue a_toValue a_total a_smallest a_greatest a_grown a_bits a_lastStep a_times a_values g_n g_safeN b_labels b_length b_latest b_times b_values b_safeLabels b_safeLength b_safeLatest b_safeTimes b_safeValues cn sn lb F E SF SE LT SLT T V L P ae hX hY
  obtain ⟨hn, hv⟩ := re_nu hX
  obtain ⟨L', a_safeFirst1, a_safeEnd1, a_safeLast1, a_blockCount1, a_startBit1, a_bitCount1, a_sampleCount1, a_firstNumber1, a_fromTime1, a_toTime1, a_fromValue1, a_toValue1, a_total1, a_smallest1, a_greatest1, a_grown1, IX, W⟩ := xx_sync f_seriesCount f_safeCount f_arenaEnd f_position f_foundCount f_foundSum f_foundLeast f_foundMost f_foundGrowth f_before f_hasBefore f_levelNow a_labelsOf a_first a_end a_safeFirst a_safeEnd a_lastTime a_safeLast a_having a_blockCount a_startBit a_bitCount a_sampleCount a_firstNumber a_fromTime a_toTime a_fromValue a_toValue a_total a_smallest a_greatest a_grown a_bits a_lastStep a_times a_values hX
  exact W _ (yy_sync hY hn (fun _ _ _ _ _ IY => re_in IX IY))
theorem i_vc_crash {k : Nat} {u : SX} {v : SY} (I : i_Rel k u v) (hk : k + 5 ≤ 2560) : wpX_crash (fun r u' => wpY_crash (fun r' v' => r' = r ∧ i_Rel (k + 5) u' v') v) u := by
  refine re_el (Q := fun u v => wpX_crash (fun r u' => wpY_crash (fun r' v' => r' = r ∧ i_Rel (k + 5) u' v') v) u) I ?_
  intro f_seriesCount f_safeCount f_arenaEnd f_position f_foundCount f_foundSum f_foundLeast f_foundMost f_foundGrowth f_before f_hasBefore f_levelNow a_labelsOf a_first a_end a_safeFirst a_safeEnd a_lastTime a_safeLast a_having a_blockCount a_startBit a_bitCount a_sampleCount a_firstNumber a_fromTime a_toTime a_fromValue a_toValue a_total a_smallest a_greatest a_grown a_bits a_lastStep a_times a_values g_n g_safeN b_labels b_length b_latest b_times b_values b_safeLabels b_safeLength b_safeLatest b_safeTimes b_safeValues cn sn lb F E SF SE LT SLT T V L P ae hX hY
  obtain ⟨hn, hv⟩ := re_nu hX
  obtain ⟨L', P', ae', f_position1, a_first1, a_end1, a_lastTime1, a_having1, a_blockCount1, a_startBit1, a_bitCount1, a_sampleCount1, a_firstNumber1, a_fromTime1, a_toTime1, a_fromValue1, a_toValue1, a_total1, a_smallest1, a_greatest1, a_grown1, a_bits1, a_lastStep1, a_times1, a_values1, IX, W⟩ := xx_crash f_seriesCount f_safeCount f_arenaEnd f_position f_foundCount f_foundSum f_foundLeast f_foundMost f_foundGrowth f_before f_hasBefore f_levelNow a_labelsOf a_first a_end a_safeFirst a_safeEnd a_lastTime a_safeLast a_having a_blockCount a_startBit a_bitCount a_sampleCount a_firstNumber a_fromTime a_toTime a_fromValue a_toValue a_total a_smallest a_greatest a_grown a_bits a_lastStep a_times a_values hX
  exact W _ (yy_crash hY hn hv (fun _ _ _ _ _ IY => ⟨rfl, re_in IX IY⟩))
theorem i_vc_count {k : Nat} {u : SX} {v : SY} (I : i_Rel k u v) (hk : k + 5 ≤ 2560) (v1 : Int32) (v2 : Int32) (v3 : Int32) : wpX_count (fun r u' => wpY_count (fun r' => r' = r ∧ i_Rel (k + 5) u' v) v v1 v2 v3) u v1 v2 v3 := by
  refine re_el (Q := fun u v => wpX_count (fun r u' => wpY_count (fun r' => r' = r ∧ i_Rel (k + 5) u' v) v v1 v2 v3) u v1 v2 v3) I ?_
  intro f_seriesCount f_safeCount f_arenaEnd f_position f_foundCount f_foundSum f_foundLeast f_foundMost f_foundGrowth f_before f_hasBefore f_levelNow a_labelsOf a_first a_end a_safeFirst a_safeEnd a_lastTime a_safeLast a_having a_blockCount a_startBit a_bitCount a_sampleCount a_firstNumber a_fromTime a_toTime a_fromValue a_toValue a_total a_smallest a_greatest a_grown a_bits a_lastStep a_times a_values g_n g_safeN b_labels b_length b_latest b_times b_values b_safeLabels b_safeLength b_safeLatest b_safeTimes b_safeValues cn sn lb F E SF SE LT SLT T V L P ae hX hY
  obtain ⟨hn, hv⟩ := re_nu hX
  have IR : i_Rel (k + 5) (f_seriesCount, f_safeCount, f_arenaEnd, f_position, f_foundCount, f_foundSum, f_foundLeast, f_foundMost, f_foundGrowth, f_before, f_hasBefore, f_levelNow, a_labelsOf, a_first, a_end, a_safeFirst, a_safeEnd, a_lastTime, a_safeLast, a_having, a_blockCount, a_startBit, a_bitCount, a_sampleCount, a_firstNumber, a_fromTime, a_toTime, a_fromValue, a_toValue, a_total, a_smallest, a_greatest, a_grown, a_bits, a_lastStep, a_times, a_values) (g_n, g_safeN, b_labels, b_length, b_latest, b_times, b_values, b_safeLabels, b_safeLength, b_safeLatest, b_safeTimes, b_safeValues) := re_in hX hY
  rcases re_mat v1 with z | ⟨m, hm, rfl⟩
  · unfold wpX_count
    refine wx_isM0 z ?_
    refine br_t rfl ?_
    unfold wpY_count
    refine wy_isM0 z ?_
    exact br_t rfl ⟨rfl, IR⟩
  · unfold wpX_count
    refine wx_isM1 hm ?_
    refine br_f (by decide) ?_
    refine xx_ask hX hm (fun fc fs fl fm fg bf hb pos ts vs hz => ?_)
    exact yy_count hY hn hm ⟨hz.1.symm, re_in hX hY⟩
theorem i_vc_sum {k : Nat} {u : SX} {v : SY} (I : i_Rel k u v) (hk : k + 5 ≤ 2560) (v1 : Int32) (v2 : Int32) (v3 : Int32) : wpX_sum (fun r u' => wpY_sum (fun r' => r' = r ∧ i_Rel (k + 5) u' v) v v1 v2 v3) u v1 v2 v3 := by
  refine re_el (Q := fun u v => wpX_sum (fun r u' => wpY_sum (fun r' => r' = r ∧ i_Rel (k + 5) u' v) v v1 v2 v3) u v1 v2 v3) I ?_
  intro f_seriesCount f_safeCount f_arenaEnd f_position f_foundCount f_foundSum f_foundLeast f_foundMost f_foundGrowth f_before f_hasBefore f_levelNow a_labelsOf a_first a_end a_safeFirst a_safeEnd a_lastTime a_safeLast a_having a_blockCount a_startBit a_bitCount a_sampleCount a_firstNumber a_fromTime a_toTime a_fromValue a_toValue a_total a_smallest a_greatest a_grown a_bits a_lastStep a_times a_values g_n g_safeN b_labels b_length b_latest b_times b_values b_safeLabels b_safeLength b_safeLatest b_safeTimes b_safeValues cn sn lb F E SF SE LT SLT T V L P ae hX hY
  obtain ⟨hn, hv⟩ := re_nu hX
  have IR : i_Rel (k + 5) (f_seriesCount, f_safeCount, f_arenaEnd, f_position, f_foundCount, f_foundSum, f_foundLeast, f_foundMost, f_foundGrowth, f_before, f_hasBefore, f_levelNow, a_labelsOf, a_first, a_end, a_safeFirst, a_safeEnd, a_lastTime, a_safeLast, a_having, a_blockCount, a_startBit, a_bitCount, a_sampleCount, a_firstNumber, a_fromTime, a_toTime, a_fromValue, a_toValue, a_total, a_smallest, a_greatest, a_grown, a_bits, a_lastStep, a_times, a_values) (g_n, g_safeN, b_labels, b_length, b_latest, b_times, b_values, b_safeLabels, b_safeLength, b_safeLatest, b_safeTimes, b_safeValues) := re_in hX hY
  rcases re_mat v1 with z | ⟨m, hm, rfl⟩
  · unfold wpX_sum
    refine wx_isM0 z ?_
    refine br_t rfl ?_
    unfold wpY_sum
    refine wy_isM0 z ?_
    exact br_t rfl ⟨rfl, IR⟩
  · unfold wpX_sum
    refine wx_isM1 hm ?_
    refine br_f (by decide) ?_
    refine xx_ask hX hm (fun fc fs fl fm fg bf hb pos ts vs hz => ?_)
    exact yy_sum hY hn hm ⟨hz.2.1.symm, re_in hX hY⟩
theorem i_vc_least {k : Nat} {u : SX} {v : SY} (I : i_Rel k u v) (hk : k + 5 ≤ 2560) (v1 : Int32) (v2 : Int32) (v3 : Int32) : wpX_least (fun r u' => wpY_least (fun r' => r' = r ∧ i_Rel (k + 5) u' v) v v1 v2 v3) u v1 v2 v3 := by
  refine re_el (Q := fun u v => wpX_least (fun r u' => wpY_least (fun r' => r' = r ∧ i_Rel (k + 5) u' v) v v1 v2 v3) u v1 v2 v3) I ?_
  intro f_seriesCount f_safeCount f_arenaEnd f_position f_foundCount f_foundSum f_foundLeast f_foundMost f_foundGrowth f_before f_hasBefore f_levelNow a_labelsOf a_first a_end a_safeFirst a_safeEnd a_lastTime a_safeLast a_having a_blockCount a_startBit a_bitCount a_sampleCount a_firstNumber a_fromTime a_toTime a_fromValue a_toValue a_total a_smallest a_greatest a_grown a_bits a_lastStep a_times a_values g_n g_safeN b_labels b_length b_latest b_times b_values b_safeLabels b_safeLength b_safeLatest b_safeTimes b_safeValues cn sn lb F E SF SE LT SLT T V L P ae hX hY
  obtain ⟨hn, hv⟩ := re_nu hX
  have IR : i_Rel (k + 5) (f_seriesCount, f_safeCount, f_arenaEnd, f_position, f_foundCount, f_foundSum, f_foundLeast, f_foundMost, f_foundGrowth, f_before, f_hasBefore, f_levelNow, a_labelsOf, a_first, a_end, a_safeFirst, a_safeEnd, a_lastTime, a_safeLast, a_having, a_blockCount, a_startBit, a_bitCount, a_sampleCount, a_firstNumber, a_fromTime, a_toTime, a_fromValue, a_toValue, a_total, a_smallest, a_greatest, a_grown, a_bits, a_lastStep, a_times, a_values) (g_n, g_safeN, b_labels, b_length, b_latest, b_times, b_values, b_safeLabels, b_safeLength, b_safeLatest, b_safeTimes, b_safeValues) := re_in hX hY
  rcases re_mat v1 with z | ⟨m, hm, rfl⟩
  · unfold wpX_least
    refine wx_isM0 z ?_
    refine br_t rfl ?_
    unfold wpY_least
    refine wy_isM0 z ?_
    exact br_t rfl ⟨rfl, IR⟩
  · unfold wpX_least
    refine wx_isM1 hm ?_
    refine br_f (by decide) ?_
    refine xx_ask hX hm (fun fc fs fl fm fg bf hb pos ts vs hz => ?_)
    obtain ⟨z1, z2, z3, z4, z5⟩ := hz
    have hc := cq_le (qt_of cn lb F E T m v2 v3) 256
    refine br_c (fun z => yy_least hY hn hm ⟨?_, re_in hX hY⟩) (fun z => yy_least hY hn hm ⟨?_, re_in hX hY⟩)
    · rw [z1] at z
      rw [if_pos ((nI_eq (b := 0) (by omega) (by omega)).mp z)]
    · rw [z1] at z
      rw [if_neg (fun y => z (by rw [y]; rfl)), z3]
theorem i_vc_most {k : Nat} {u : SX} {v : SY} (I : i_Rel k u v) (hk : k + 5 ≤ 2560) (v1 : Int32) (v2 : Int32) (v3 : Int32) : wpX_most (fun r u' => wpY_most (fun r' => r' = r ∧ i_Rel (k + 5) u' v) v v1 v2 v3) u v1 v2 v3 := by
  refine re_el (Q := fun u v => wpX_most (fun r u' => wpY_most (fun r' => r' = r ∧ i_Rel (k + 5) u' v) v v1 v2 v3) u v1 v2 v3) I ?_
  intro f_seriesCount f_safeCount f_arenaEnd f_position f_foundCount f_foundSum f_foundLeast f_foundMost f_foundGrowth f_before f_hasBefore f_levelNow a_labelsOf a_first a_end a_safeFirst a_safeEnd a_lastTime a_safeLast a_having a_blockCount a_startBit a_bitCount a_sampleCount a_firstNumber a_fromTime a_toTime a_fromValue a_toValue a_total a_smallest a_greatest a_grown a_bits a_lastStep a_times a_values g_n g_safeN b_labels b_length b_latest b_times b_values b_safeLabels b_safeLength b_safeLatest b_safeTimes b_safeValues cn sn lb F E SF SE LT SLT T V L P ae hX hY
  obtain ⟨hn, hv⟩ := re_nu hX
  have IR : i_Rel (k + 5) (f_seriesCount, f_safeCount, f_arenaEnd, f_position, f_foundCount, f_foundSum, f_foundLeast, f_foundMost, f_foundGrowth, f_before, f_hasBefore, f_levelNow, a_labelsOf, a_first, a_end, a_safeFirst, a_safeEnd, a_lastTime, a_safeLast, a_having, a_blockCount, a_startBit, a_bitCount, a_sampleCount, a_firstNumber, a_fromTime, a_toTime, a_fromValue, a_toValue, a_total, a_smallest, a_greatest, a_grown, a_bits, a_lastStep, a_times, a_values) (g_n, g_safeN, b_labels, b_length, b_latest, b_times, b_values, b_safeLabels, b_safeLength, b_safeLatest, b_safeTimes, b_safeValues) := re_in hX hY
  rcases re_mat v1 with z | ⟨m, hm, rfl⟩
  · unfold wpX_most
    refine wx_isM0 z ?_
    refine br_t rfl ?_
    unfold wpY_most
    refine wy_isM0 z ?_
    exact br_t rfl ⟨rfl, IR⟩
  · unfold wpX_most
    refine wx_isM1 hm ?_
    refine br_f (by decide) ?_
    refine xx_ask hX hm (fun fc fs fl fm fg bf hb pos ts vs hz => ?_)
    obtain ⟨z1, z2, z3, z4, z5⟩ := hz
    have hc := cq_le (qt_of cn lb F E T m v2 v3) 256
    refine br_c (fun z => yy_most hY hn hm ⟨?_, re_in hX hY⟩) (fun z => yy_most hY hn hm ⟨?_, re_in hX hY⟩)
    · rw [z1] at z
      rw [if_pos ((nI_eq (b := 0) (by omega) (by omega)).mp z)]
    · rw [z1] at z
      rw [if_neg (fun y => z (by rw [y]; rfl)), z4]
theorem i_vc_growth {k : Nat} {u : SX} {v : SY} (I : i_Rel k u v) (hk : k + 5 ≤ 2560) (v1 : Int32) (v2 : Int32) (v3 : Int32) : wpX_growth (fun r u' => wpY_growth (fun r' => r' = r ∧ i_Rel (k + 5) u' v) v v1 v2 v3) u v1 v2 v3 := by
  refine re_el (Q := fun u v => wpX_growth (fun r u' => wpY_growth (fun r' => r' = r ∧ i_Rel (k + 5) u' v) v v1 v2 v3) u v1 v2 v3) I ?_
  intro f_seriesCount f_safeCount f_arenaEnd f_position f_foundCount f_foundSum f_foundLeast f_foundMost f_foundGrowth f_before f_hasBefore f_levelNow a_labelsOf a_first a_end a_safeFirst a_safeEnd a_lastTime a_safeLast a_having a_blockCount a_startBit a_bitCount a_sampleCount a_firstNumber a_fromTime a_toTime a_fromValue a_toValue a_total a_smallest a_greatest a_grown a_bits a_lastStep a_times a_values g_n g_safeN b_labels b_length b_latest b_times b_values b_safeLabels b_safeLength b_safeLatest b_safeTimes b_safeValues cn sn lb F E SF SE LT SLT T V L P ae hX hY
  obtain ⟨hn, hv⟩ := re_nu hX
  have IR : i_Rel (k + 5) (f_seriesCount, f_safeCount, f_arenaEnd, f_position, f_foundCount, f_foundSum, f_foundLeast, f_foundMost, f_foundGrowth, f_before, f_hasBefore, f_levelNow, a_labelsOf, a_first, a_end, a_safeFirst, a_safeEnd, a_lastTime, a_safeLast, a_having, a_blockCount, a_startBit, a_bitCount, a_sampleCount, a_firstNumber, a_fromTime, a_toTime, a_fromValue, a_toValue, a_total, a_smallest, a_greatest, a_grown, a_bits, a_lastStep, a_times, a_values) (g_n, g_safeN, b_labels, b_length, b_latest, b_times, b_values, b_safeLabels, b_safeLength, b_safeLatest, b_safeTimes, b_safeValues) := re_in hX hY
  rcases re_mat v1 with z | ⟨m, hm, rfl⟩
  · unfold wpX_growth
    refine wx_isM0 z ?_
    refine br_t rfl ?_
    unfold wpY_growth
    refine wy_isM0 z ?_
    exact br_t rfl ⟨rfl, IR⟩
  · unfold wpX_growth
    refine wx_isM1 hm ?_
    refine br_f (by decide) ?_
    refine xx_ask hX hm (fun fc fs fl fm fg bf hb pos ts vs hz => ?_)
    exact yy_growth hY hn hm ⟨hz.2.2.2.2.symm, re_in hX hY⟩
theorem i_vc_at {k : Nat} {u : SX} {v : SY} (I : i_Rel k u v) (hk : k + 5 ≤ 2560) (v1 : Int32) (v2 : Int32) : wpX_at (fun r u' => wpY_at (fun r' => r' = r ∧ i_Rel (k + 5) u' v) v v1 v2) u v1 v2 := by
  refine re_el (Q := fun u v => wpX_at (fun r u' => wpY_at (fun r' => r' = r ∧ i_Rel (k + 5) u' v) v v1 v2) u v1 v2) I ?_
  intro f_seriesCount f_safeCount f_arenaEnd f_position f_foundCount f_foundSum f_foundLeast f_foundMost f_foundGrowth f_before f_hasBefore f_levelNow a_labelsOf a_first a_end a_safeFirst a_safeEnd a_lastTime a_safeLast a_having a_blockCount a_startBit a_bitCount a_sampleCount a_firstNumber a_fromTime a_toTime a_fromValue a_toValue a_total a_smallest a_greatest a_grown a_bits a_lastStep a_times a_values g_n g_safeN b_labels b_length b_latest b_times b_values b_safeLabels b_safeLength b_safeLatest b_safeTimes b_safeValues cn sn lb F E SF SE LT SLT T V L P ae hX hY
  obtain ⟨hn, hv⟩ := re_nu hX
  have hcn := hn.1
  have IR : i_Rel (k + 5) (f_seriesCount, f_safeCount, f_arenaEnd, f_position, f_foundCount, f_foundSum, f_foundLeast, f_foundMost, f_foundGrowth, f_before, f_hasBefore, f_levelNow, a_labelsOf, a_first, a_end, a_safeFirst, a_safeEnd, a_lastTime, a_safeLast, a_having, a_blockCount, a_startBit, a_bitCount, a_sampleCount, a_firstNumber, a_fromTime, a_toTime, a_fromValue, a_toValue, a_total, a_smallest, a_greatest, a_grown, a_bits, a_lastStep, a_times, a_values) (g_n, g_safeN, b_labels, b_length, b_latest, b_times, b_values, b_safeLabels, b_safeLength, b_safeLatest, b_safeTimes, b_safeValues) := re_in hX hY
  have hx1 := hX.1
  have hy1 := hY.1
  have bad : v1 < 0 ∨ nI cn ≤ v1 ∨ v2 < 0 ∨ ¬ v2 ≤ 999 → wpX_at (fun r u' => wpY_at (fun r' => r' = r ∧ i_Rel (k + 5) u' (g_n, g_safeN, b_labels, b_length, b_latest, b_times, b_values, b_safeLabels, b_safeLength, b_safeLatest, b_safeTimes, b_safeValues)) (g_n, g_safeN, b_labels, b_length, b_latest, b_times, b_values, b_safeLabels, b_safeLength, b_safeLatest, b_safeTimes, b_safeValues) v1 v2) (f_seriesCount, f_safeCount, f_arenaEnd, f_position, f_foundCount, f_foundSum, f_foundLeast, f_foundMost, f_foundGrowth, f_before, f_hasBefore, f_levelNow, a_labelsOf, a_first, a_end, a_safeFirst, a_safeEnd, a_lastTime, a_safeLast, a_having, a_blockCount, a_startBit, a_bitCount, a_sampleCount, a_firstNumber, a_fromTime, a_toTime, a_fromValue, a_toValue, a_total, a_smallest, a_greatest, a_grown, a_bits, a_lastStep, a_times, a_values) v1 v2 := fun h =>
    wx_at_bad (by rw [hx1]; exact h) (wy_at_bad (by rw [hy1]; exact h) ⟨rfl, IR⟩)
  rcases re_ser (v1 := v1) hcn with (z | z) | ⟨s, hs, rfl⟩
  · exact bad (Or.inl z)
  · exact bad (Or.inr (Or.inl z))
  · by_cases g1 : v2 < 0
    · exact bad (Or.inr (Or.inr (Or.inl g1)))
    · by_cases g2 : v2 ≤ 999
      · have ht : 0 ≤ v2.toInt ∧ v2.toInt ≤ 999 := by
          rw [ba_lt, ba_0] at g1
          rw [ba_le, show (999 : Int32).toInt = 999 from by decide] at g2
          omega
        exact xx_at hX hs ht (fun r pos ts vs hr => yy_at hY hn hs ht (fun r' hr' => ⟨at_one hr hr', re_in hX hY⟩))
      · exact bad (Or.inr (Or.inr (Or.inr g2)))
theorem i_vc_ranked {k : Nat} {u : SX} {v : SY} (I : i_Rel k u v) (hk : k + 5 ≤ 2560) (v1 : Int32) (v2 : Int32) (v3 : Int32) (v4 : Int32) : wpX_ranked (fun r u' => wpY_ranked (fun r' => r' = r ∧ i_Rel (k + 5) u' v) v v1 v2 v3 v4) u v1 v2 v3 v4 := by
  refine re_el (Q := fun u v => wpX_ranked (fun r u' => wpY_ranked (fun r' => r' = r ∧ i_Rel (k + 5) u' v) v v1 v2 v3 v4) u v1 v2 v3 v4) I ?_
  intro f_seriesCount f_safeCount f_arenaEnd f_position f_foundCount f_foundSum f_foundLeast f_foundMost f_foundGrowth f_before f_hasBefore f_levelNow a_labelsOf a_first a_end a_safeFirst a_safeEnd a_lastTime a_safeLast a_having a_blockCount a_startBit a_bitCount a_sampleCount a_firstNumber a_fromTime a_toTime a_fromValue a_toValue a_total a_smallest a_greatest a_grown a_bits a_lastStep a_times a_values g_n g_safeN b_labels b_length b_latest b_times b_values b_safeLabels b_safeLength b_safeLatest b_safeTimes b_safeValues cn sn lb F E SF SE LT SLT T V L P ae hX hY
  obtain ⟨hn, hv⟩ := re_nu hX
  have IR : i_Rel (k + 5) (f_seriesCount, f_safeCount, f_arenaEnd, f_position, f_foundCount, f_foundSum, f_foundLeast, f_foundMost, f_foundGrowth, f_before, f_hasBefore, f_levelNow, a_labelsOf, a_first, a_end, a_safeFirst, a_safeEnd, a_lastTime, a_safeLast, a_having, a_blockCount, a_startBit, a_bitCount, a_sampleCount, a_firstNumber, a_fromTime, a_toTime, a_fromValue, a_toValue, a_total, a_smallest, a_greatest, a_grown, a_bits, a_lastStep, a_times, a_values) (g_n, g_safeN, b_labels, b_length, b_latest, b_times, b_values, b_safeLabels, b_safeLength, b_safeLatest, b_safeTimes, b_safeValues) := re_in hX hY
  rcases re_mat v1 with z | ⟨m, hm, rfl⟩
  · unfold wpX_ranked
    refine wx_isM0 z ?_
    refine br_t rfl ?_
    unfold wpY_ranked
    refine wy_isM0 z ?_
    exact br_t rfl ⟨rfl, IR⟩
  · have hc := cq_le (qt_of cn lb F E T m v2 v3) 256
    refine xx_ranked hX hm (fun hno fc fs fl fm fg bf hb pos ts vs => ?_) (fun j hj e r fc fs fl fm fg bf hb pos ts vs hr => ?_)
    · exact yy_ranked hY hn hm (fun i hi ht e => absurd e (hno _ (rk_lt hi ht))) (fun _ => ⟨rfl, re_in hX hY⟩)
    · refine yy_ranked hY hn hm (fun i hi ht e2 => ⟨?_, re_in hX hY⟩) (fun hno => ?_)
      · rw [e] at e2
        have hb := cq_le (bw_of (qt_of cn lb F E T m v2 v3) (qv_of F V) i) 256
        exact rk_eq hr hi ht ((nI_eq (by omega) (by omega)).mp e2).symm
      · obtain ⟨i, i1, i2, i3⟩ := rk_ex hr
        exact absurd (by rw [e, i3]) (hno i i1 i2)
theorem i_vc_matching {k : Nat} {u : SX} {v : SY} (I : i_Rel k u v) (hk : k + 5 ≤ 2560) (v1 : Int32) : wpX_matching (fun r => wpY_matching (fun r' => r' = r ∧ i_Rel (k + 5) u v) v v1) u v1 := by
  refine re_el (Q := fun u v => wpX_matching (fun r => wpY_matching (fun r' => r' = r ∧ i_Rel (k + 5) u v) v v1) u v1) I ?_
  intro f_seriesCount f_safeCount f_arenaEnd f_position f_foundCount f_foundSum f_foundLeast f_foundMost f_foundGrowth f_before f_hasBefore f_levelNow a_labelsOf a_first a_end a_safeFirst a_safeEnd a_lastTime a_safeLast a_having a_blockCount a_startBit a_bitCount a_sampleCount a_firstNumber a_fromTime a_toTime a_fromValue a_toValue a_total a_smallest a_greatest a_grown a_bits a_lastStep a_times a_values g_n g_safeN b_labels b_length b_latest b_times b_values b_safeLabels b_safeLength b_safeLatest b_safeTimes b_safeValues cn sn lb F E SF SE LT SLT T V L P ae hX hY
  obtain ⟨hn, hv⟩ := re_nu hX
  have IR : i_Rel (k + 5) (f_seriesCount, f_safeCount, f_arenaEnd, f_position, f_foundCount, f_foundSum, f_foundLeast, f_foundMost, f_foundGrowth, f_before, f_hasBefore, f_levelNow, a_labelsOf, a_first, a_end, a_safeFirst, a_safeEnd, a_lastTime, a_safeLast, a_having, a_blockCount, a_startBit, a_bitCount, a_sampleCount, a_firstNumber, a_fromTime, a_toTime, a_fromValue, a_toValue, a_total, a_smallest, a_greatest, a_grown, a_bits, a_lastStep, a_times, a_values) (g_n, g_safeN, b_labels, b_length, b_latest, b_times, b_values, b_safeLabels, b_safeLength, b_safeLatest, b_safeTimes, b_safeValues) := re_in hX hY
  rcases re_mat v1 with z | ⟨m, hm, rfl⟩
  · unfold wpX_matching
    refine wx_isM0 z ?_
    refine br_t rfl ?_
    unfold wpY_matching
    refine wy_isM0 z ?_
    exact br_t rfl ⟨rfl, IR⟩
  · exact wx_matching hn.1 hX.1 hX.2.2.2.2.2.2.2.2.2 hm (fun S hS => yy_matching hY hn hm (fun S' hS' => ⟨b_ext (fun i hi => by rw [hS i hi, hS' i hi]), IR⟩))
theorem i_vc_length {k : Nat} {u : SX} {v : SY} (I : i_Rel k u v) (hk : k + 5 ≤ 2560) (v1 : Int32) : wpX_length (fun r => wpY_length (fun r' => r' = r ∧ i_Rel (k + 5) u v) v v1) u v1 := by
  refine re_el (Q := fun u v => wpX_length (fun r => wpY_length (fun r' => r' = r ∧ i_Rel (k + 5) u v) v v1) u v1) I ?_
  intro f_seriesCount f_safeCount f_arenaEnd f_position f_foundCount f_foundSum f_foundLeast f_foundMost f_foundGrowth f_before f_hasBefore f_levelNow a_labelsOf a_first a_end a_safeFirst a_safeEnd a_lastTime a_safeLast a_having a_blockCount a_startBit a_bitCount a_sampleCount a_firstNumber a_fromTime a_toTime a_fromValue a_toValue a_total a_smallest a_greatest a_grown a_bits a_lastStep a_times a_values g_n g_safeN b_labels b_length b_latest b_times b_values b_safeLabels b_safeLength b_safeLatest b_safeTimes b_safeValues cn sn lb F E SF SE LT SLT T V L P ae hX hY
  obtain ⟨hn, hv⟩ := re_nu hX
  have hcn := hn.1
  have IR : i_Rel (k + 5) (f_seriesCount, f_safeCount, f_arenaEnd, f_position, f_foundCount, f_foundSum, f_foundLeast, f_foundMost, f_foundGrowth, f_before, f_hasBefore, f_levelNow, a_labelsOf, a_first, a_end, a_safeFirst, a_safeEnd, a_lastTime, a_safeLast, a_having, a_blockCount, a_startBit, a_bitCount, a_sampleCount, a_firstNumber, a_fromTime, a_toTime, a_fromValue, a_toValue, a_total, a_smallest, a_greatest, a_grown, a_bits, a_lastStep, a_times, a_values) (g_n, g_safeN, b_labels, b_length, b_latest, b_times, b_values, b_safeLabels, b_safeLength, b_safeLatest, b_safeTimes, b_safeValues) := re_in hX hY
  have hx1 := hX.1
  have hy1 := hY.1
  rcases re_ser (v1 := v1) hcn with (z | z) | ⟨s, hs, rfl⟩
  · exact br_t z (br_t rfl (br_t z (br_t rfl ⟨rfl, IR⟩)))
  · exact br_c (fun _ => br_t rfl (br_c (fun _ => br_t rfl ⟨rfl, IR⟩) (fun _ => br_t (by rw [hy1]; exact z) (br_t rfl ⟨rfl, IR⟩)))) (fun _ => br_t (by rw [hx1]; exact z) (br_t rfl (br_c (fun _ => br_t rfl ⟨rfl, IR⟩) (fun _ => br_t (by rw [hy1]; exact z) (br_t rfl ⟨rfl, IR⟩)))))
  · obtain ⟨k1, k2, k3⟩ := hX.2.2.2.2.2.1 s hs
    obtain ⟨y1, y2, y3, y4⟩ := hY.2.2.1 s hs
    have hcs : (nI s).toNatClampNeg = s := nI_clamp (by omega)
    have his : vp_in (nI s) 8 := vp_in_nI (by omega) (by omega)
    have hs0 : ¬ nI s < 0 := nI_pos (by omega)
    refine br_f hs0 (br_f (by rw [hx1]; exact nI_ge hs (by omega)) (br_f (by decide) ⟨his, his, ?_⟩))
    refine br_f hs0 (br_f (by rw [hy1]; exact nI_ge hs (by omega)) (br_f (by decide) ⟨his, ?_, IR⟩))
    rw [hcs, k1, k2, y2, pk_sub (hn.2 s hs).1]
theorem i_vc_level {k : Nat} {u : SX} {v : SY} (I : i_Rel k u v) (hk : k + 5 ≤ 2560) (v1 : Int32) : wpX_level (fun r u' => wpY_level (fun r' => r' = r ∧ i_Rel (k + 5) u' v) v v1) u v1 := by
  refine re_el (Q := fun u v => wpX_level (fun r u' => wpY_level (fun r' => r' = r ∧ i_Rel (k + 5) u' v) v v1) u v1) I ?_
  intro f_seriesCount f_safeCount f_arenaEnd f_position f_foundCount f_foundSum f_foundLeast f_foundMost f_foundGrowth f_before f_hasBefore f_levelNow a_labelsOf a_first a_end a_safeFirst a_safeEnd a_lastTime a_safeLast a_having a_blockCount a_startBit a_bitCount a_sampleCount a_firstNumber a_fromTime a_toTime a_fromValue a_toValue a_total a_smallest a_greatest a_grown a_bits a_lastStep a_times a_values g_n g_safeN b_labels b_length b_latest b_times b_values b_safeLabels b_safeLength b_safeLatest b_safeTimes b_safeValues cn sn lb F E SF SE LT SLT T V L P ae hX hY
  have IR : i_Rel (k + 5) (f_seriesCount, f_safeCount, f_arenaEnd, f_position, f_foundCount, f_foundSum, f_foundLeast, f_foundMost, f_foundGrowth, f_before, f_hasBefore, f_levelNow, a_labelsOf, a_first, a_end, a_safeFirst, a_safeEnd, a_lastTime, a_safeLast, a_having, a_blockCount, a_startBit, a_bitCount, a_sampleCount, a_firstNumber, a_fromTime, a_toTime, a_fromValue, a_toValue, a_total, a_smallest, a_greatest, a_grown, a_bits, a_lastStep, a_times, a_values) (g_n, g_safeN, b_labels, b_length, b_latest, b_times, b_values, b_safeLabels, b_safeLength, b_safeLatest, b_safeTimes, b_safeValues) := re_in hX hY
  by_cases h0 : v1 < 0
  · exact br_t h0 (br_t h0 ⟨rfl, IR⟩)
  · by_cases h1 : v1 ≤ 2
    · exact br_f h0 (br_t h1 (br_f h0 (br_f (Int32.not_lt.mpr h1) ⟨rfl, re_in hX hY⟩)))
    · exact br_f h0 (br_f h1 (br_f h0 (br_t (Int32.not_le.mp h1) ⟨rfl, IR⟩)))
end
