section
/-! pure rows to paste: stores, nI and lN arithmetic, masks, shifts, narrowing, branches by naturals (pk_le, pk_lt, pk_eq), loops (lp1 .. lp16: the measure of the state; rp1 ..: recursion), negatives. Take what you need -/
theorem pk_us {f : Nat → Int32} {k : Nat} {x : Int32} : upd f k x k = x := if_pos rfl
theorem pk_un {f : Nat → Int32} {k j : Nat} {x : Int32} (h : j ≠ k) : upd f k x j = f j := if_neg h
theorem pk_uLs {f : Nat → Int64} {k : Nat} {x : Int64} : vp_updL f k x k = x := if_pos rfl
theorem pk_uLn {f : Nat → Int64} {k j : Nat} {x : Int64} (h : j ≠ k) : vp_updL f k x j = f j := if_neg h
theorem pk_sub {a b : Nat} (h : b ≤ a) : nI a - nI b = nI (a - b) := by
  obtain ⟨c, rfl⟩ : ∃ c, a = c + b := ⟨a - b, by omega⟩
  rw [← nI_add, Int32.add_sub_cancel, Nat.add_sub_cancel]
theorem pk_m1 (n : Nat) : nI (n + 1) + (-1) = nI n := by
  rw [← nI_1, Int32.add_assoc, show (1 : Int32) + (-1) = 0 from rfl, Int32.add_zero]
theorem pk_mul (a b : Nat) : nI a * nI b = nI (a * b) := (Int32.ofNat_mul a b).symm
theorem pk_div {a d : Nat} (ha : a < 2 ^ 31) (h0 : 0 < d) (hd : d < 2 ^ 31) : nI a / nI d = nI (a / d) := by
  apply Int32.toInt_inj.mp
  rw [lg_idiv_nonneg (by rw [nI_toInt ha]; omega) (by rw [nI_toInt hd]; omega), nI_toInt ha, nI_toInt hd, nI_toInt (Nat.lt_of_le_of_lt (Nat.div_le_self a d) ha)]
  first | rfl | exact (Int.natCast_ediv _ _).symm
theorem pk_rem {a d : Nat} (ha : a < 2 ^ 31) (h0 : 0 < d) (hd : d < 2 ^ 31) : nI a - nI a / nI d * nI d = nI (a % d) := by
  rw [pk_div ha h0 hd, pk_mul, pk_sub (Nat.div_mul_le_self a d)]
  exact congrArg nI (by have := Nat.div_add_mod' a d; omega)
theorem pk_sub_toInt {a b : Nat} (ha : a < 2 ^ 30) (hb : b < 2 ^ 30) : (nI a - nI b).toInt = (a : Int) - b := by
  rw [Int32.toInt_sub, nI_toInt (by omega), nI_toInt (by omega)]
  exact Int.bmod_eq_of_le (by omega) (by omega)
theorem pk_sneg {a b : Nat} (hb : b < 2 ^ 30) (h : a < b) : nI a - nI b < 0 := by
  rw [Int32.lt_iff_toInt_lt, pk_sub_toInt (by omega) hb, show (0 : Int32).toInt = 0 from by decide]
  omega
theorem pk_ix (x : Int32) {n : Nat} (hn : n < 2 ^ 31) : x < 0 ∨ nI n ≤ x ∨ ∃ j : Nat, j < n ∧ x = nI j := by
  by_cases h : x < 0
  · exact Or.inl h
  · obtain ⟨j, hj, rfl⟩ := nI_of h
    by_cases h2 : j < n
    · exact Or.inr (Or.inr ⟨j, h2, rfl⟩)
    · exact Or.inr (Or.inl (nI_le (by omega) hj))
theorem pk_le {x y : Int32} {A B : Prop} (a b : Nat) (f : a ≤ b → A) (g : b < a → B) (hx : x = nI a := by rfl) (hy : y = nI b := by rfl) (ha : a < 2 ^ 31 := by omega) (hb : b < 2 ^ 31 := by omega) : (x ≤ y → A) ∧ (¬ x ≤ y → B) := by
  subst hx hy
  rw [nI_leI ha hb]
  exact ⟨f, fun z => g (by omega)⟩
theorem pk_lt {x y : Int32} {A B : Prop} (a b : Nat) (f : a < b → A) (g : b ≤ a → B) (hx : x = nI a := by rfl) (hy : y = nI b := by rfl) (ha : a < 2 ^ 31 := by omega) (hb : b < 2 ^ 31 := by omega) : (x < y → A) ∧ (¬ x < y → B) := by
  subst hx hy
  rw [nI_ltI ha hb]
  exact ⟨f, fun z => g (by omega)⟩
theorem pk_eq {x y : Int32} {A B : Prop} (a b : Nat) (f : a = b → A) (g : a ≠ b → B) (hx : x = nI a := by rfl) (hy : y = nI b := by rfl) (ha : a < 2 ^ 31 := by omega) (hb : b < 2 ^ 31 := by omega) : (x = y → A) ∧ (¬ x = y → B) := by
  subst hx hy
  rw [nI_eq ha hb]
  exact ⟨f, g⟩
theorem pk_in {x : Int32} (n N : Nat) (h : n < N) (hx : x = nI n := by rfl) (hN : N < 2 ^ 31 := by omega) : vp_in x N := by
  subst hx
  exact vp_in_nI h hN
theorem pk_cl {x : Int32} (n : Nat) (hx : x = nI n := by rfl) (h : n < 2 ^ 31 := by omega) : x.toNatClampNeg = n := by
  subst hx
  exact nI_clamp h
theorem pk_tn {n : Nat} (h : n < 2 ^ 32) : (nI n).toBitVec.toNat = n := Nat.mod_eq_of_lt h
theorem pk_and (x : Int32) {m : Int32} (k : Nat) (hm : m.toBitVec.toNat = 2 ^ k - 1) : x &&& m = nI (x.toBitVec.toNat % 2 ^ k) := by
  apply Int32.toBitVec_inj.mp
  apply BitVec.eq_of_toNat_eq
  rw [Int32.toBitVec_and, BitVec.toNat_and, hm, Nat.and_two_pow_sub_one_eq_mod]
  show _ = (BitVec.ofNat 32 _).toNat
  rw [BitVec.toNat_ofNat]
  exact (Nat.mod_eq_of_lt (Nat.lt_of_le_of_lt (Nat.mod_le _ _) x.toBitVec.isLt)).symm
theorem pk_andN {n : Nat} (h : n < 2 ^ 32) {m : Int32} (k : Nat) (hm : m.toBitVec.toNat = 2 ^ k - 1) : nI n &&& m = nI (n % 2 ^ k) := by
  rw [pk_and _ k hm, pk_tn h]
theorem pk_andE (x : Int32) {m : Int32} (k : Nat) (hm : m.toBitVec.toNat = 2 ^ k - 1) : ∃ j : Nat, j < 2 ^ k ∧ x &&& m = nI j := ⟨_, Nat.mod_lt _ (Nat.two_pow_pos k), pk_and x k hm⟩
theorem pk_andIn (x : Int32) {m : Int32} (k : Nat) (hm : m.toBitVec.toNat = 2 ^ k - 1) (hk : k ≤ 30) : vp_in (x &&& m) (2 ^ k) := by
  obtain ⟨j, hj, e⟩ := pk_andE x k hm
  rw [e]
  exact vp_in_nI hj (Nat.lt_of_le_of_lt (Nat.pow_le_pow_right (by decide) hk) (by decide))
theorem pk_shl (a s : Int32) (k : Nat) (hs : (s.toBitVec.smod 32).toNat = k) : (a <<< s).toBitVec.toNat = a.toBitVec.toNat * 2 ^ k % 2 ^ 32 := by
  show (a.toBitVec <<< (s.toBitVec.smod 32).toNat).toNat = _
  rw [hs, BitVec.toNat_shiftLeft, Nat.shiftLeft_eq]
theorem pk_shlN {n : Nat} (s : Int32) (k : Nat) (hs : (s.toBitVec.smod 32).toNat = k) (h : n * 2 ^ k < 2 ^ 32) : nI n <<< s = nI (n * 2 ^ k) := by
  apply Int32.toBitVec_inj.mp
  apply BitVec.eq_of_toNat_eq
  have hn : n < 2 ^ 32 := Nat.lt_of_le_of_lt (Nat.le_mul_of_pos_right n (Nat.two_pow_pos k)) h
  rw [pk_shl _ _ k hs, pk_tn hn, pk_tn h, Nat.mod_eq_of_lt h]
theorem pk_shr (a s : Int32) (k : Nat) (hs : (s.toBitVec.smod 32).toNat = k) : (a >>> s).toInt = a.toInt >>> k := by
  show (a.toBitVec.sshiftRight (s.toBitVec.smod 32).toNat).toInt = _
  rw [hs, BitVec.toInt_sshiftRight]
  rfl
theorem pk_shrN {n : Nat} (h : n < 2 ^ 31) (s : Int32) (k : Nat) (hs : (s.toBitVec.smod 32).toNat = k) : nI n >>> s = nI (n / 2 ^ k) := by
  apply Int32.toInt_inj.mp
  have h2 : n / 2 ^ k ≤ n := Nat.div_le_self _ _
  rw [pk_shr _ _ k hs, nI_toInt h, nI_toInt (by omega), Int.shiftRight_eq_div_pow]
  rfl
theorem pk_ushr (x s : Int32) (k : Nat) (hs : ((s.toUInt32 &&& Int32.toUInt32 31).toBitVec % 32).toNat = k) : (x.toUInt32 >>> (s.toUInt32 &&& Int32.toUInt32 31)).toInt32.toBitVec.toNat = x.toBitVec.toNat / 2 ^ k := by
  have e : (x.toUInt32 >>> (s.toUInt32 &&& Int32.toUInt32 31)).toInt32.toBitVec = x.toBitVec >>> k := by
    rw [← hs]
    exact UInt32.toBitVec_shiftRight _ _
  rw [e, BitVec.toNat_ushiftRight, Nat.shiftRight_eq_div_pow]
theorem pk_ushrN {n : Nat} (hn : n < 2 ^ 32) (s : Int32) (k : Nat) (hs : ((s.toUInt32 &&& Int32.toUInt32 31).toBitVec % 32).toNat = k) : ((nI n).toUInt32 >>> (s.toUInt32 &&& Int32.toUInt32 31)).toInt32 = nI (n / 2 ^ k) := by
  apply Int32.toBitVec_inj.mp
  apply BitVec.eq_of_toNat_eq
  rw [pk_ushr _ s k hs, pk_tn hn, pk_tn (Nat.lt_of_le_of_lt (Nat.div_le_self _ _) hn)]
theorem pk_nb (z : Int32) : narrow .byte (.int z.toInt8.toInt32) = .int z.toInt8.toInt32 := congrArg Value.int (by simp)
theorem pk_ns (z : Int32) : narrow .short (.int z.toInt16.toInt32) = .int z.toInt16.toInt32 := congrArg Value.int (by simp)
theorem pk_fb (r : Int32) : fits .byte (.int r.toInt8.toInt32) = true := by
  have ⟨a, b⟩ := lg_i2b_range r
  have h1 : (-128 : Int32).toInt = -128 := by decide
  have h2 : (127 : Int32).toInt = 127 := by decide
  simp only [fits, Bool.and_eq_true, decide_eq_true_eq, Int32.le_iff_toInt_le, h1, h2]
  omega
theorem pk_fs (r : Int32) : fits .short (.int r.toInt16.toInt32) = true := by
  have ⟨a, b⟩ := lg_i2s_range r
  have h1 : (-32768 : Int32).toInt = -32768 := by decide
  have h2 : (32767 : Int32).toInt = 32767 := by decide
  simp only [fits, Bool.and_eq_true, decide_eq_true_eq, Int32.le_iff_toInt_le, h1, h2]
  omega
theorem pk_charN {q : Nat} (hq : q < 65536) : narrow .char (.int (nI q)) = .int (nI q) ∧ fits .char (.int (nI q)) = true := by
  constructor
  · have e : (nI q).toUInt32.toUInt16.toUInt32.toInt32 = nI q := by
      apply Int32.toBitVec_inj.mp
      apply BitVec.eq_of_toNat_eq
      show (nI q).toUInt32.toUInt16.toUInt32.toNat = q % 2 ^ 32
      rw [UInt16.toNat_toUInt32, UInt32.toNat_toUInt16, show (nI q).toUInt32.toNat = q % 2 ^ 32 from rfl]
      omega
    exact congrArg Value.int e
  · have a : (0 : Int32) ≤ nI q := nI_pos' (by omega)
    have b : nI q ≤ 65535 := nI_le (b := 65535) (by omega) (by decide)
    show (decide ((0 : Int32) ≤ nI q) && decide (nI q ≤ 65535)) = true
    rw [decide_eq_true a, decide_eq_true b]
    rfl
theorem pk_char (x : Int32) : (x.toUInt32 % 65536).toInt32 = nI (x.toBitVec.toNat % 65536) := by
  apply Int32.toBitVec_inj.mp
  apply BitVec.eq_of_toNat_eq
  rw [pk_tn (by omega)]
  show (x.toUInt32 % 65536).toNat = _
  rw [UInt32.toNat_mod]
  rfl
theorem pk_nc (x : Int32) : narrow .char (.int (x.toUInt32 % 65536).toInt32) = .int (x.toUInt32 % 65536).toInt32 := by
  rw [pk_char]
  exact (pk_charN (Nat.mod_lt _ (by decide))).1
theorem pk_fc (x : Int32) : fits .char (.int (x.toUInt32 % 65536).toInt32) = true := by
  rw [pk_char]
  exact (pk_charN (Nat.mod_lt _ (by decide))).2
theorem pk_vb (z : Int32) : vp_nar .byte z.toInt8.toInt32 = z.toInt8.toInt32 := by rw [vp_nar_byte]; simp
theorem pk_vs (z : Int32) : vp_nar .short z.toInt16.toInt32 = z.toInt16.toInt32 := by rw [vp_nar_short]; simp
theorem pk_vc (z : Int32) : vp_nar .char (z.toUInt32 % 65536).toInt32 = (z.toUInt32 % 65536).toInt32 := Value.int.inj (pk_nc z)
theorem pk_lT {n : Nat} (h : n < 2 ^ 63) : (lN n).toInt = (n : Int) := lg_ofNat_toInt h
theorem pk_lLT {a b : Nat} (ha : a < 2 ^ 63) (hb : b < 2 ^ 63) : lN a < lN b ↔ a < b := by
  rw [Int64.lt_iff_toInt_lt, pk_lT ha, pk_lT hb]; omega
theorem pk_lLE {a b : Nat} (ha : a < 2 ^ 63) (hb : b < 2 ^ 63) : lN a ≤ lN b ↔ a ≤ b := by
  rw [Int64.le_iff_toInt_le, pk_lT ha, pk_lT hb]; omega
theorem pk_lEQ {a b : Nat} (ha : a < 2 ^ 63) (hb : b < 2 ^ 63) : lN a = lN b ↔ a = b := by
  rw [← Int64.toInt_inj, pk_lT ha, pk_lT hb]; omega
theorem pk_lOf {x : Int64} (h : ¬ x < 0) : ∃ k : Nat, k < 2 ^ 63 ∧ x = lN k := by
  rw [Int64.lt_iff_toInt_lt] at h
  have h0 : (0 : Int64).toInt = 0 := by decide
  have hx := Int64.toInt_lt x
  refine ⟨x.toInt.toNat, by omega, Int64.toInt_inj.mp ?_⟩
  rw [pk_lT (by omega)]
  omega
theorem pk_lDiv {a b : Nat} (ha : a < 2 ^ 63) (h0 : 0 < b) (hb : b < 2 ^ 63) : lN a / lN b = lN (a / b) := by
  apply Int64.toInt_inj.mp
  rw [lg_ldiv_nonneg (by rw [pk_lT ha]; omega) (by rw [pk_lT hb]; omega), pk_lT ha, pk_lT hb, pk_lT (Nat.lt_of_le_of_lt (Nat.div_le_self a b) ha)]
  rfl
theorem pk_lRem {a b : Nat} (ha : a < 2 ^ 63) (h0 : 0 < b) (hb : b < 2 ^ 63) : lN a - lN a / lN b * lN b = lN (a % b) := by
  rw [pk_lDiv ha h0 hb, lN_mul, lN_sub (Nat.div_mul_le_self a b)]
  exact congrArg lN (by have := Nat.div_add_mod' a b; omega)
theorem pk_loop {σ : Type} (W : Nat → Nat → σ → Prop) (I : Nat → σ → Prop) (e i0 : Nat) (s : σ) (hi : i0 ≤ e) (h0 : I i0 s) (hx : ∀ n s, I e s → W (n + 1) e s)
    (hs : ∀ n i s, i < e → I i s → (∀ s', I (i + 1) s' → W n (i + 1) s') → W (n + 1) i s) : ∃ n, W n i0 s :=
  ⟨e + 1, loop_i W I e hx hs (e + 1) i0 s hi (by omega) h0⟩
theorem pk_loopD {σ : Type} (W : Nat → Nat → σ → Prop) (I : Nat → σ → Prop) (hx : ∀ n s, I 0 s → W (n + 1) 0 s)
    (hs : ∀ n i s, I (i + 1) s → (∀ s', I i s' → W n i s') → W (n + 1) (i + 1) s) : ∀ (e : Nat) (s : σ), I e s → W (e + 1) e s := by
  intro e
  induction e with
  | zero => exact fun s h => hx 0 s h
  | succ e ih => exact fun s h => hs (e + 1) e s h (fun s' h' => ih s' h')
theorem lp1 {A1 : Type} (W : Nat → A1 → Prop) (I : A1 → Prop) (μ : A1 → Nat) (hs : ∀ (n : Nat) (a1 : A1), I a1 → (∀ (b1 : A1), I b1 → μ b1 < μ a1 → W n b1) → W (n + 1) a1) (a1 : A1) (h : I a1) : ∃ n, W n a1 :=
  loop_m (σ := A1) (fun n s => W n s) (fun s => I s) (fun s => μ s) (fun n s hI hk => hs n s hI (fun b1 h9 hm => hk b1 h9 hm)) a1 h
theorem lp2 {A1 A2 : Type} (W : Nat → A1 → A2 → Prop) (I : A1 → A2 → Prop) (μ : A1 → A2 → Nat) (hs : ∀ (n : Nat) (a1 : A1) (a2 : A2), I a1 a2 → (∀ (b1 : A1) (b2 : A2), I b1 b2 → μ b1 b2 < μ a1 a2 → W n b1 b2) → W (n + 1) a1 a2) (a1 : A1) (a2 : A2) (h : I a1 a2) : ∃ n, W n a1 a2 :=
  loop_m (σ := A1 × A2) (fun n s => W n s.1 s.2) (fun s => I s.1 s.2) (fun s => μ s.1 s.2) (fun n s hI hk => hs n s.1 s.2 hI (fun b1 b2 h9 hm => hk (b1, b2) h9 hm)) (a1, a2) h
theorem lp3 {A1 A2 A3 : Type} (W : Nat → A1 → A2 → A3 → Prop) (I : A1 → A2 → A3 → Prop) (μ : A1 → A2 → A3 → Nat) (hs : ∀ (n : Nat) (a1 : A1) (a2 : A2) (a3 : A3), I a1 a2 a3 → (∀ (b1 : A1) (b2 : A2) (b3 : A3), I b1 b2 b3 → μ b1 b2 b3 < μ a1 a2 a3 → W n b1 b2 b3) → W (n + 1) a1 a2 a3) (a1 : A1) (a2 : A2) (a3 : A3) (h : I a1 a2 a3) : ∃ n, W n a1 a2 a3 :=
  loop_m (σ := A1 × A2 × A3) (fun n s => W n s.1 s.2.1 s.2.2) (fun s => I s.1 s.2.1 s.2.2) (fun s => μ s.1 s.2.1 s.2.2) (fun n s hI hk => hs n s.1 s.2.1 s.2.2 hI (fun b1 b2 b3 h9 hm => hk (b1, b2, b3) h9 hm)) (a1, a2, a3) h
theorem lp4 {A1 A2 A3 A4 : Type} (W : Nat → A1 → A2 → A3 → A4 → Prop) (I : A1 → A2 → A3 → A4 → Prop) (μ : A1 → A2 → A3 → A4 → Nat) (hs : ∀ (n : Nat) (a1 : A1) (a2 : A2) (a3 : A3) (a4 : A4), I a1 a2 a3 a4 → (∀ (b1 : A1) (b2 : A2) (b3 : A3) (b4 : A4), I b1 b2 b3 b4 → μ b1 b2 b3 b4 < μ a1 a2 a3 a4 → W n b1 b2 b3 b4) → W (n + 1) a1 a2 a3 a4) (a1 : A1) (a2 : A2) (a3 : A3) (a4 : A4) (h : I a1 a2 a3 a4) : ∃ n, W n a1 a2 a3 a4 :=
  loop_m (σ := A1 × A2 × A3 × A4) (fun n s => W n s.1 s.2.1 s.2.2.1 s.2.2.2) (fun s => I s.1 s.2.1 s.2.2.1 s.2.2.2) (fun s => μ s.1 s.2.1 s.2.2.1 s.2.2.2) (fun n s hI hk => hs n s.1 s.2.1 s.2.2.1 s.2.2.2 hI (fun b1 b2 b3 b4 h9 hm => hk (b1, b2, b3, b4) h9 hm)) (a1, a2, a3, a4) h
theorem lp5 {A1 A2 A3 A4 A5 : Type} (W : Nat → A1 → A2 → A3 → A4 → A5 → Prop) (I : A1 → A2 → A3 → A4 → A5 → Prop) (μ : A1 → A2 → A3 → A4 → A5 → Nat) (hs : ∀ (n : Nat) (a1 : A1) (a2 : A2) (a3 : A3) (a4 : A4) (a5 : A5), I a1 a2 a3 a4 a5 → (∀ (b1 : A1) (b2 : A2) (b3 : A3) (b4 : A4) (b5 : A5), I b1 b2 b3 b4 b5 → μ b1 b2 b3 b4 b5 < μ a1 a2 a3 a4 a5 → W n b1 b2 b3 b4 b5) → W (n + 1) a1 a2 a3 a4 a5) (a1 : A1) (a2 : A2) (a3 : A3) (a4 : A4) (a5 : A5) (h : I a1 a2 a3 a4 a5) : ∃ n, W n a1 a2 a3 a4 a5 :=
  loop_m (σ := A1 × A2 × A3 × A4 × A5) (fun n s => W n s.1 s.2.1 s.2.2.1 s.2.2.2.1 s.2.2.2.2) (fun s => I s.1 s.2.1 s.2.2.1 s.2.2.2.1 s.2.2.2.2) (fun s => μ s.1 s.2.1 s.2.2.1 s.2.2.2.1 s.2.2.2.2) (fun n s hI hk => hs n s.1 s.2.1 s.2.2.1 s.2.2.2.1 s.2.2.2.2 hI (fun b1 b2 b3 b4 b5 h9 hm => hk (b1, b2, b3, b4, b5) h9 hm)) (a1, a2, a3, a4, a5) h
theorem lp6 {A1 A2 A3 A4 A5 A6 : Type} (W : Nat → A1 → A2 → A3 → A4 → A5 → A6 → Prop) (I : A1 → A2 → A3 → A4 → A5 → A6 → Prop) (μ : A1 → A2 → A3 → A4 → A5 → A6 → Nat) (hs : ∀ (n : Nat) (a1 : A1) (a2 : A2) (a3 : A3) (a4 : A4) (a5 : A5) (a6 : A6), I a1 a2 a3 a4 a5 a6 → (∀ (b1 : A1) (b2 : A2) (b3 : A3) (b4 : A4) (b5 : A5) (b6 : A6), I b1 b2 b3 b4 b5 b6 → μ b1 b2 b3 b4 b5 b6 < μ a1 a2 a3 a4 a5 a6 → W n b1 b2 b3 b4 b5 b6) → W (n + 1) a1 a2 a3 a4 a5 a6) (a1 : A1) (a2 : A2) (a3 : A3) (a4 : A4) (a5 : A5) (a6 : A6) (h : I a1 a2 a3 a4 a5 a6) : ∃ n, W n a1 a2 a3 a4 a5 a6 :=
  loop_m (σ := A1 × A2 × A3 × A4 × A5 × A6) (fun n s => W n s.1 s.2.1 s.2.2.1 s.2.2.2.1 s.2.2.2.2.1 s.2.2.2.2.2) (fun s => I s.1 s.2.1 s.2.2.1 s.2.2.2.1 s.2.2.2.2.1 s.2.2.2.2.2) (fun s => μ s.1 s.2.1 s.2.2.1 s.2.2.2.1 s.2.2.2.2.1 s.2.2.2.2.2) (fun n s hI hk => hs n s.1 s.2.1 s.2.2.1 s.2.2.2.1 s.2.2.2.2.1 s.2.2.2.2.2 hI (fun b1 b2 b3 b4 b5 b6 h9 hm => hk (b1, b2, b3, b4, b5, b6) h9 hm)) (a1, a2, a3, a4, a5, a6) h
theorem lp7 {A1 A2 A3 A4 A5 A6 A7 : Type} (W : Nat → A1 → A2 → A3 → A4 → A5 → A6 → A7 → Prop) (I : A1 → A2 → A3 → A4 → A5 → A6 → A7 → Prop) (μ : A1 → A2 → A3 → A4 → A5 → A6 → A7 → Nat) (hs : ∀ (n : Nat) (a1 : A1) (a2 : A2) (a3 : A3) (a4 : A4) (a5 : A5) (a6 : A6) (a7 : A7), I a1 a2 a3 a4 a5 a6 a7 → (∀ (b1 : A1) (b2 : A2) (b3 : A3) (b4 : A4) (b5 : A5) (b6 : A6) (b7 : A7), I b1 b2 b3 b4 b5 b6 b7 → μ b1 b2 b3 b4 b5 b6 b7 < μ a1 a2 a3 a4 a5 a6 a7 → W n b1 b2 b3 b4 b5 b6 b7) → W (n + 1) a1 a2 a3 a4 a5 a6 a7) (a1 : A1) (a2 : A2) (a3 : A3) (a4 : A4) (a5 : A5) (a6 : A6) (a7 : A7) (h : I a1 a2 a3 a4 a5 a6 a7) : ∃ n, W n a1 a2 a3 a4 a5 a6 a7 :=
  loop_m (σ := A1 × A2 × A3 × A4 × A5 × A6 × A7) (fun n s => W n s.1 s.2.1 s.2.2.1 s.2.2.2.1 s.2.2.2.2.1 s.2.2.2.2.2.1 s.2.2.2.2.2.2) (fun s => I s.1 s.2.1 s.2.2.1 s.2.2.2.1 s.2.2.2.2.1 s.2.2.2.2.2.1 s.2.2.2.2.2.2) (fun s => μ s.1 s.2.1 s.2.2.1 s.2.2.2.1 s.2.2.2.2.1 s.2.2.2.2.2.1 s.2.2.2.2.2.2) (fun n s hI hk => hs n s.1 s.2.1 s.2.2.1 s.2.2.2.1 s.2.2.2.2.1 s.2.2.2.2.2.1 s.2.2.2.2.2.2 hI (fun b1 b2 b3 b4 b5 b6 b7 h9 hm => hk (b1, b2, b3, b4, b5, b6, b7) h9 hm)) (a1, a2, a3, a4, a5, a6, a7) h
theorem lp8 {A1 A2 A3 A4 A5 A6 A7 A8 : Type} (W : Nat → A1 → A2 → A3 → A4 → A5 → A6 → A7 → A8 → Prop) (I : A1 → A2 → A3 → A4 → A5 → A6 → A7 → A8 → Prop) (μ : A1 → A2 → A3 → A4 → A5 → A6 → A7 → A8 → Nat) (hs : ∀ (n : Nat) (a1 : A1) (a2 : A2) (a3 : A3) (a4 : A4) (a5 : A5) (a6 : A6) (a7 : A7) (a8 : A8), I a1 a2 a3 a4 a5 a6 a7 a8 → (∀ (b1 : A1) (b2 : A2) (b3 : A3) (b4 : A4) (b5 : A5) (b6 : A6) (b7 : A7) (b8 : A8), I b1 b2 b3 b4 b5 b6 b7 b8 → μ b1 b2 b3 b4 b5 b6 b7 b8 < μ a1 a2 a3 a4 a5 a6 a7 a8 → W n b1 b2 b3 b4 b5 b6 b7 b8) → W (n + 1) a1 a2 a3 a4 a5 a6 a7 a8) (a1 : A1) (a2 : A2) (a3 : A3) (a4 : A4) (a5 : A5) (a6 : A6) (a7 : A7) (a8 : A8) (h : I a1 a2 a3 a4 a5 a6 a7 a8) : ∃ n, W n a1 a2 a3 a4 a5 a6 a7 a8 :=
  loop_m (σ := A1 × A2 × A3 × A4 × A5 × A6 × A7 × A8) (fun n s => W n s.1 s.2.1 s.2.2.1 s.2.2.2.1 s.2.2.2.2.1 s.2.2.2.2.2.1 s.2.2.2.2.2.2.1 s.2.2.2.2.2.2.2) (fun s => I s.1 s.2.1 s.2.2.1 s.2.2.2.1 s.2.2.2.2.1 s.2.2.2.2.2.1 s.2.2.2.2.2.2.1 s.2.2.2.2.2.2.2) (fun s => μ s.1 s.2.1 s.2.2.1 s.2.2.2.1 s.2.2.2.2.1 s.2.2.2.2.2.1 s.2.2.2.2.2.2.1 s.2.2.2.2.2.2.2) (fun n s hI hk => hs n s.1 s.2.1 s.2.2.1 s.2.2.2.1 s.2.2.2.2.1 s.2.2.2.2.2.1 s.2.2.2.2.2.2.1 s.2.2.2.2.2.2.2 hI (fun b1 b2 b3 b4 b5 b6 b7 b8 h9 hm => hk (b1, b2, b3, b4, b5, b6, b7, b8) h9 hm)) (a1, a2, a3, a4, a5, a6, a7, a8) h
theorem lp9 {A1 A2 A3 A4 A5 A6 A7 A8 A9 : Type} (W : Nat → A1 → A2 → A3 → A4 → A5 → A6 → A7 → A8 → A9 → Prop) (I : A1 → A2 → A3 → A4 → A5 → A6 → A7 → A8 → A9 → Prop) (μ : A1 → A2 → A3 → A4 → A5 → A6 → A7 → A8 → A9 → Nat) (hs : ∀ (n : Nat) (a1 : A1) (a2 : A2) (a3 : A3) (a4 : A4) (a5 : A5) (a6 : A6) (a7 : A7) (a8 : A8) (a9 : A9), I a1 a2 a3 a4 a5 a6 a7 a8 a9 → (∀ (b1 : A1) (b2 : A2) (b3 : A3) (b4 : A4) (b5 : A5) (b6 : A6) (b7 : A7) (b8 : A8) (b9 : A9), I b1 b2 b3 b4 b5 b6 b7 b8 b9 → μ b1 b2 b3 b4 b5 b6 b7 b8 b9 < μ a1 a2 a3 a4 a5 a6 a7 a8 a9 → W n b1 b2 b3 b4 b5 b6 b7 b8 b9) → W (n + 1) a1 a2 a3 a4 a5 a6 a7 a8 a9) (a1 : A1) (a2 : A2) (a3 : A3) (a4 : A4) (a5 : A5) (a6 : A6) (a7 : A7) (a8 : A8) (a9 : A9) (h : I a1 a2 a3 a4 a5 a6 a7 a8 a9) : ∃ n, W n a1 a2 a3 a4 a5 a6 a7 a8 a9 :=
  loop_m (σ := A1 × A2 × A3 × A4 × A5 × A6 × A7 × A8 × A9) (fun n s => W n s.1 s.2.1 s.2.2.1 s.2.2.2.1 s.2.2.2.2.1 s.2.2.2.2.2.1 s.2.2.2.2.2.2.1 s.2.2.2.2.2.2.2.1 s.2.2.2.2.2.2.2.2) (fun s => I s.1 s.2.1 s.2.2.1 s.2.2.2.1 s.2.2.2.2.1 s.2.2.2.2.2.1 s.2.2.2.2.2.2.1 s.2.2.2.2.2.2.2.1 s.2.2.2.2.2.2.2.2) (fun s => μ s.1 s.2.1 s.2.2.1 s.2.2.2.1 s.2.2.2.2.1 s.2.2.2.2.2.1 s.2.2.2.2.2.2.1 s.2.2.2.2.2.2.2.1 s.2.2.2.2.2.2.2.2) (fun n s hI hk => hs n s.1 s.2.1 s.2.2.1 s.2.2.2.1 s.2.2.2.2.1 s.2.2.2.2.2.1 s.2.2.2.2.2.2.1 s.2.2.2.2.2.2.2.1 s.2.2.2.2.2.2.2.2 hI (fun b1 b2 b3 b4 b5 b6 b7 b8 b9 h9 hm => hk (b1, b2, b3, b4, b5, b6, b7, b8, b9) h9 hm)) (a1, a2, a3, a4, a5, a6, a7, a8, a9) h
theorem lp10 {A1 A2 A3 A4 A5 A6 A7 A8 A9 A10 : Type} (W : Nat → A1 → A2 → A3 → A4 → A5 → A6 → A7 → A8 → A9 → A10 → Prop) (I : A1 → A2 → A3 → A4 → A5 → A6 → A7 → A8 → A9 → A10 → Prop) (μ : A1 → A2 → A3 → A4 → A5 → A6 → A7 → A8 → A9 → A10 → Nat) (hs : ∀ (n : Nat) (a1 : A1) (a2 : A2) (a3 : A3) (a4 : A4) (a5 : A5) (a6 : A6) (a7 : A7) (a8 : A8) (a9 : A9) (a10 : A10), I a1 a2 a3 a4 a5 a6 a7 a8 a9 a10 → (∀ (b1 : A1) (b2 : A2) (b3 : A3) (b4 : A4) (b5 : A5) (b6 : A6) (b7 : A7) (b8 : A8) (b9 : A9) (b10 : A10), I b1 b2 b3 b4 b5 b6 b7 b8 b9 b10 → μ b1 b2 b3 b4 b5 b6 b7 b8 b9 b10 < μ a1 a2 a3 a4 a5 a6 a7 a8 a9 a10 → W n b1 b2 b3 b4 b5 b6 b7 b8 b9 b10) → W (n + 1) a1 a2 a3 a4 a5 a6 a7 a8 a9 a10) (a1 : A1) (a2 : A2) (a3 : A3) (a4 : A4) (a5 : A5) (a6 : A6) (a7 : A7) (a8 : A8) (a9 : A9) (a10 : A10) (h : I a1 a2 a3 a4 a5 a6 a7 a8 a9 a10) : ∃ n, W n a1 a2 a3 a4 a5 a6 a7 a8 a9 a10 :=
  loop_m (σ := A1 × A2 × A3 × A4 × A5 × A6 × A7 × A8 × A9 × A10) (fun n s => W n s.1 s.2.1 s.2.2.1 s.2.2.2.1 s.2.2.2.2.1 s.2.2.2.2.2.1 s.2.2.2.2.2.2.1 s.2.2.2.2.2.2.2.1 s.2.2.2.2.2.2.2.2.1 s.2.2.2.2.2.2.2.2.2) (fun s => I s.1 s.2.1 s.2.2.1 s.2.2.2.1 s.2.2.2.2.1 s.2.2.2.2.2.1 s.2.2.2.2.2.2.1 s.2.2.2.2.2.2.2.1 s.2.2.2.2.2.2.2.2.1 s.2.2.2.2.2.2.2.2.2) (fun s => μ s.1 s.2.1 s.2.2.1 s.2.2.2.1 s.2.2.2.2.1 s.2.2.2.2.2.1 s.2.2.2.2.2.2.1 s.2.2.2.2.2.2.2.1 s.2.2.2.2.2.2.2.2.1 s.2.2.2.2.2.2.2.2.2) (fun n s hI hk => hs n s.1 s.2.1 s.2.2.1 s.2.2.2.1 s.2.2.2.2.1 s.2.2.2.2.2.1 s.2.2.2.2.2.2.1 s.2.2.2.2.2.2.2.1 s.2.2.2.2.2.2.2.2.1 s.2.2.2.2.2.2.2.2.2 hI (fun b1 b2 b3 b4 b5 b6 b7 b8 b9 b10 h9 hm => hk (b1, b2, b3, b4, b5, b6, b7, b8, b9, b10) h9 hm)) (a1, a2, a3, a4, a5, a6, a7, a8, a9, a10) h
theorem lp11 {A1 A2 A3 A4 A5 A6 A7 A8 A9 A10 A11 : Type} (W : Nat → A1 → A2 → A3 → A4 → A5 → A6 → A7 → A8 → A9 → A10 → A11 → Prop) (I : A1 → A2 → A3 → A4 → A5 → A6 → A7 → A8 → A9 → A10 → A11 → Prop) (μ : A1 → A2 → A3 → A4 → A5 → A6 → A7 → A8 → A9 → A10 → A11 → Nat) (hs : ∀ (n : Nat) (a1 : A1) (a2 : A2) (a3 : A3) (a4 : A4) (a5 : A5) (a6 : A6) (a7 : A7) (a8 : A8) (a9 : A9) (a10 : A10) (a11 : A11), I a1 a2 a3 a4 a5 a6 a7 a8 a9 a10 a11 → (∀ (b1 : A1) (b2 : A2) (b3 : A3) (b4 : A4) (b5 : A5) (b6 : A6) (b7 : A7) (b8 : A8) (b9 : A9) (b10 : A10) (b11 : A11), I b1 b2 b3 b4 b5 b6 b7 b8 b9 b10 b11 → μ b1 b2 b3 b4 b5 b6 b7 b8 b9 b10 b11 < μ a1 a2 a3 a4 a5 a6 a7 a8 a9 a10 a11 → W n b1 b2 b3 b4 b5 b6 b7 b8 b9 b10 b11) → W (n + 1) a1 a2 a3 a4 a5 a6 a7 a8 a9 a10 a11) (a1 : A1) (a2 : A2) (a3 : A3) (a4 : A4) (a5 : A5) (a6 : A6) (a7 : A7) (a8 : A8) (a9 : A9) (a10 : A10) (a11 : A11) (h : I a1 a2 a3 a4 a5 a6 a7 a8 a9 a10 a11) : ∃ n, W n a1 a2 a3 a4 a5 a6 a7 a8 a9 a10 a11 :=
  loop_m (σ := A1 × A2 × A3 × A4 × A5 × A6 × A7 × A8 × A9 × A10 × A11) (fun n s => W n s.1 s.2.1 s.2.2.1 s.2.2.2.1 s.2.2.2.2.1 s.2.2.2.2.2.1 s.2.2.2.2.2.2.1 s.2.2.2.2.2.2.2.1 s.2.2.2.2.2.2.2.2.1 s.2.2.2.2.2.2.2.2.2.1 s.2.2.2.2.2.2.2.2.2.2) (fun s => I s.1 s.2.1 s.2.2.1 s.2.2.2.1 s.2.2.2.2.1 s.2.2.2.2.2.1 s.2.2.2.2.2.2.1 s.2.2.2.2.2.2.2.1 s.2.2.2.2.2.2.2.2.1 s.2.2.2.2.2.2.2.2.2.1 s.2.2.2.2.2.2.2.2.2.2) (fun s => μ s.1 s.2.1 s.2.2.1 s.2.2.2.1 s.2.2.2.2.1 s.2.2.2.2.2.1 s.2.2.2.2.2.2.1 s.2.2.2.2.2.2.2.1 s.2.2.2.2.2.2.2.2.1 s.2.2.2.2.2.2.2.2.2.1 s.2.2.2.2.2.2.2.2.2.2) (fun n s hI hk => hs n s.1 s.2.1 s.2.2.1 s.2.2.2.1 s.2.2.2.2.1 s.2.2.2.2.2.1 s.2.2.2.2.2.2.1 s.2.2.2.2.2.2.2.1 s.2.2.2.2.2.2.2.2.1 s.2.2.2.2.2.2.2.2.2.1 s.2.2.2.2.2.2.2.2.2.2 hI (fun b1 b2 b3 b4 b5 b6 b7 b8 b9 b10 b11 h9 hm => hk (b1, b2, b3, b4, b5, b6, b7, b8, b9, b10, b11) h9 hm)) (a1, a2, a3, a4, a5, a6, a7, a8, a9, a10, a11) h
theorem lp12 {A1 A2 A3 A4 A5 A6 A7 A8 A9 A10 A11 A12 : Type} (W : Nat → A1 → A2 → A3 → A4 → A5 → A6 → A7 → A8 → A9 → A10 → A11 → A12 → Prop) (I : A1 → A2 → A3 → A4 → A5 → A6 → A7 → A8 → A9 → A10 → A11 → A12 → Prop) (μ : A1 → A2 → A3 → A4 → A5 → A6 → A7 → A8 → A9 → A10 → A11 → A12 → Nat) (hs : ∀ (n : Nat) (a1 : A1) (a2 : A2) (a3 : A3) (a4 : A4) (a5 : A5) (a6 : A6) (a7 : A7) (a8 : A8) (a9 : A9) (a10 : A10) (a11 : A11) (a12 : A12), I a1 a2 a3 a4 a5 a6 a7 a8 a9 a10 a11 a12 → (∀ (b1 : A1) (b2 : A2) (b3 : A3) (b4 : A4) (b5 : A5) (b6 : A6) (b7 : A7) (b8 : A8) (b9 : A9) (b10 : A10) (b11 : A11) (b12 : A12), I b1 b2 b3 b4 b5 b6 b7 b8 b9 b10 b11 b12 → μ b1 b2 b3 b4 b5 b6 b7 b8 b9 b10 b11 b12 < μ a1 a2 a3 a4 a5 a6 a7 a8 a9 a10 a11 a12 → W n b1 b2 b3 b4 b5 b6 b7 b8 b9 b10 b11 b12) → W (n + 1) a1 a2 a3 a4 a5 a6 a7 a8 a9 a10 a11 a12) (a1 : A1) (a2 : A2) (a3 : A3) (a4 : A4) (a5 : A5) (a6 : A6) (a7 : A7) (a8 : A8) (a9 : A9) (a10 : A10) (a11 : A11) (a12 : A12) (h : I a1 a2 a3 a4 a5 a6 a7 a8 a9 a10 a11 a12) : ∃ n, W n a1 a2 a3 a4 a5 a6 a7 a8 a9 a10 a11 a12 :=
  loop_m (σ := A1 × A2 × A3 × A4 × A5 × A6 × A7 × A8 × A9 × A10 × A11 × A12) (fun n s => W n s.1 s.2.1 s.2.2.1 s.2.2.2.1 s.2.2.2.2.1 s.2.2.2.2.2.1 s.2.2.2.2.2.2.1 s.2.2.2.2.2.2.2.1 s.2.2.2.2.2.2.2.2.1 s.2.2.2.2.2.2.2.2.2.1 s.2.2.2.2.2.2.2.2.2.2.1 s.2.2.2.2.2.2.2.2.2.2.2) (fun s => I s.1 s.2.1 s.2.2.1 s.2.2.2.1 s.2.2.2.2.1 s.2.2.2.2.2.1 s.2.2.2.2.2.2.1 s.2.2.2.2.2.2.2.1 s.2.2.2.2.2.2.2.2.1 s.2.2.2.2.2.2.2.2.2.1 s.2.2.2.2.2.2.2.2.2.2.1 s.2.2.2.2.2.2.2.2.2.2.2) (fun s => μ s.1 s.2.1 s.2.2.1 s.2.2.2.1 s.2.2.2.2.1 s.2.2.2.2.2.1 s.2.2.2.2.2.2.1 s.2.2.2.2.2.2.2.1 s.2.2.2.2.2.2.2.2.1 s.2.2.2.2.2.2.2.2.2.1 s.2.2.2.2.2.2.2.2.2.2.1 s.2.2.2.2.2.2.2.2.2.2.2) (fun n s hI hk => hs n s.1 s.2.1 s.2.2.1 s.2.2.2.1 s.2.2.2.2.1 s.2.2.2.2.2.1 s.2.2.2.2.2.2.1 s.2.2.2.2.2.2.2.1 s.2.2.2.2.2.2.2.2.1 s.2.2.2.2.2.2.2.2.2.1 s.2.2.2.2.2.2.2.2.2.2.1 s.2.2.2.2.2.2.2.2.2.2.2 hI (fun b1 b2 b3 b4 b5 b6 b7 b8 b9 b10 b11 b12 h9 hm => hk (b1, b2, b3, b4, b5, b6, b7, b8, b9, b10, b11, b12) h9 hm)) (a1, a2, a3, a4, a5, a6, a7, a8, a9, a10, a11, a12) h
theorem lp13 {A1 A2 A3 A4 A5 A6 A7 A8 A9 A10 A11 A12 A13 : Type} (W : Nat → A1 → A2 → A3 → A4 → A5 → A6 → A7 → A8 → A9 → A10 → A11 → A12 → A13 → Prop) (I : A1 → A2 → A3 → A4 → A5 → A6 → A7 → A8 → A9 → A10 → A11 → A12 → A13 → Prop) (μ : A1 → A2 → A3 → A4 → A5 → A6 → A7 → A8 → A9 → A10 → A11 → A12 → A13 → Nat) (hs : ∀ (n : Nat) (a1 : A1) (a2 : A2) (a3 : A3) (a4 : A4) (a5 : A5) (a6 : A6) (a7 : A7) (a8 : A8) (a9 : A9) (a10 : A10) (a11 : A11) (a12 : A12) (a13 : A13), I a1 a2 a3 a4 a5 a6 a7 a8 a9 a10 a11 a12 a13 → (∀ (b1 : A1) (b2 : A2) (b3 : A3) (b4 : A4) (b5 : A5) (b6 : A6) (b7 : A7) (b8 : A8) (b9 : A9) (b10 : A10) (b11 : A11) (b12 : A12) (b13 : A13), I b1 b2 b3 b4 b5 b6 b7 b8 b9 b10 b11 b12 b13 → μ b1 b2 b3 b4 b5 b6 b7 b8 b9 b10 b11 b12 b13 < μ a1 a2 a3 a4 a5 a6 a7 a8 a9 a10 a11 a12 a13 → W n b1 b2 b3 b4 b5 b6 b7 b8 b9 b10 b11 b12 b13) → W (n + 1) a1 a2 a3 a4 a5 a6 a7 a8 a9 a10 a11 a12 a13) (a1 : A1) (a2 : A2) (a3 : A3) (a4 : A4) (a5 : A5) (a6 : A6) (a7 : A7) (a8 : A8) (a9 : A9) (a10 : A10) (a11 : A11) (a12 : A12) (a13 : A13) (h : I a1 a2 a3 a4 a5 a6 a7 a8 a9 a10 a11 a12 a13) : ∃ n, W n a1 a2 a3 a4 a5 a6 a7 a8 a9 a10 a11 a12 a13 :=
  loop_m (σ := A1 × A2 × A3 × A4 × A5 × A6 × A7 × A8 × A9 × A10 × A11 × A12 × A13) (fun n s => W n s.1 s.2.1 s.2.2.1 s.2.2.2.1 s.2.2.2.2.1 s.2.2.2.2.2.1 s.2.2.2.2.2.2.1 s.2.2.2.2.2.2.2.1 s.2.2.2.2.2.2.2.2.1 s.2.2.2.2.2.2.2.2.2.1 s.2.2.2.2.2.2.2.2.2.2.1 s.2.2.2.2.2.2.2.2.2.2.2.1 s.2.2.2.2.2.2.2.2.2.2.2.2) (fun s => I s.1 s.2.1 s.2.2.1 s.2.2.2.1 s.2.2.2.2.1 s.2.2.2.2.2.1 s.2.2.2.2.2.2.1 s.2.2.2.2.2.2.2.1 s.2.2.2.2.2.2.2.2.1 s.2.2.2.2.2.2.2.2.2.1 s.2.2.2.2.2.2.2.2.2.2.1 s.2.2.2.2.2.2.2.2.2.2.2.1 s.2.2.2.2.2.2.2.2.2.2.2.2) (fun s => μ s.1 s.2.1 s.2.2.1 s.2.2.2.1 s.2.2.2.2.1 s.2.2.2.2.2.1 s.2.2.2.2.2.2.1 s.2.2.2.2.2.2.2.1 s.2.2.2.2.2.2.2.2.1 s.2.2.2.2.2.2.2.2.2.1 s.2.2.2.2.2.2.2.2.2.2.1 s.2.2.2.2.2.2.2.2.2.2.2.1 s.2.2.2.2.2.2.2.2.2.2.2.2) (fun n s hI hk => hs n s.1 s.2.1 s.2.2.1 s.2.2.2.1 s.2.2.2.2.1 s.2.2.2.2.2.1 s.2.2.2.2.2.2.1 s.2.2.2.2.2.2.2.1 s.2.2.2.2.2.2.2.2.1 s.2.2.2.2.2.2.2.2.2.1 s.2.2.2.2.2.2.2.2.2.2.1 s.2.2.2.2.2.2.2.2.2.2.2.1 s.2.2.2.2.2.2.2.2.2.2.2.2 hI (fun b1 b2 b3 b4 b5 b6 b7 b8 b9 b10 b11 b12 b13 h9 hm => hk (b1, b2, b3, b4, b5, b6, b7, b8, b9, b10, b11, b12, b13) h9 hm)) (a1, a2, a3, a4, a5, a6, a7, a8, a9, a10, a11, a12, a13) h
theorem lp14 {A1 A2 A3 A4 A5 A6 A7 A8 A9 A10 A11 A12 A13 A14 : Type} (W : Nat → A1 → A2 → A3 → A4 → A5 → A6 → A7 → A8 → A9 → A10 → A11 → A12 → A13 → A14 → Prop) (I : A1 → A2 → A3 → A4 → A5 → A6 → A7 → A8 → A9 → A10 → A11 → A12 → A13 → A14 → Prop) (μ : A1 → A2 → A3 → A4 → A5 → A6 → A7 → A8 → A9 → A10 → A11 → A12 → A13 → A14 → Nat) (hs : ∀ (n : Nat) (a1 : A1) (a2 : A2) (a3 : A3) (a4 : A4) (a5 : A5) (a6 : A6) (a7 : A7) (a8 : A8) (a9 : A9) (a10 : A10) (a11 : A11) (a12 : A12) (a13 : A13) (a14 : A14), I a1 a2 a3 a4 a5 a6 a7 a8 a9 a10 a11 a12 a13 a14 → (∀ (b1 : A1) (b2 : A2) (b3 : A3) (b4 : A4) (b5 : A5) (b6 : A6) (b7 : A7) (b8 : A8) (b9 : A9) (b10 : A10) (b11 : A11) (b12 : A12) (b13 : A13) (b14 : A14), I b1 b2 b3 b4 b5 b6 b7 b8 b9 b10 b11 b12 b13 b14 → μ b1 b2 b3 b4 b5 b6 b7 b8 b9 b10 b11 b12 b13 b14 < μ a1 a2 a3 a4 a5 a6 a7 a8 a9 a10 a11 a12 a13 a14 → W n b1 b2 b3 b4 b5 b6 b7 b8 b9 b10 b11 b12 b13 b14) → W (n + 1) a1 a2 a3 a4 a5 a6 a7 a8 a9 a10 a11 a12 a13 a14) (a1 : A1) (a2 : A2) (a3 : A3) (a4 : A4) (a5 : A5) (a6 : A6) (a7 : A7) (a8 : A8) (a9 : A9) (a10 : A10) (a11 : A11) (a12 : A12) (a13 : A13) (a14 : A14) (h : I a1 a2 a3 a4 a5 a6 a7 a8 a9 a10 a11 a12 a13 a14) : ∃ n, W n a1 a2 a3 a4 a5 a6 a7 a8 a9 a10 a11 a12 a13 a14 :=
  loop_m (σ := A1 × A2 × A3 × A4 × A5 × A6 × A7 × A8 × A9 × A10 × A11 × A12 × A13 × A14) (fun n s => W n s.1 s.2.1 s.2.2.1 s.2.2.2.1 s.2.2.2.2.1 s.2.2.2.2.2.1 s.2.2.2.2.2.2.1 s.2.2.2.2.2.2.2.1 s.2.2.2.2.2.2.2.2.1 s.2.2.2.2.2.2.2.2.2.1 s.2.2.2.2.2.2.2.2.2.2.1 s.2.2.2.2.2.2.2.2.2.2.2.1 s.2.2.2.2.2.2.2.2.2.2.2.2.1 s.2.2.2.2.2.2.2.2.2.2.2.2.2) (fun s => I s.1 s.2.1 s.2.2.1 s.2.2.2.1 s.2.2.2.2.1 s.2.2.2.2.2.1 s.2.2.2.2.2.2.1 s.2.2.2.2.2.2.2.1 s.2.2.2.2.2.2.2.2.1 s.2.2.2.2.2.2.2.2.2.1 s.2.2.2.2.2.2.2.2.2.2.1 s.2.2.2.2.2.2.2.2.2.2.2.1 s.2.2.2.2.2.2.2.2.2.2.2.2.1 s.2.2.2.2.2.2.2.2.2.2.2.2.2) (fun s => μ s.1 s.2.1 s.2.2.1 s.2.2.2.1 s.2.2.2.2.1 s.2.2.2.2.2.1 s.2.2.2.2.2.2.1 s.2.2.2.2.2.2.2.1 s.2.2.2.2.2.2.2.2.1 s.2.2.2.2.2.2.2.2.2.1 s.2.2.2.2.2.2.2.2.2.2.1 s.2.2.2.2.2.2.2.2.2.2.2.1 s.2.2.2.2.2.2.2.2.2.2.2.2.1 s.2.2.2.2.2.2.2.2.2.2.2.2.2) (fun n s hI hk => hs n s.1 s.2.1 s.2.2.1 s.2.2.2.1 s.2.2.2.2.1 s.2.2.2.2.2.1 s.2.2.2.2.2.2.1 s.2.2.2.2.2.2.2.1 s.2.2.2.2.2.2.2.2.1 s.2.2.2.2.2.2.2.2.2.1 s.2.2.2.2.2.2.2.2.2.2.1 s.2.2.2.2.2.2.2.2.2.2.2.1 s.2.2.2.2.2.2.2.2.2.2.2.2.1 s.2.2.2.2.2.2.2.2.2.2.2.2.2 hI (fun b1 b2 b3 b4 b5 b6 b7 b8 b9 b10 b11 b12 b13 b14 h9 hm => hk (b1, b2, b3, b4, b5, b6, b7, b8, b9, b10, b11, b12, b13, b14) h9 hm)) (a1, a2, a3, a4, a5, a6, a7, a8, a9, a10, a11, a12, a13, a14) h
theorem lp15 {A1 A2 A3 A4 A5 A6 A7 A8 A9 A10 A11 A12 A13 A14 A15 : Type} (W : Nat → A1 → A2 → A3 → A4 → A5 → A6 → A7 → A8 → A9 → A10 → A11 → A12 → A13 → A14 → A15 → Prop) (I : A1 → A2 → A3 → A4 → A5 → A6 → A7 → A8 → A9 → A10 → A11 → A12 → A13 → A14 → A15 → Prop) (μ : A1 → A2 → A3 → A4 → A5 → A6 → A7 → A8 → A9 → A10 → A11 → A12 → A13 → A14 → A15 → Nat) (hs : ∀ (n : Nat) (a1 : A1) (a2 : A2) (a3 : A3) (a4 : A4) (a5 : A5) (a6 : A6) (a7 : A7) (a8 : A8) (a9 : A9) (a10 : A10) (a11 : A11) (a12 : A12) (a13 : A13) (a14 : A14) (a15 : A15), I a1 a2 a3 a4 a5 a6 a7 a8 a9 a10 a11 a12 a13 a14 a15 → (∀ (b1 : A1) (b2 : A2) (b3 : A3) (b4 : A4) (b5 : A5) (b6 : A6) (b7 : A7) (b8 : A8) (b9 : A9) (b10 : A10) (b11 : A11) (b12 : A12) (b13 : A13) (b14 : A14) (b15 : A15), I b1 b2 b3 b4 b5 b6 b7 b8 b9 b10 b11 b12 b13 b14 b15 → μ b1 b2 b3 b4 b5 b6 b7 b8 b9 b10 b11 b12 b13 b14 b15 < μ a1 a2 a3 a4 a5 a6 a7 a8 a9 a10 a11 a12 a13 a14 a15 → W n b1 b2 b3 b4 b5 b6 b7 b8 b9 b10 b11 b12 b13 b14 b15) → W (n + 1) a1 a2 a3 a4 a5 a6 a7 a8 a9 a10 a11 a12 a13 a14 a15) (a1 : A1) (a2 : A2) (a3 : A3) (a4 : A4) (a5 : A5) (a6 : A6) (a7 : A7) (a8 : A8) (a9 : A9) (a10 : A10) (a11 : A11) (a12 : A12) (a13 : A13) (a14 : A14) (a15 : A15) (h : I a1 a2 a3 a4 a5 a6 a7 a8 a9 a10 a11 a12 a13 a14 a15) : ∃ n, W n a1 a2 a3 a4 a5 a6 a7 a8 a9 a10 a11 a12 a13 a14 a15 :=
  loop_m (σ := A1 × A2 × A3 × A4 × A5 × A6 × A7 × A8 × A9 × A10 × A11 × A12 × A13 × A14 × A15) (fun n s => W n s.1 s.2.1 s.2.2.1 s.2.2.2.1 s.2.2.2.2.1 s.2.2.2.2.2.1 s.2.2.2.2.2.2.1 s.2.2.2.2.2.2.2.1 s.2.2.2.2.2.2.2.2.1 s.2.2.2.2.2.2.2.2.2.1 s.2.2.2.2.2.2.2.2.2.2.1 s.2.2.2.2.2.2.2.2.2.2.2.1 s.2.2.2.2.2.2.2.2.2.2.2.2.1 s.2.2.2.2.2.2.2.2.2.2.2.2.2.1 s.2.2.2.2.2.2.2.2.2.2.2.2.2.2) (fun s => I s.1 s.2.1 s.2.2.1 s.2.2.2.1 s.2.2.2.2.1 s.2.2.2.2.2.1 s.2.2.2.2.2.2.1 s.2.2.2.2.2.2.2.1 s.2.2.2.2.2.2.2.2.1 s.2.2.2.2.2.2.2.2.2.1 s.2.2.2.2.2.2.2.2.2.2.1 s.2.2.2.2.2.2.2.2.2.2.2.1 s.2.2.2.2.2.2.2.2.2.2.2.2.1 s.2.2.2.2.2.2.2.2.2.2.2.2.2.1 s.2.2.2.2.2.2.2.2.2.2.2.2.2.2) (fun s => μ s.1 s.2.1 s.2.2.1 s.2.2.2.1 s.2.2.2.2.1 s.2.2.2.2.2.1 s.2.2.2.2.2.2.1 s.2.2.2.2.2.2.2.1 s.2.2.2.2.2.2.2.2.1 s.2.2.2.2.2.2.2.2.2.1 s.2.2.2.2.2.2.2.2.2.2.1 s.2.2.2.2.2.2.2.2.2.2.2.1 s.2.2.2.2.2.2.2.2.2.2.2.2.1 s.2.2.2.2.2.2.2.2.2.2.2.2.2.1 s.2.2.2.2.2.2.2.2.2.2.2.2.2.2) (fun n s hI hk => hs n s.1 s.2.1 s.2.2.1 s.2.2.2.1 s.2.2.2.2.1 s.2.2.2.2.2.1 s.2.2.2.2.2.2.1 s.2.2.2.2.2.2.2.1 s.2.2.2.2.2.2.2.2.1 s.2.2.2.2.2.2.2.2.2.1 s.2.2.2.2.2.2.2.2.2.2.1 s.2.2.2.2.2.2.2.2.2.2.2.1 s.2.2.2.2.2.2.2.2.2.2.2.2.1 s.2.2.2.2.2.2.2.2.2.2.2.2.2.1 s.2.2.2.2.2.2.2.2.2.2.2.2.2.2 hI (fun b1 b2 b3 b4 b5 b6 b7 b8 b9 b10 b11 b12 b13 b14 b15 h9 hm => hk (b1, b2, b3, b4, b5, b6, b7, b8, b9, b10, b11, b12, b13, b14, b15) h9 hm)) (a1, a2, a3, a4, a5, a6, a7, a8, a9, a10, a11, a12, a13, a14, a15) h
theorem lp16 {A1 A2 A3 A4 A5 A6 A7 A8 A9 A10 A11 A12 A13 A14 A15 A16 : Type} (W : Nat → A1 → A2 → A3 → A4 → A5 → A6 → A7 → A8 → A9 → A10 → A11 → A12 → A13 → A14 → A15 → A16 → Prop) (I : A1 → A2 → A3 → A4 → A5 → A6 → A7 → A8 → A9 → A10 → A11 → A12 → A13 → A14 → A15 → A16 → Prop) (μ : A1 → A2 → A3 → A4 → A5 → A6 → A7 → A8 → A9 → A10 → A11 → A12 → A13 → A14 → A15 → A16 → Nat) (hs : ∀ (n : Nat) (a1 : A1) (a2 : A2) (a3 : A3) (a4 : A4) (a5 : A5) (a6 : A6) (a7 : A7) (a8 : A8) (a9 : A9) (a10 : A10) (a11 : A11) (a12 : A12) (a13 : A13) (a14 : A14) (a15 : A15) (a16 : A16), I a1 a2 a3 a4 a5 a6 a7 a8 a9 a10 a11 a12 a13 a14 a15 a16 → (∀ (b1 : A1) (b2 : A2) (b3 : A3) (b4 : A4) (b5 : A5) (b6 : A6) (b7 : A7) (b8 : A8) (b9 : A9) (b10 : A10) (b11 : A11) (b12 : A12) (b13 : A13) (b14 : A14) (b15 : A15) (b16 : A16), I b1 b2 b3 b4 b5 b6 b7 b8 b9 b10 b11 b12 b13 b14 b15 b16 → μ b1 b2 b3 b4 b5 b6 b7 b8 b9 b10 b11 b12 b13 b14 b15 b16 < μ a1 a2 a3 a4 a5 a6 a7 a8 a9 a10 a11 a12 a13 a14 a15 a16 → W n b1 b2 b3 b4 b5 b6 b7 b8 b9 b10 b11 b12 b13 b14 b15 b16) → W (n + 1) a1 a2 a3 a4 a5 a6 a7 a8 a9 a10 a11 a12 a13 a14 a15 a16) (a1 : A1) (a2 : A2) (a3 : A3) (a4 : A4) (a5 : A5) (a6 : A6) (a7 : A7) (a8 : A8) (a9 : A9) (a10 : A10) (a11 : A11) (a12 : A12) (a13 : A13) (a14 : A14) (a15 : A15) (a16 : A16) (h : I a1 a2 a3 a4 a5 a6 a7 a8 a9 a10 a11 a12 a13 a14 a15 a16) : ∃ n, W n a1 a2 a3 a4 a5 a6 a7 a8 a9 a10 a11 a12 a13 a14 a15 a16 :=
  loop_m (σ := A1 × A2 × A3 × A4 × A5 × A6 × A7 × A8 × A9 × A10 × A11 × A12 × A13 × A14 × A15 × A16) (fun n s => W n s.1 s.2.1 s.2.2.1 s.2.2.2.1 s.2.2.2.2.1 s.2.2.2.2.2.1 s.2.2.2.2.2.2.1 s.2.2.2.2.2.2.2.1 s.2.2.2.2.2.2.2.2.1 s.2.2.2.2.2.2.2.2.2.1 s.2.2.2.2.2.2.2.2.2.2.1 s.2.2.2.2.2.2.2.2.2.2.2.1 s.2.2.2.2.2.2.2.2.2.2.2.2.1 s.2.2.2.2.2.2.2.2.2.2.2.2.2.1 s.2.2.2.2.2.2.2.2.2.2.2.2.2.2.1 s.2.2.2.2.2.2.2.2.2.2.2.2.2.2.2) (fun s => I s.1 s.2.1 s.2.2.1 s.2.2.2.1 s.2.2.2.2.1 s.2.2.2.2.2.1 s.2.2.2.2.2.2.1 s.2.2.2.2.2.2.2.1 s.2.2.2.2.2.2.2.2.1 s.2.2.2.2.2.2.2.2.2.1 s.2.2.2.2.2.2.2.2.2.2.1 s.2.2.2.2.2.2.2.2.2.2.2.1 s.2.2.2.2.2.2.2.2.2.2.2.2.1 s.2.2.2.2.2.2.2.2.2.2.2.2.2.1 s.2.2.2.2.2.2.2.2.2.2.2.2.2.2.1 s.2.2.2.2.2.2.2.2.2.2.2.2.2.2.2) (fun s => μ s.1 s.2.1 s.2.2.1 s.2.2.2.1 s.2.2.2.2.1 s.2.2.2.2.2.1 s.2.2.2.2.2.2.1 s.2.2.2.2.2.2.2.1 s.2.2.2.2.2.2.2.2.1 s.2.2.2.2.2.2.2.2.2.1 s.2.2.2.2.2.2.2.2.2.2.1 s.2.2.2.2.2.2.2.2.2.2.2.1 s.2.2.2.2.2.2.2.2.2.2.2.2.1 s.2.2.2.2.2.2.2.2.2.2.2.2.2.1 s.2.2.2.2.2.2.2.2.2.2.2.2.2.2.1 s.2.2.2.2.2.2.2.2.2.2.2.2.2.2.2) (fun n s hI hk => hs n s.1 s.2.1 s.2.2.1 s.2.2.2.1 s.2.2.2.2.1 s.2.2.2.2.2.1 s.2.2.2.2.2.2.1 s.2.2.2.2.2.2.2.1 s.2.2.2.2.2.2.2.2.1 s.2.2.2.2.2.2.2.2.2.1 s.2.2.2.2.2.2.2.2.2.2.1 s.2.2.2.2.2.2.2.2.2.2.2.1 s.2.2.2.2.2.2.2.2.2.2.2.2.1 s.2.2.2.2.2.2.2.2.2.2.2.2.2.1 s.2.2.2.2.2.2.2.2.2.2.2.2.2.2.1 s.2.2.2.2.2.2.2.2.2.2.2.2.2.2.2 hI (fun b1 b2 b3 b4 b5 b6 b7 b8 b9 b10 b11 b12 b13 b14 b15 b16 h9 hm => hk (b1, b2, b3, b4, b5, b6, b7, b8, b9, b10, b11, b12, b13, b14, b15, b16) h9 hm)) (a1, a2, a3, a4, a5, a6, a7, a8, a9, a10, a11, a12, a13, a14, a15, a16) h
theorem pk_least (P : Nat → Prop) (h : ∃ k, P k) : ∃ k, P k ∧ ∀ j, j < k → ¬ P j := by
  obtain ⟨k, hk⟩ := h
  induction k using Nat.strongRecOn with
  | ind k ih =>
    by_cases e : ∃ j, j < k ∧ P j
    · obtain ⟨j, hj, pj⟩ := e
      exact ih j hj pj
    · exact ⟨k, hk, fun j hj pj => e ⟨j, hj, pj⟩⟩
theorem rp1 {ρ A1 : Type} (W : Nat → (ρ → Prop) → A1 → Prop) (ok : A1 → Prop) (μ : A1 → Nat) (val : A1 → ρ)
    (hs : ∀ (d : Nat) (post : ρ → Prop) (a1 : A1), ok a1 → post (val a1) → (∀ (post' : ρ → Prop) (b1 : A1), ok b1 → μ b1 < μ a1 → post' (val b1) → W d post' b1) → W (d + 1) post a1) :
    ∀ (d : Nat) (post : ρ → Prop) (a1 : A1), ok a1 → μ a1 < d → post (val a1) → W d post a1 := by
  intro d
  induction d with
  | zero => intro post a1 _ h; omega
  | succ d ih =>
    intro post a1 ho hm hp
    exact hs d post a1 ho hp (fun post' b1 ho' hm' hp' => ih post' b1 ho' (by omega) hp')
theorem rp2 {ρ A1 A2 : Type} (W : Nat → (ρ → Prop) → A1 → A2 → Prop) (ok : A1 → A2 → Prop) (μ : A1 → A2 → Nat) (val : A1 → A2 → ρ)
    (hs : ∀ (d : Nat) (post : ρ → Prop) (a1 : A1) (a2 : A2), ok a1 a2 → post (val a1 a2) → (∀ (post' : ρ → Prop) (b1 : A1) (b2 : A2), ok b1 b2 → μ b1 b2 < μ a1 a2 → post' (val b1 b2) → W d post' b1 b2) → W (d + 1) post a1 a2) :
    ∀ (d : Nat) (post : ρ → Prop) (a1 : A1) (a2 : A2), ok a1 a2 → μ a1 a2 < d → post (val a1 a2) → W d post a1 a2 := by
  intro d
  induction d with
  | zero => intro post a1 a2 _ h; omega
  | succ d ih =>
    intro post a1 a2 ho hm hp
    exact hs d post a1 a2 ho hp (fun post' b1 b2 ho' hm' hp' => ih post' b1 b2 ho' (by omega) hp')
theorem rp3 {ρ A1 A2 A3 : Type} (W : Nat → (ρ → Prop) → A1 → A2 → A3 → Prop) (ok : A1 → A2 → A3 → Prop) (μ : A1 → A2 → A3 → Nat) (val : A1 → A2 → A3 → ρ)
    (hs : ∀ (d : Nat) (post : ρ → Prop) (a1 : A1) (a2 : A2) (a3 : A3), ok a1 a2 a3 → post (val a1 a2 a3) → (∀ (post' : ρ → Prop) (b1 : A1) (b2 : A2) (b3 : A3), ok b1 b2 b3 → μ b1 b2 b3 < μ a1 a2 a3 → post' (val b1 b2 b3) → W d post' b1 b2 b3) → W (d + 1) post a1 a2 a3) :
    ∀ (d : Nat) (post : ρ → Prop) (a1 : A1) (a2 : A2) (a3 : A3), ok a1 a2 a3 → μ a1 a2 a3 < d → post (val a1 a2 a3) → W d post a1 a2 a3 := by
  intro d
  induction d with
  | zero => intro post a1 a2 a3 _ h; omega
  | succ d ih =>
    intro post a1 a2 a3 ho hm hp
    exact hs d post a1 a2 a3 ho hp (fun post' b1 b2 b3 ho' hm' hp' => ih post' b1 b2 b3 ho' (by omega) hp')
theorem rp4 {ρ A1 A2 A3 A4 : Type} (W : Nat → (ρ → Prop) → A1 → A2 → A3 → A4 → Prop) (ok : A1 → A2 → A3 → A4 → Prop) (μ : A1 → A2 → A3 → A4 → Nat) (val : A1 → A2 → A3 → A4 → ρ)
    (hs : ∀ (d : Nat) (post : ρ → Prop) (a1 : A1) (a2 : A2) (a3 : A3) (a4 : A4), ok a1 a2 a3 a4 → post (val a1 a2 a3 a4) → (∀ (post' : ρ → Prop) (b1 : A1) (b2 : A2) (b3 : A3) (b4 : A4), ok b1 b2 b3 b4 → μ b1 b2 b3 b4 < μ a1 a2 a3 a4 → post' (val b1 b2 b3 b4) → W d post' b1 b2 b3 b4) → W (d + 1) post a1 a2 a3 a4) :
    ∀ (d : Nat) (post : ρ → Prop) (a1 : A1) (a2 : A2) (a3 : A3) (a4 : A4), ok a1 a2 a3 a4 → μ a1 a2 a3 a4 < d → post (val a1 a2 a3 a4) → W d post a1 a2 a3 a4 := by
  intro d
  induction d with
  | zero => intro post a1 a2 a3 a4 _ h; omega
  | succ d ih =>
    intro post a1 a2 a3 a4 ho hm hp
    exact hs d post a1 a2 a3 a4 ho hp (fun post' b1 b2 b3 b4 ho' hm' hp' => ih post' b1 b2 b3 b4 ho' (by omega) hp')
theorem rp5 {ρ A1 A2 A3 A4 A5 : Type} (W : Nat → (ρ → Prop) → A1 → A2 → A3 → A4 → A5 → Prop) (ok : A1 → A2 → A3 → A4 → A5 → Prop) (μ : A1 → A2 → A3 → A4 → A5 → Nat) (val : A1 → A2 → A3 → A4 → A5 → ρ)
    (hs : ∀ (d : Nat) (post : ρ → Prop) (a1 : A1) (a2 : A2) (a3 : A3) (a4 : A4) (a5 : A5), ok a1 a2 a3 a4 a5 → post (val a1 a2 a3 a4 a5) → (∀ (post' : ρ → Prop) (b1 : A1) (b2 : A2) (b3 : A3) (b4 : A4) (b5 : A5), ok b1 b2 b3 b4 b5 → μ b1 b2 b3 b4 b5 < μ a1 a2 a3 a4 a5 → post' (val b1 b2 b3 b4 b5) → W d post' b1 b2 b3 b4 b5) → W (d + 1) post a1 a2 a3 a4 a5) :
    ∀ (d : Nat) (post : ρ → Prop) (a1 : A1) (a2 : A2) (a3 : A3) (a4 : A4) (a5 : A5), ok a1 a2 a3 a4 a5 → μ a1 a2 a3 a4 a5 < d → post (val a1 a2 a3 a4 a5) → W d post a1 a2 a3 a4 a5 := by
  intro d
  induction d with
  | zero => intro post a1 a2 a3 a4 a5 _ h; omega
  | succ d ih =>
    intro post a1 a2 a3 a4 a5 ho hm hp
    exact hs d post a1 a2 a3 a4 a5 ho hp (fun post' b1 b2 b3 b4 b5 ho' hm' hp' => ih post' b1 b2 b3 b4 b5 ho' (by omega) hp')
theorem rp6 {ρ A1 A2 A3 A4 A5 A6 : Type} (W : Nat → (ρ → Prop) → A1 → A2 → A3 → A4 → A5 → A6 → Prop) (ok : A1 → A2 → A3 → A4 → A5 → A6 → Prop) (μ : A1 → A2 → A3 → A4 → A5 → A6 → Nat) (val : A1 → A2 → A3 → A4 → A5 → A6 → ρ)
    (hs : ∀ (d : Nat) (post : ρ → Prop) (a1 : A1) (a2 : A2) (a3 : A3) (a4 : A4) (a5 : A5) (a6 : A6), ok a1 a2 a3 a4 a5 a6 → post (val a1 a2 a3 a4 a5 a6) → (∀ (post' : ρ → Prop) (b1 : A1) (b2 : A2) (b3 : A3) (b4 : A4) (b5 : A5) (b6 : A6), ok b1 b2 b3 b4 b5 b6 → μ b1 b2 b3 b4 b5 b6 < μ a1 a2 a3 a4 a5 a6 → post' (val b1 b2 b3 b4 b5 b6) → W d post' b1 b2 b3 b4 b5 b6) → W (d + 1) post a1 a2 a3 a4 a5 a6) :
    ∀ (d : Nat) (post : ρ → Prop) (a1 : A1) (a2 : A2) (a3 : A3) (a4 : A4) (a5 : A5) (a6 : A6), ok a1 a2 a3 a4 a5 a6 → μ a1 a2 a3 a4 a5 a6 < d → post (val a1 a2 a3 a4 a5 a6) → W d post a1 a2 a3 a4 a5 a6 := by
  intro d
  induction d with
  | zero => intro post a1 a2 a3 a4 a5 a6 _ h; omega
  | succ d ih =>
    intro post a1 a2 a3 a4 a5 a6 ho hm hp
    exact hs d post a1 a2 a3 a4 a5 a6 ho hp (fun post' b1 b2 b3 b4 b5 b6 ho' hm' hp' => ih post' b1 b2 b3 b4 b5 b6 ho' (by omega) hp')
theorem rec_p {σ ρ : Type} (W : Nat → (ρ → Prop) → σ → Prop) (ok : σ → Prop) (μ : σ → Nat) (val : σ → ρ)
    (hs : ∀ d s post, ok s → post (val s) → (∀ s' post', ok s' → μ s' < μ s → post' (val s') → W d post' s') → W (d + 1) post s) :
    ∀ d s post, ok s → μ s < d → post (val s) → W d post s := by
  intro d
  induction d with
  | zero => intro s post _ h; omega
  | succ d ih =>
    intro s post ho hm hp
    exact hs d s post ho hp (fun s' post' ho' hm' hp' => ih s' post' ho' (by omega) hp')
theorem rec_q {σ ρ : Type} (W : Nat → (ρ → Prop) → σ → Prop) (ok : σ → Prop) (μ : σ → Nat) (Q : σ → ρ → Prop)
    (hs : ∀ d s post, ok s → (∀ r, Q s r → post r) → (∀ s' post', ok s' → μ s' < μ s → (∀ r, Q s' r → post' r) → W d post' s') → W (d + 1) post s) :
    ∀ d s post, ok s → μ s < d → (∀ r, Q s r → post r) → W d post s := by
  intro d
  induction d with
  | zero => intro s post _ h; omega
  | succ d ih =>
    intro s post ho hm hp
    exact hs d s post ho hp (fun s' post' ho' hm' hp' => ih s' post' ho' (by omega) hp')
def bx_sum (f : Nat → Int32) : Nat → Int32
  | 0 => 0
  | n + 1 => bx_sum f n + f n
theorem ek_u {A : Prop} {B : Nat → Prop} {k N : Nat} (hk : k < N) (h : B k) : (some k = none → A) ∧ (∀ y : Nat, some k = some y → (y < N ∧ B y)) :=
  ⟨fun z => absurd z (Option.some_ne_none k), fun _ e => (by cases e; exact ⟨hk, h⟩)⟩
theorem ek_nu {A : Prop} {B : Nat → Prop} (h : A) : ((none : Option Nat) = none → A) ∧ (∀ y : Nat, (none : Option Nat) = some y → B y) :=
  ⟨fun _ => h, fun _ e => (by cases e)⟩
theorem ek_if {c d A B : Prop} (e : c ↔ d) (f : d → A) (g : ¬ d → B) : (c → A) ∧ (¬ c → B) :=
  ⟨fun z => f (e.mp z), fun z => g (fun y => z (e.mpr y))⟩
theorem ek_v {α : Sort _} {P : α → Prop} {a b : α} (e : a = b) (h : P b) : P a := e ▸ h
theorem co_some {x : Option Nat} {A : Prop} {B : Nat → Prop} (i : Nat) (h : B i) (hx : x = some i := by rfl) : (x = none → A) ∧ (∀ y : Nat, x = some y → B y) := by
  subst hx
  exact ⟨fun e => (nomatch e), fun y e => Option.some.inj e ▸ h⟩
theorem co_none {x : Option Nat} {A : Prop} {B : Nat → Prop} (h : A) (hx : x = none := by rfl) : (x = none → A) ∧ (∀ y : Nat, x = some y → B y) := by
  subst hx
  exact ⟨fun _ => h, fun y e => (nomatch e)⟩
theorem co_any {x : Option Nat} {A : Prop} {B : Nat → Prop} (hn : x = none → A) (hs : ∀ i : Nat, x = some i → B i) : (x = none → A) ∧ (∀ y : Nat, x = some y → B y) := ⟨hn, hs⟩
theorem co_2 {P : Nat → Prop} (h0 : P 0) (h1 : P 1) {i : Nat} (hi : i < 2) : P i :=
  match i, hi with
  | 0, _ => h0
  | 1, _ => h1
theorem co_3 {P : Nat → Prop} (h0 : P 0) (h1 : P 1) (h2 : P 2) {i : Nat} (hi : i < 3) : P i :=
  match i, hi with
  | 0, _ => h0
  | 1, _ => h1
  | 2, _ => h2
theorem co_4 {P : Nat → Prop} (h0 : P 0) (h1 : P 1) (h2 : P 2) (h3 : P 3) {i : Nat} (hi : i < 4) : P i :=
  match i, hi with
  | 0, _ => h0
  | 1, _ => h1
  | 2, _ => h2
  | 3, _ => h3
theorem co_dec {N : Nat} {P : Nat → Prop} [DecidablePred P] (h : (List.range N).all (fun i => decide (P i)) = true) {i : Nat} (hi : i < N) : P i := by
  have := List.all_eq_true.mp h i (List.mem_range.mpr hi)
  exact of_decide_eq_true this
theorem co_tab {α : Type} {l : List α} {d : α} {P : α → Prop} (h : ∀ a, a ∈ l → P a) {i : Nat} (hi : i < l.length) : P (l.getD i d) := by
  rw [List.getD_eq_getElem?_getD, List.getElem?_eq_getElem hi]
  exact h _ (List.getElem_mem hi)
theorem pk_mu {x : Int32} {L : Nat} (h0 : ¬ x < 0) (h : ¬ nI L ≤ x) (hL : L < 2 ^ 31) : ∃ j : Nat, j < L ∧ x = nI j ∧ x + 1 = nI (j + 1) ∧ x.toNatClampNeg = j ∧ L - (x + 1).toNatClampNeg < L - x.toNatClampNeg := by
  obtain ⟨j, hj, rfl⟩ := nI_of h0
  have hl : j < L := Nat.not_le.mp fun q => h (nI_le q hj)
  refine ⟨j, hl, rfl, nI_1 j, nI_clamp hj, ?_⟩
  rw [nI_1, nI_clamp (by omega), nI_clamp hj]
  omega
theorem op_s {α : Type} {r : Option α} {A : Prop} {B : α → Prop} {y : α} (h : r = some y) (b : B y) : (r = none → A) ∧ ∀ z, r = some z → B z :=
  ⟨fun e => (by rw [h] at e; cases e), fun z e => (by rw [h] at e; cases e; exact b)⟩
def l_holds {α : Type} (a : Nat → Option Nat) (LP : List Nat) (p : Nat → α) (c : Nat) (b : Nat → α) : Prop :=
  ∀ j, j < c → ∃ y, a j = some y ∧ y ∈ LP ∧ p y = b j
theorem l_holds_0 {α : Type} {a : Nat → Option Nat} {LP : List Nat} {p b : Nat → α} : l_holds a LP p 0 b := fun j h => absurd h (Nat.not_lt_zero j)
theorem l_in_new (LP : List Nat) (q : Nat) : q ∈ LP ++ [q] := List.mem_append.mpr (Or.inr (List.mem_singleton.mpr rfl))
def l_sum (b : Nat → Int32) : Nat → Int32
  | 0 => 0
  | k + 1 => l_sum b k + b k
theorem sb_shr0 (x : Int32) : x >>> ((0 : Int32) &&& 31) = x := by
  rw [show ((0 : Int32) &&& 31) = 0 by decide]
  simp
theorem sb_shl0 (x : Int32) : x <<< ((0 : Int32) &&& 31) = x := by
  rw [show ((0 : Int32) &&& 31) = 0 by decide]
  simp
theorem sb_cl0 : (0 : Int32).toNatClampNeg = 0 := by decide
theorem sb_m1 {p : Nat} (h : 0 < p) : nI p + (-1) = nI (p - 1) := by
  obtain ⟨q, rfl⟩ : ∃ q, p = q + 1 := ⟨p - 1, by omega⟩
  exact pk_m1 q
def sb_b (c : Nat) : Int32 := (nI c).toInt8.toInt32
theorem sb_byte : ∀ c, c < 256 → sb_b c &&& 255 = nI c ∧ ((nI c).toUInt32 % 65536).toInt32 = nI c ∧ nI c ≤ 255 := by decide +kernel
def sb_Fit (a : Nat → Int32) : Prop := ∀ j, fits .byte (.int (a j)) = true
def sb_Lat (t : Nat → Nat) (n : Nat) (a : Nat → Int32) : Prop := ∀ j, j < n → t j < 256 ∧ a j = sb_b (t j)
theorem sb_fitB (c : Nat) : fits .byte (.int (sb_b c)) = true := pk_fb _
theorem sb_fit0 : sb_Fit (fun _ => 0) := fun _ => by
  show fits .byte (.int 0) = true
  decide
theorem sb_fitU {a : Nat → Int32} {k : Nat} {x : Int32} (h : sb_Fit a) (hx : fits .byte (.int x) = true) : sb_Fit (upd a k x) := by
  intro j
  by_cases e : j = k
  · subst e
    rw [pk_us]
    exact hx
  · rw [pk_un e]
    exact h j
def sb_cat (t : Nat → Nat) (n : Nat) (s : Nat → Nat) : Nat → Nat := fun j => if j < n then t j else s (j - n)
theorem sb_cat_lo {t s : Nat → Nat} {n j : Nat} (h : j < n) : sb_cat t n s j = t j := if_pos h
theorem sb_cat_hi {t s : Nat → Nat} {n j : Nat} : sb_cat t n s (n + j) = s j := by
  show (if n + j < n then t (n + j) else s (n + j - n)) = s j
  rw [if_neg (by omega), Nat.add_sub_cancel_left]
theorem sb_latPut {t s : Nat → Nat} {n w : Nat} {a a' : Nat → Int32} (h : sb_Lat t n a) (hk : ∀ j, j < n → a' j = a j) (hs : ∀ i, i < w → s i < 256 ∧ a' (n + i) = sb_b (s i)) : sb_Lat (sb_cat t n s) (n + w) a' := by
  intro j hj
  by_cases e : j < n
  · rw [sb_cat_lo e, hk j e]
    exact h j e
  · obtain ⟨i, rfl⟩ : ∃ i, j = n + i := ⟨j - n, by omega⟩
    rw [sb_cat_hi]
    exact hs i (by omega)
theorem sb_latKeep {t : Nat → Nat} {n : Nat} {a a' : Nat → Int32} (h : sb_Lat t n a) (hk : ∀ j, j < n → a' j = a j) : sb_Lat t n a' := fun j hj => by
  rw [hk j hj]
  exact h j hj
def sb_cap (q m : Nat) : Nat := if q ≤ m then m else if 2 * m + 2 < q then q else 2 * m + 2
def sb_Room (q m mc ms : Nat) : Prop := q ≤ m ∨ (1 ≤ mc ∧ sb_cap q m ≤ ms ∧ sb_cap q m ≤ 65536)
theorem sb_cap_ge (q m : Nat) : q ≤ sb_cap q m := by
  unfold sb_cap
  split
  · omega
  · split <;> omega
theorem sb_cap_gem (q m : Nat) : m ≤ sb_cap q m := by
  unfold sb_cap
  split
  · omega
  · split <;> omega
theorem sb_cap_le {q m mc ms : Nat} (hm : m ≤ 65536) (hr : sb_Room q m mc ms) : sb_cap q m ≤ 65536 := by
  rcases hr with h | h
  · rw [sb_cap, if_pos h]
    exact hm
  · exact h.2.2
theorem sb_at {P : Int32 → Prop} {x y : Int32} (e : x = y) (h : P y) : P x := e ▸ h
def sb_dg (w : Nat) : Nat := if w < 10 then 1 else if w < 100 then 2 else if w < 1000 then 3 else if w < 10000 then 4 else if w < 100000 then 5 else if w < 1000000 then 6 else if w < 10000000 then 7 else if w < 100000000 then 8 else if w < 1000000000 then 9 else 10
def sb_dec (v : Nat) : Nat → Nat := fun i => 48 + v / 10 ^ (sb_dg v - 1 - i) % 10
theorem sb_dg_in (w : Nat) : 1 ≤ sb_dg w ∧ sb_dg w ≤ 10 := by
  unfold sb_dg
  constructor <;> (repeat' split) <;> omega
theorem sb_dg100 {w : Nat} (h : 100 ≤ w) (hw : w < 2 ^ 31) : sb_dg w = sb_dg (w / 100) + 2 := by
  rw [sb_dg, sb_dg, if_neg (show ¬ w < 10 by omega), if_neg (show ¬ w < 100 by omega)]
  by_cases h3 : w < 1000
  · rw [if_pos h3, if_pos (show w / 100 < 10 by omega)]
  rw [if_neg h3, if_neg (show ¬ w / 100 < 10 by omega)]
  by_cases h4 : w < 10000
  · rw [if_pos h4, if_pos (show w / 100 < 100 by omega)]
  rw [if_neg h4, if_neg (show ¬ w / 100 < 100 by omega)]
  by_cases h5 : w < 100000
  · rw [if_pos h5, if_pos (show w / 100 < 1000 by omega)]
  rw [if_neg h5, if_neg (show ¬ w / 100 < 1000 by omega)]
  by_cases h6 : w < 1000000
  · rw [if_pos h6, if_pos (show w / 100 < 10000 by omega)]
  rw [if_neg h6, if_neg (show ¬ w / 100 < 10000 by omega)]
  by_cases h7 : w < 10000000
  · rw [if_pos h7, if_pos (show w / 100 < 100000 by omega)]
  rw [if_neg h7, if_neg (show ¬ w / 100 < 100000 by omega)]
  by_cases h8 : w < 100000000
  · rw [if_pos h8, if_pos (show w / 100 < 1000000 by omega)]
  rw [if_neg h8, if_neg (show ¬ w / 100 < 1000000 by omega)]
  by_cases h9 : w < 1000000000
  · rw [if_pos h9, if_pos (show w / 100 < 10000000 by omega)]
  rw [if_neg h9, if_neg (show ¬ w / 100 < 10000000 by omega)]
  rw [if_pos (show w / 100 < 100000000 by omega)]
theorem sb_negT {w : Nat} (h : w < 2 ^ 31) : (-nI w).toInt = -(w : Int) := by
  rw [Int32.toInt_neg, nI_toInt h]
  exact Int.bmod_eq_of_le (by omega) (by omega)
theorem sb_nle {a b : Nat} (ha : a < 2 ^ 31) (hb : b < 2 ^ 31) : -nI a ≤ -nI b ↔ b ≤ a := by
  rw [Int32.le_iff_toInt_le, sb_negT ha, sb_negT hb]
  omega
theorem sb_nlt {a b : Nat} (ha : a < 2 ^ 31) (hb : b < 2 ^ 31) : -nI a < -nI b ↔ b < a := by
  rw [Int32.lt_iff_toInt_lt, sb_negT ha, sb_negT hb]
  omega
theorem sb_cmp {A B : Prop} {x : Int32} (v c : Nat) (f : c ≤ v → A) (g : v < c → B) (hv : v < 2 ^ 31) (hx : x = -nI c := by rfl) (hc : c < 2 ^ 31 := by omega) : (-nI v ≤ x → A) ∧ (¬ -nI v ≤ x → B) := by
  subst hx
  rw [sb_nle hv hc]
  exact ⟨f, fun z => g (by omega)⟩
theorem sb_ndiv {w : Nat} (hw : w < 2 ^ 31) : (-nI w) / 100 = -nI (w / 100) := by
  apply Int32.toInt_inj.mp
  have h100 : (100 : Int32).toInt = 100 := by decide
  rw [Int32.toInt_div, sb_negT hw, h100, sb_negT (by omega), Int.neg_tdiv, Int.tdiv_eq_ediv_of_nonneg (by omega), Int.bmod_eq_of_le (by omega) (by omega)]
  omega
theorem sb_nrem {w : Nat} (hw : w < 2 ^ 31) : (-nI (w / 100)) * 100 - (-nI w) = nI (w % 100) := by
  have h := pk_rem (a := w) (d := 100) hw (by decide) (by decide)
  rw [pk_div hw (by decide) (by decide)] at h
  rw [← h]
  show (-nI (w / 100)) * nI 100 - (-nI w) = nI w - nI (w / 100) * nI 100
  rw [Int32.neg_mul, Int32.sub_neg, Int32.add_comm, ← Int32.sub_eq_add_neg]
end
section
/-! rows on bits, shifts and unsigned numbers, to paste: each family out of a closed proof of our own, whole with what it rests on; each by itself clean at Lean in its own claim (generation 39, form 5). Take a family whole -/
/-! ===== Int32 by its bits: bt x i ===== -/
def bt (x : Int32) (i : Nat) : Bool := x.toBitVec.getLsbD i
theorem b_ext {x y : Int32} (h : ∀ i, i < 32 → bt x i = bt y i) : x = y := Int32.toBitVec_inj.mp (BitVec.eq_of_getLsbD_eq (fun i hi => h i hi))
theorem b_or (x y : Int32) (i : Nat) : bt (x ||| y) i = (bt x i || bt y i) := by unfold bt; rw [Int32.toBitVec_or, BitVec.getLsbD_or]
theorem b_and (x y : Int32) (i : Nat) : bt (x &&& y) i = (bt x i && bt y i) := by unfold bt; rw [Int32.toBitVec_and, BitVec.getLsbD_and]
theorem b_xor (x y : Int32) (i : Nat) : bt (x ^^^ y) i = (bt x i ^^ bt y i) := by unfold bt; rw [Int32.toBitVec_xor, BitVec.getLsbD_xor]
theorem b_big {x : Int32} {i : Nat} (h : 32 ≤ i) : bt x i = false := BitVec.getLsbD_of_ge _ _ h
theorem b_255 (i : Nat) : bt 255 i = decide (i < 8) := by
  rcases Nat.lt_or_ge i 32 with h | h
  · exact (by decide +kernel : ∀ i, i < 32 → bt 255 i = decide (i < 8)) i h
  · rw [b_big h, decide_eq_false (by omega)]
theorem b_65535 (i : Nat) : bt 65535 i = decide (i < 16) := by
  rcases Nat.lt_or_ge i 32 with h | h
  · exact (by decide +kernel : ∀ i, i < 32 → bt 65535 i = decide (i < 16)) i h
  · rw [b_big h, decide_eq_false (by omega)]
theorem b_m1 : ∀ i, i < 32 → bt (-1) i = true := by decide +kernel
theorem b_0 (i : Nat) : bt 0 i = false := BitVec.getLsbD_zero
theorem s_l : ∀ n, n < 32 → ((nI n &&& 31).toBitVec.smod 32).toNat = n := by decide +kernel
theorem s_u : ∀ n, n < 32 → (((nI n).toUInt32 &&& Int32.toUInt32 31).toBitVec % 32).toNat = n := by decide +kernel
theorem b_shl (n : Nat) (hn : n < 32) (x : Int32) {i : Nat} (hi : i < 32) : bt (x <<< (nI n &&& 31)) i = (decide (n ≤ i) && bt x (i - n)) := by
  unfold bt
  rw [Int32.toBitVec_shiftLeft]
  show (x.toBitVec <<< ((nI n &&& 31).toBitVec.smod 32).toNat).getLsbD i = _
  rw [s_l n hn, BitVec.getLsbD_shiftLeft]
  rcases Nat.lt_or_ge i n with h | h
  · simp [h, Nat.not_le.mpr h]
  · simp [hi, h, Nat.not_lt.mpr h]
theorem b_ushr (n : Nat) (hn : n < 32) (x : Int32) (i : Nat) : bt ((x.toUInt32 >>> ((nI n).toUInt32 &&& Int32.toUInt32 31)).toInt32) i = bt x (n + i) := by
  show (x.toUInt32 >>> ((nI n).toUInt32 &&& Int32.toUInt32 31)).toBitVec.getLsbD i = x.toUInt32.toBitVec.getLsbD (n + i)
  rw [UInt32.toBitVec_shiftRight]
  show (x.toUInt32.toBitVec >>> (((nI n).toUInt32 &&& Int32.toUInt32 31).toBitVec % 32).toNat).getLsbD i = _
  rw [s_u n hn, BitVec.getLsbD_ushiftRight]
theorem b_sshr (n : Nat) (hn : n < 32) (x : Int32) {i : Nat} (hi : i < 32) : bt (x >>> (nI n &&& 31)) i = if n + i < 32 then bt x (n + i) else bt x 31 := by
  unfold bt
  rw [Int32.toBitVec_shiftRight]
  show (x.toBitVec.sshiftRight ((nI n &&& 31).toBitVec.smod 32).toNat).getLsbD i = _
  rw [s_l n hn, BitVec.getLsbD_sshiftRight, BitVec.msb_eq_getLsbD_last]
  simp [hi]
theorem b_shl8 (x : Int32) {i : Nat} (hi : i < 32) : bt (x <<< ((8 : Int32) &&& 31)) i = (decide (8 ≤ i) && bt x (i - 8)) := b_shl 8 (by omega) x hi
theorem b_shl16 (x : Int32) {i : Nat} (hi : i < 32) : bt (x <<< ((16 : Int32) &&& 31)) i = (decide (16 ≤ i) && bt x (i - 16)) := b_shl 16 (by omega) x hi
theorem b_shl24 (x : Int32) {i : Nat} (hi : i < 32) : bt (x <<< ((24 : Int32) &&& 31)) i = (decide (24 ≤ i) && bt x (i - 24)) := b_shl 24 (by omega) x hi
theorem b_sshr8 (x : Int32) {i : Nat} (hi : i < 32) : bt (x >>> ((8 : Int32) &&& 31)) i = if 8 + i < 32 then bt x (8 + i) else bt x 31 := b_sshr 8 (by omega) x hi
end
section
/-! walks in a graph given by its arcs G a b w -/
def wk_W (G : Nat → Nat → Int → Prop) : Nat → Nat → Nat → Int → Prop
  | 0, a, b, w => a = b ∧ w = 0
  | n + 1, a, b, w => ∃ c w1 w2, wk_W G n a c w1 ∧ G c b w2 ∧ w = w1 + w2
section WK
variable {G : Nat → Nat → Int → Prop}
theorem wk_0 (a : Nat) : wk_W G 0 a a 0 := ⟨rfl, rfl⟩
theorem wk_s {n a c b : Nat} {w1 w2 : Int} (h : wk_W G n a c w1) (g : G c b w2) : wk_W G (n + 1) a b (w1 + w2) := ⟨c, w1, w2, h, g, rfl⟩
theorem wk_1 {a b : Nat} {w : Int} (g : G a b w) : wk_W G 1 a b w := ⟨a, 0, w, wk_0 a, g, by omega⟩
theorem wk_e {n a b : Nat} {w w' : Int} (h : wk_W G n a b w) (e : w = w') : wk_W G n a b w' := e ▸ h
theorem wk_en {n n' a b : Nat} {w w' : Int} (h : wk_W G n a b w) (en : n = n') (e : w = w') : wk_W G n' a b w' := en ▸ e ▸ h
theorem wk_app {n a b : Nat} {w : Int} (h : wk_W G n a b w) : ∀ (m c : Nat) (v : Int), wk_W G m b c v → wk_W G (n + m) a c (w + v) := by
  intro m
  induction m with
  | zero => intro c v hv; obtain ⟨rfl, rfl⟩ := hv; exact wk_e h (by omega)
  | succ m ih =>
    intro c v hv
    obtain ⟨d, w1, w2, h1, g, rfl⟩ := hv
    exact wk_e (wk_s (ih d w1 h1) g) (by omega)
theorem wk_spl {n a : Nat} : ∀ (m c : Nat) (w : Int), wk_W G (n + m) a c w → ∃ b w1 w2, wk_W G n a b w1 ∧ wk_W G m b c w2 ∧ w = w1 + w2 := by
  intro m
  induction m with
  | zero => intro c w h; exact ⟨c, w, 0, h, wk_0 c, by omega⟩
  | succ m ih =>
    intro c w h
    obtain ⟨d, w1, w2, h1, g, rfl⟩ := h
    obtain ⟨b, v1, v2, hb, hm, rfl⟩ := ih d w1 h1
    exact ⟨b, v1, v2 + w2, hb, wk_s hm g, by omega⟩
/-- the first arc of a walk -/
theorem wk_hd {n a c : Nat} {w : Int} (h : wk_W G (n + 1) a c w) : ∃ b w1 w2, G a b w1 ∧ wk_W G n b c w2 ∧ w = w1 + w2 := by
  rw [Nat.add_comm] at h
  obtain ⟨b, w1, w2, h1, h2, e⟩ := wk_spl n c w h
  obtain ⟨d, v1, v2, ⟨rfl, rfl⟩, g, rfl⟩ := h1
  exact ⟨b, v2, w2, g, h2, by omega⟩
theorem wk_cons {n a b c : Nat} {w1 w2 : Int} (g : G a b w1) (h : wk_W G n b c w2) : wk_W G (n + 1) a c (w1 + w2) :=
  wk_en (wk_app (wk_1 g) n c w2 h) (by omega) rfl
theorem wk_mono {G' : Nat → Nat → Int → Prop} (hG : ∀ a b w, G a b w → G' a b w) : ∀ (n a b : Nat) (w : Int), wk_W G n a b w → wk_W G' n a b w := by
  intro n
  induction n with
  | zero => intro a b w h; exact h
  | succ n ih =>
    intro a b w h
    obtain ⟨c, w1, w2, h1, g, e⟩ := h
    exact ⟨c, w1, w2, ih _ _ _ h1, hG _ _ _ g, e⟩
theorem wk_rep {n c : Nat} {w : Int} (h : wk_W G n c c w) : ∀ k : Nat, wk_W G (k * n) c c (k * w) := by
  intro k
  induction k with
  | zero => exact wk_en (wk_0 c) (by omega) (by simp)
  | succ k ih =>
    refine wk_en (wk_app ih n c w h) ?_ ?_
    · rw [Nat.succ_mul]
    · rw [Int.natCast_add, Int.add_mul]; simp
theorem wk_b (hG : ∀ a b w, G a b w → a < 7 ∧ b < 7) {n a b : Nat} {w : Int} (h : wk_W G n a b w) (ha : a < 7) : b < 7 := by
  cases n with
  | zero => obtain ⟨rfl, _⟩ := h; exact ha
  | succ n => obtain ⟨c, w1, w2, h1, g, e⟩ := h; exact (hG _ _ _ g).2
theorem wk_a (hG : ∀ a b w, G a b w → a < 7 ∧ b < 7) {n a b : Nat} {w : Int} (h : wk_W G n a b w) (hb : b < 7) : a < 7 := by
  cases n with
  | zero => obtain ⟨rfl, _⟩ := h; exact hb
  | succ n => obtain ⟨c, w1, w2, g, h1, e⟩ := wk_hd h; exact (hG _ _ _ g).1
theorem wk_le {C : Int} (hG : ∀ a b w, G a b w → w ≤ C) : ∀ (n a b : Nat) (w : Int), wk_W G n a b w → w ≤ n * C := by
  intro n
  induction n with
  | zero => intro a b w h; obtain ⟨rfl, rfl⟩ := h; simp
  | succ n ih =>
    intro a b w h
    obtain ⟨c, w1, w2, h1, g, rfl⟩ := h
    have e1 := ih _ _ _ h1
    have e2 := hG _ _ _ g
    rw [Int.natCast_add, Int.add_mul]
    simp
    omega
theorem wk_ge {C : Int} (hG : ∀ a b w, G a b w → -C ≤ w) : ∀ (n a b : Nat) (w : Int), wk_W G n a b w → -(n * C) ≤ w := by
  intro n
  induction n with
  | zero => intro a b w h; obtain ⟨rfl, rfl⟩ := h; simp
  | succ n ih =>
    intro a b w h
    obtain ⟨c, w1, w2, h1, g, rfl⟩ := h
    have e1 := ih _ _ _ h1
    have e2 := hG _ _ _ g
    rw [Int.natCast_add, Int.add_mul]
    simp
    omega
/-- a walk by its points and its weights so far -/
theorem wk_tr : ∀ (n a b : Nat) (w : Int), wk_W G n a b w → ∃ (p : Nat → Nat) (s : Nat → Int), p 0 = a ∧ p n = b ∧ s 0 = 0 ∧ s n = w ∧ ∀ i, i < n → G (p i) (p (i + 1)) (s (i + 1) - s i) := by
  intro n
  induction n with
  | zero => intro a b w h; obtain ⟨rfl, rfl⟩ := h; exact ⟨fun _ => a, fun _ => 0, rfl, rfl, rfl, rfl, fun i hi => absurd hi (Nat.not_lt_zero i)⟩
  | succ n ih =>
    intro a b w h
    obtain ⟨c, w1, w2, h1, g, rfl⟩ := h
    obtain ⟨p, s, p0, pn, s0, sn, hs⟩ := ih _ _ _ h1
    refine ⟨fun i => if i ≤ n then p i else b, fun i => if i ≤ n then s i else w1 + w2, ?_, ?_, ?_, ?_, ?_⟩
    · show (if 0 ≤ n then p 0 else b) = a
      rw [if_pos (Nat.zero_le n)]; exact p0
    · show (if n + 1 ≤ n then p (n + 1) else b) = b
      rw [if_neg (by omega)]
    · show (if 0 ≤ n then s 0 else w1 + w2) = 0
      rw [if_pos (Nat.zero_le n)]; exact s0
    · show (if n + 1 ≤ n then s (n + 1) else w1 + w2) = w1 + w2
      rw [if_neg (by omega)]
    · intro i hi
      show G (if i ≤ n then p i else b) (if i + 1 ≤ n then p (i + 1) else b) ((if i + 1 ≤ n then s (i + 1) else w1 + w2) - (if i ≤ n then s i else w1 + w2))
      rw [if_pos (show i ≤ n by omega), if_pos (show i ≤ n by omega)]
      by_cases hin : i + 1 ≤ n
      · rw [if_pos hin, if_pos hin]; exact hs i (by omega)
      · have : i = n := by omega
        subst this
        rw [if_neg hin, if_neg hin, pn, sn]
        have e : w1 + w2 - w1 = w2 := by omega
        rw [e]; exact g
theorem wk_seg {n : Nat} {p : Nat → Nat} {s : Nat → Int} (hs : ∀ i, i < n → G (p i) (p (i + 1)) (s (i + 1) - s i)) : ∀ d i, i + d ≤ n → wk_W G d (p i) (p (i + d)) (s (i + d) - s i) := by
  intro d
  induction d with
  | zero => intro i hi; exact ⟨rfl, by simp⟩
  | succ d ih =>
    intro i hi
    have h1 := ih i (by omega)
    have g := hs (i + d) (by omega)
    exact wk_e (wk_s h1 g) (by show _ = s (i + d + 1) - s i; omega)
end WK
/-- the pigeons -/
theorem ph_pig : ∀ (n : Nat) (f : Nat → Nat), (∀ i, i ≤ n → f i < n) → ∃ i j, i < j ∧ j ≤ n ∧ f i = f j := by
  intro n
  induction n with
  | zero => intro f h; exact absurd (h 0 (Nat.le_refl 0)) (Nat.not_lt_zero _)
  | succ n ih =>
    intro f h
    by_cases hx : ∃ i, i ≤ n ∧ f i = f (n + 1)
    · obtain ⟨i, hi, e⟩ := hx
      exact ⟨i, n + 1, by omega, by omega, e⟩
    · have hn : ∀ i, i ≤ n → f i ≠ f (n + 1) := fun i hi e => hx ⟨i, hi, e⟩
      have hl := h (n + 1) (Nat.le_refl _)
      obtain ⟨i, j, hij, hj, e⟩ := ih (fun i => if f i = n then f (n + 1) else f i) (by
        intro i hi
        show (if f i = n then f (n + 1) else f i) < n
        have h1 := h i (by omega)
        have h2 := hn i hi
        by_cases hf : f i = n
        · rw [if_pos hf]; omega
        · rw [if_neg hf]; omega)
      have e' : (if f i = n then f (n + 1) else f i) = (if f j = n then f (n + 1) else f j) := e
      have h1 := hn i (by omega)
      have h2 := hn j (by omega)
      refine ⟨i, j, hij, by omega, ?_⟩
      by_cases hf : f i = n
      · by_cases hg : f j = n
        · omega
        · rw [if_pos hf, if_neg hg] at e'; exact absurd e'.symm h2
      · by_cases hg : f j = n
        · rw [if_neg hf, if_pos hg] at e'; exact absurd e' h1
        · rw [if_neg hf, if_neg hg] at e'; exact e'
section WL
variable {G : Nat → Nat → Int → Prop} (hG : ∀ a b w, G a b w → a < 7 ∧ b < 7)
/-- a walk of seven arcs or more has a ring in its first seven -/
theorem wk_cyc (hG : ∀ a b w, G a b w → a < 7 ∧ b < 7) {n a b : Nat} {w : Int} (h : wk_W G n a b w) (ha : a < 7) (hn : 7 ≤ n) : ∃ i j m c w1 w2 w3, i + (j + 1) + m = n ∧ i + (j + 1) ≤ 7 ∧ wk_W G i a c w1 ∧ wk_W G (j + 1) c c w2 ∧ wk_W G m c b w3 ∧ w = w1 + w2 + w3 := by
  obtain ⟨p, s, p0, pn, s0, sn, hs⟩ := wk_tr _ _ _ _ h
  have hp : ∀ i, i ≤ 7 → p i < 7 := by
    intro i hi
    by_cases h0 : i = 0
    · rw [h0, p0]; exact ha
    · have := hs (i - 1) (by omega)
      have e : i - 1 + 1 = i := by omega
      rw [e] at this
      exact (hG _ _ _ this).2
  obtain ⟨i, j, hij, hj, e⟩ := ph_pig 7 p hp
  have h1 := wk_seg hs i 0 (by omega)
  have h2 := wk_seg hs (j - i) i (by omega)
  have h3 := wk_seg hs (n - j) j (by omega)
  rw [Nat.zero_add, p0, s0] at h1
  have e2 : i + (j - i) = j := by omega
  have e3 : j + (n - j) = n := by omega
  rw [e2, ← e] at h2
  rw [e3, pn, sn, ← e] at h3
  exact ⟨i, j - i - 1, n - j, p i, s i - 0, s j - s i, w - s j, by omega, by omega, h1, wk_en h2 (by omega) rfl, h3, by omega⟩
def wk_R (G : Nat → Nat → Int → Prop) (a b : Nat) : Prop := ∃ n w, wk_W G n a b w
/-- there are walks of any low weight: a ring below 0 is on the way -/
def wk_L (G : Nat → Nat → Int → Prop) (a b : Nat) : Prop := ∃ c n w, wk_R G a c ∧ wk_W G n c c w ∧ w < 0 ∧ wk_R G c b
def wk_D (G : Nat → Nat → Int → Prop) (a b : Nat) (d : Int) : Prop := (∃ n, wk_W G n a b d) ∧ ∀ n w, wk_W G n a b w → d ≤ w
theorem rc_0 (a : Nat) : wk_R G a a := ⟨0, 0, wk_0 a⟩
theorem rc_w {n a b : Nat} {w : Int} (h : wk_W G n a b w) : wk_R G a b := ⟨n, w, h⟩
theorem rc_t {a b c : Nat} (h : wk_R G a b) (h' : wk_R G b c) : wk_R G a c := by
  obtain ⟨n, w, h1⟩ := h
  obtain ⟨m, v, h2⟩ := h'
  exact ⟨_, _, wk_app h1 _ _ _ h2⟩
theorem rc_1 {a b : Nat} {w : Int} (h : G a b w) : wk_R G a b := ⟨1, w, wk_1 h⟩
theorem rc_s {a b c : Nat} {w : Int} (h : wk_R G a b) (g : G b c w) : wk_R G a c := rc_t h (rc_1 g)
theorem rc_h {a b c : Nat} {w : Int} (g : G a b w) (h : wk_R G b c) : wk_R G a c := rc_t (rc_1 g) h
theorem lo_r {a b c : Nat} (h : wk_L G a b) (r : wk_R G b c) : wk_L G a c := by
  obtain ⟨d, n, w, h1, h2, h3, h4⟩ := h
  exact ⟨d, n, w, h1, h2, h3, rc_t h4 r⟩
theorem lo_l {a b c : Nat} (r : wk_R G a b) (h : wk_L G b c) : wk_L G a c := by
  obtain ⟨d, n, w, h1, h2, h3, h4⟩ := h
  exact ⟨d, n, w, rc_t r h1, h2, h3, h4⟩
theorem lo_rc {a b : Nat} (h : wk_L G a b) : wk_R G a b := by
  obtain ⟨d, n, w, h1, h2, h3, h4⟩ := h
  exact rc_t h1 h4
theorem rc_b (hG : ∀ a b w, G a b w → a < 7 ∧ b < 7) {a b : Nat} (h : wk_R G a b) (ha : a < 7) : b < 7 := by
  obtain ⟨n, w, h⟩ := h
  exact wk_b hG h ha
theorem rc_a (hG : ∀ a b w, G a b w → a < 7 ∧ b < 7) {a b : Nat} (h : wk_R G a b) (hb : b < 7) : a < 7 := by
  obtain ⟨n, w, h⟩ := h
  exact wk_a hG h hb
/-- every walk has a short one beside it that weighs no more, if no ring below 0 is on the way -/
theorem wk_sh (hG : ∀ a b w, G a b w → a < 7 ∧ b < 7) {a b : Nat} (ha : a < 7) : ∀ (N n : Nat) (w : Int), n ≤ N → wk_W G n a b w → ∃ n' w', n' ≤ 6 ∧ n' ≤ n ∧ wk_W G n' a b w' ∧ (w' ≤ w ∨ wk_L G a b) := by
  intro N
  induction N with
  | zero => intro n w hn h; exact ⟨n, w, by omega, by omega, h, Or.inl (by omega)⟩
  | succ N ih =>
    intro n w hn h
    by_cases h6 : n ≤ 6
    · exact ⟨n, w, h6, by omega, h, Or.inl (by omega)⟩
    · obtain ⟨i, j, m, c, w1, w2, w3, en, _, h1, h2, h3, ew⟩ := wk_cyc hG h ha (by omega)
      obtain ⟨n', w', e6, en', hw, hl⟩ := ih (i + m) (w1 + w3) (by omega) (wk_app h1 _ _ _ h3)
      refine ⟨n', w', e6, by omega, hw, ?_⟩
      rcases hl with hl | hl
      · by_cases hneg : w2 < 0
        · exact Or.inr ⟨c, j + 1, w2, rc_w h1, h2, hneg, rc_w h3⟩
        · exact Or.inl (by omega)
      · exact Or.inr hl
theorem rc_6 (hG : ∀ a b w, G a b w → a < 7 ∧ b < 7) {a b : Nat} (ha : a < 7) (h : wk_R G a b) : ∃ n w, n ≤ 6 ∧ wk_W G n a b w := by
  obtain ⟨n, w, h⟩ := h
  obtain ⟨n', w', h6, _, h', _⟩ := wk_sh hG ha n n w (Nat.le_refl n) h
  exact ⟨n', w', h6, h'⟩
theorem wk_sn (hG : ∀ a b w, G a b w → a < 7 ∧ b < 7) {a b n : Nat} {w : Int} (ha : a < 7) (hl : ¬ wk_L G a b) (h : wk_W G n a b w) : ∃ n' w', n' ≤ 6 ∧ n' ≤ n ∧ wk_W G n' a b w' ∧ w' ≤ w := by
  obtain ⟨n', w', h6, hn, h', hw⟩ := wk_sh hG ha n n w (Nat.le_refl n) h
  exact ⟨n', w', h6, hn, h', hw.resolve_right hl⟩
/-- a ring below 0 has a ring below 0 of at most seven arcs -/
theorem lo_7 (hG : ∀ a b w, G a b w → a < 7 ∧ b < 7) : ∀ (N n c : Nat) (w : Int), n ≤ N → c < 7 → wk_W G n c c w → w < 0 → ∃ d m v, m ≤ 7 ∧ wk_W G m d d v ∧ v < 0 ∧ wk_R G c d ∧ wk_R G d c := by
  intro N
  induction N with
  | zero => intro n c w hn hc h hw; exact ⟨c, n, w, by omega, h, hw, rc_0 c, rc_0 c⟩
  | succ N ih =>
    intro n c w hn hc h hw
    by_cases h7 : n ≤ 7
    · exact ⟨c, n, w, h7, h, hw, rc_0 c, rc_0 c⟩
    · obtain ⟨i, j, m, d, w1, w2, w3, en, e7, h1, h2, h3, ew⟩ := wk_cyc hG h hc (by omega)
      by_cases hneg : w2 < 0
      · exact ⟨d, j + 1, w2, by omega, h2, hneg, rc_w h1, rc_w h3⟩
      · exact ih (i + m) c (w1 + w3) (by omega) hc (wk_app h1 _ _ _ h3) (by omega)
theorem lo_s7 (hG : ∀ a b w, G a b w → a < 7 ∧ b < 7) {a b : Nat} (ha : a < 7) (h : wk_L G a b) : ∃ c n w, n ≤ 7 ∧ wk_R G a c ∧ wk_W G n c c w ∧ w < 0 ∧ wk_R G c b := by
  obtain ⟨c, n, w, h1, h2, h3, h4⟩ := h
  obtain ⟨d, m, v, hm, hd, hv, r1, r2⟩ := lo_7 hG n n c w (Nat.le_refl n) (rc_b hG h1 ha) h2 h3
  exact ⟨d, m, v, hm, rc_t h1 r1, hd, hv, rc_t r2 h4⟩
/-- walks of any low weight -/
theorem lo_any {a b : Nat} (h : wk_L G a b) (B : Int) : ∃ n w, wk_W G n a b w ∧ w < B := by
  obtain ⟨c, n, w, ⟨n1, w1, h1⟩, h2, h3, ⟨n3, w3, h4⟩⟩ := h
  obtain ⟨k, hk⟩ : ∃ k : Nat, w1 + w3 - B < k := ⟨(w1 + w3 - B).toNat + 1, by omega⟩
  refine ⟨_, _, wk_app (wk_app h1 _ _ _ (wk_rep h2 k)) _ _ _ h4, ?_⟩
  have : (k : Int) * w ≤ k * (-1) := Int.mul_le_mul_of_nonneg_left (by omega) (by omega)
  omega
theorem wk_Du {a b : Nat} {d d' : Int} (h : wk_D G a b d) (h' : wk_D G a b d') : d = d' := by
  obtain ⟨⟨n, h1⟩, h2⟩ := h
  obtain ⟨⟨n', h1'⟩, h2'⟩ := h'
  have e1 := h2 _ _ h1'
  have e2 := h2' _ _ h1
  omega
/-- prices along walks between s and t -/
theorem pt_w {s t : Nat} {D : Nat → Int} (hD : ∀ a b w, G a b w → wk_R G s a → wk_R G b t → D b ≤ D a + w) : ∀ (n a b : Nat) (w : Int), wk_W G n a b w → wk_R G s a → wk_R G b t → D b ≤ D a + w := by
  intro n
  induction n with
  | zero => intro a b w h _ _; obtain ⟨rfl, rfl⟩ := h; omega
  | succ n ih =>
    intro a b w h ra rb
    obtain ⟨c, w1, w2, h1, g, rfl⟩ := h
    have e1 := ih a c w1 h1 ra (rc_h g rb)
    have e2 := hD c b w2 g (rc_t ra (rc_w h1)) rb
    omega
theorem pt_lo {s t : Nat} {D : Nat → Int} (hD : ∀ a b w, G a b w → wk_R G s a → wk_R G b t → D b ≤ D a + w) : ¬ wk_L G s t := by
  intro ⟨c, n, w, h1, h2, h3, h4⟩
  have := pt_w hD n c c w h2 h1 h4
  omega
end WL
end
section
/-! what an engine finds; rounds over arcs, pure -/
def fd_F (G : Nat → Nat → Int → Prop) (s t : Nat) (x : Int) : Prop :=
  (wk_L G s t ∧ x = -4000) ∨ (¬ wk_L G s t ∧ ¬ wk_R G s t ∧ x = 1048576) ∨ (¬ wk_L G s t ∧ wk_D G s t x)
section FD
variable {G : Nat → Nat → Int → Prop}
theorem fd_u {s t : Nat} {x y : Int} (h : fd_F G s t x) (h' : fd_F G s t y) : x = y := by
  rcases h with ⟨l, rfl⟩ | ⟨l, r, rfl⟩ | ⟨l, d⟩
  · rcases h' with ⟨l', rfl⟩ | ⟨l', r', rfl⟩ | ⟨l', d'⟩
    · rfl
    · exact absurd l l'
    · exact absurd l l'
  · rcases h' with ⟨l', rfl⟩ | ⟨l', r', rfl⟩ | ⟨l', d'⟩
    · exact absurd l' l
    · rfl
    · exact absurd ⟨_, _, d'.1.choose_spec⟩ r
  · rcases h' with ⟨l', rfl⟩ | ⟨l', r', rfl⟩ | ⟨l', d'⟩
    · exact absurd l' l
    · exact absurd ⟨_, _, d.1.choose_spec⟩ r'
    · exact wk_Du d d'
theorem fd_bd (hG : ∀ a b w, G a b w → a < 7 ∧ b < 7) (hw : ∀ a b w, G a b w → -20 ≤ w ∧ w ≤ 20) {s t : Nat} (hs : s < 7) {x : Int} (hl : ¬ wk_L G s t) (h : wk_D G s t x) : -120 ≤ x ∧ x ≤ 120 := by
  obtain ⟨⟨n, h1⟩, h2⟩ := h
  obtain ⟨n', w', h6, _, h', hle⟩ := wk_sn hG hs hl h1
  have e := h2 _ _ h'
  have e1 := wk_le (C := 20) (fun a b w g => (hw a b w g).2) _ _ _ _ h'
  have e2 := wk_ge (C := 20) (fun a b w g => (hw a b w g).1) _ _ _ _ h'
  omega
/-- the value is the least weight if it is that of a walk and no walk of six arcs is below it -/
theorem fd_D6 (hG : ∀ a b w, G a b w → a < 7 ∧ b < 7) {s t : Nat} (hs : s < 7) {x : Int} (hl : ¬ wk_L G s t) (h1 : ∃ n, wk_W G n s t x) (h2 : ∀ n w, n ≤ 6 → wk_W G n s t w → x ≤ w) : wk_D G s t x := by
  refine ⟨h1, fun n w h => ?_⟩
  obtain ⟨n', w', h6, _, h', hle⟩ := wk_sn hG hs hl h
  have := h2 _ _ h6 h'
  omega
end FD
/-- the arcs as a graph: A k: arc k is there -/
def ga_G (A : Nat → Prop) (fr to : Nat → Nat) (c : Nat → Int) (a b : Nat) (w : Int) : Prop := ∃ k, k < 20 ∧ A k ∧ fr k = a ∧ to k = b ∧ c k = w
theorem ga_i {A : Nat → Prop} {fr to : Nat → Nat} {c : Nat → Int} {k : Nat} (hk : k < 20) (ha : A k) : ga_G A fr to c (fr k) (to k) (c k) := ⟨k, hk, ha, rfl, rfl, rfl⟩
/-- round r of rounds over all arcs, before arc k; begun at the points of S with 0 -/
def bf_I (A : Nat → Prop) (fr to : Nat → Nat) (c : Nat → Int) (S : Nat → Prop) (r k : Nat) (D : Nat → Int) : Prop :=
  (∀ n a b w, n ≤ r → S a → wk_W (ga_G A fr to c) n a b w → D b ≤ w) ∧
  (∀ j n a w, j < k → A j → n ≤ r → S a → wk_W (ga_G A fr to c) n a (fr j) w → D (to j) ≤ w + c j) ∧
  (∀ b, b < 7 → D b < 1048576 → ∃ n a, n ≤ 20 * r + k ∧ S a ∧ wk_W (ga_G A fr to c) n a b (D b))
section BF
variable {A : Nat → Prop} {fr to : Nat → Nat} {c : Nat → Int} {S : Nat → Prop}
theorem bf_no {r k : Nat} {D : Nat → Int} (hk : k < 20) (hF : ∀ n a b w, n ≤ r → S a → wk_W (ga_G A fr to c) n a b w → w < 1048576) (h : bf_I A fr to c S r k D) (hn : A k → 1048576 ≤ D (fr k) ∨ D (to k) ≤ D (fr k) + c k) : bf_I A fr to c S r (k + 1) D := by
  obtain ⟨h1, h2, h3⟩ := h
  refine ⟨h1, ?_, ?_⟩
  · intro j n a w hj ha hr hS hw
    by_cases e : j = k
    · subst e
      have e1 := h1 _ _ _ _ hr hS hw
      have e2 := hF _ _ _ _ hr hS hw
      rcases hn ha with e3 | e3 <;> omega
    · exact h2 j n a w (by omega) ha hr hS hw
  · intro b hb hD
    obtain ⟨n, a, hn', hS, hw⟩ := h3 b hb hD
    exact ⟨n, a, by omega, hS, hw⟩
theorem bf_yes {r k : Nat} {D D' : Nat → Int} (hk : k < 20) (hfr : fr k < 7) (h : bf_I A fr to c S r k D) (ha : A k) (hF : D (fr k) < 1048576) (hl : D (fr k) + c k < D (to k)) (e1 : D' (to k) = D (fr k) + c k) (e2 : ∀ j, j ≠ to k → D' j = D j) : bf_I A fr to c S r (k + 1) D' := by
  obtain ⟨h1, h2, h3⟩ := h
  have hle : ∀ j, D' j ≤ D j := by
    intro j
    by_cases e : j = to k
    · rw [e, e1]; omega
    · rw [e2 j e]; omega
  refine ⟨?_, ?_, ?_⟩
  · intro n a b w hr hS hw
    have := h1 _ _ _ _ hr hS hw
    have := hle b
    omega
  · intro j n a w hj hA hr hS hw
    by_cases e : j = k
    · subst e
      have := h1 _ _ _ _ hr hS hw
      omega
    · have := h2 j n a w (by omega) hA hr hS hw
      have := hle (to j)
      omega
  · intro b hb hD
    by_cases e : b = to k
    · subst e
      obtain ⟨n, a, hn', hS, hw⟩ := h3 (fr k) hfr hF
      exact ⟨n + 1, a, by omega, hS, by rw [e1]; exact wk_s hw (ga_i hk ha)⟩
    · rw [e2 b e] at hD ⊢
      obtain ⟨n, a, hn', hS, hw⟩ := h3 b hb hD
      exact ⟨n, a, by omega, hS, hw⟩
theorem bf_rd {r : Nat} {D : Nat → Int} (h : bf_I A fr to c S r 20 D) : bf_I A fr to c S (r + 1) 0 D := by
  obtain ⟨h1, h2, h3⟩ := h
  refine ⟨?_, ?_, ?_⟩
  · intro n a b w hr hS hw
    by_cases e : n ≤ r
    · exact h1 _ _ _ _ e hS hw
    · obtain rfl : n = r + 1 := by omega
      obtain ⟨d, w1, w2, hw1, ⟨j, hj, hA, rfl, rfl, rfl⟩, rfl⟩ := hw
      exact h2 j r a w1 hj hA (Nat.le_refl r) hS hw1
  · intro j n a w hj; omega
  · intro b hb hD
    obtain ⟨n, a, hn', hS, hw⟩ := h3 b hb hD
    exact ⟨n, a, by omega, hS, hw⟩
/-- one more round that marks what still gets better (M); Lw: the points that may -/
def lp_I (A : Nat → Prop) (fr to : Nat → Nat) (c : Nat → Int) (S Lw : Nat → Prop) (D0 : Nat → Int) (k : Nat) (D : Nat → Int) (M : Nat → Prop) : Prop :=
  (∀ q, q < 7 → ¬ M q → D q = D0 q) ∧ (∀ q, q < 7 → D q ≤ D0 q) ∧
  (∀ j, j < k → A j → ¬ M (fr j) → ¬ M (to j) → 1048576 ≤ D0 (fr j) ∨ D0 (to j) ≤ D0 (fr j) + c j) ∧
  (∀ b, b < 7 → D b < 1048576 → ∃ n a, n ≤ 140 + k ∧ S a ∧ wk_W (ga_G A fr to c) n a b (D b)) ∧
  (∀ q, q < 7 → M q → Lw q)
theorem lp_0 {S Lw M : Nat → Prop} {D : Nat → Int} (h : bf_I A fr to c S 7 0 D) (hM : ∀ q, q < 7 → ¬ M q) : lp_I A fr to c S Lw D 0 D M :=
  ⟨fun q _ _ => rfl, fun q _ => Int.le_refl _, fun j hj => absurd hj (Nat.not_lt_zero j), fun b hb hD => by
    obtain ⟨n, a, hn, hS, hw⟩ := h.2.2 b hb hD
    exact ⟨n, a, by omega, hS, hw⟩, fun q hq hm => absurd hm (hM q hq)⟩
theorem lp_no {Lw M : Nat → Prop} {D0 D : Nat → Int} {k : Nat} (hk : k < 20) (hfr : fr k < 7) (hto : to k < 7) (h : lp_I A fr to c S Lw D0 k D M) (hn : A k → 1048576 ≤ D (fr k) ∨ D (to k) ≤ D (fr k) + c k) : lp_I A fr to c S Lw D0 (k + 1) D M := by
  obtain ⟨h1, h2, h3, h4, h5⟩ := h
  refine ⟨h1, h2, ?_, ?_, h5⟩
  · intro j hj ha m1 m2
    by_cases e : j = k
    · subst e
      have e1 := h1 _ hfr m1
      have e2 := h1 _ hto m2
      rw [← e1, ← e2]; exact hn ha
    · exact h3 j (by omega) ha m1 m2
  · intro b hb hD
    obtain ⟨n, a, hn, hS, hw⟩ := h4 b hb hD
    exact ⟨n, a, by omega, hS, hw⟩
theorem lp_yes {Lw M M' : Nat → Prop} {D0 D D' : Nat → Int} {k : Nat} (hk : k < 20) (hfr : fr k < 7) (hto : to k < 7) (hL : ∀ q, q < 7 → ¬ Lw q → ∀ n a w, S a → wk_W (ga_G A fr to c) n a q w → D0 q ≤ w) (h : lp_I A fr to c S Lw D0 k D M) (ha : A k) (hF : D (fr k) < 1048576) (hl : D (fr k) + c k < D (to k)) (e1 : D' (to k) = D (fr k) + c k) (e2 : ∀ j, j ≠ to k → D' j = D j)
    (m1 : ∀ q, M q → M' q) (m2 : M' (to k)) (m3 : Lw (to k) → ∀ q, q < 7 → M' q → M q ∨ Lw q) : lp_I A fr to c S Lw D0 (k + 1) D' M' := by
  obtain ⟨h1, h2, h3, h4, h5⟩ := h
  obtain ⟨n, a, hn, hS, hw⟩ := h4 _ hfr hF
  have hw' := wk_s hw (ga_i (to := to) hk ha)
  have hlow : Lw (to k) := by
    refine Classical.byContradiction fun hnl => ?_
    have := hL _ hto hnl _ _ _ hS hw'
    have := h2 _ hto
    omega
  refine ⟨?_, ?_, ?_, ?_, ?_⟩
  · intro q hq hm
    have : q ≠ to k := fun e => hm (e ▸ m2)
    rw [e2 q this]
    exact h1 q hq fun z => hm (m1 q z)
  · intro q hq
    by_cases e : q = to k
    · rw [e, e1]; have := h2 _ hto; omega
    · rw [e2 q e]; exact h2 q hq
  · intro j hj hA n1 n2
    by_cases e : j = k
    · subst e; exact absurd m2 n2
    · exact h3 j (by omega) hA (fun z => n1 (m1 _ z)) (fun z => n2 (m1 _ z))
  · intro b hb hD
    by_cases e : b = to k
    · subst e
      exact ⟨n + 1, a, by omega, hS, by rw [e1]; exact hw'⟩
    · rw [e2 b e] at hD ⊢
      obtain ⟨n, a, hn', hS, hw⟩ := h4 b hb hD
      exact ⟨n, a, by omega, hS, hw⟩
  · intro q hq hm
    rcases m3 hlow q hq hm with z | z
    · exact h5 q hq z
    · exact z
end BF
end
section
/-! numbers, bits, branches -/
theorem ib_le {x y : Int32} {A B : Prop} (a b : Int) (f : a ≤ b → A) (g : b < a → B) (hx : x.toInt = a := by first | rfl | assumption | decide) (hy : y.toInt = b := by first | rfl | assumption | decide) : (x ≤ y → A) ∧ (¬ x ≤ y → B) := by
  subst hx hy
  rw [Int32.le_iff_toInt_le]
  exact ⟨f, fun z => g (by omega)⟩
theorem ib_lt {x y : Int32} {A B : Prop} (a b : Int) (f : a < b → A) (g : b ≤ a → B) (hx : x.toInt = a := by first | rfl | assumption | decide) (hy : y.toInt = b := by first | rfl | assumption | decide) : (x < y → A) ∧ (¬ x < y → B) := by
  subst hx hy
  rw [Int32.lt_iff_toInt_lt]
  exact ⟨f, fun z => g (by omega)⟩
theorem ib_eq {x y : Int32} {A B : Prop} (a b : Int) (f : a = b → A) (g : a ≠ b → B) (hx : x.toInt = a := by first | rfl | assumption | decide) (hy : y.toInt = b := by first | rfl | assumption | decide) : (x = y → A) ∧ (¬ x = y → B) := by
  subst hx hy
  rw [← Int32.toInt_inj]
  exact ⟨f, g⟩
theorem ia_add {x y : Int32} {a b : Int} (hx : x.toInt = a) (hy : y.toInt = b) (h1 : -2147483648 ≤ a + b) (h2 : a + b < 2147483648) : (x + y).toInt = a + b := by
  rw [Int32.toInt_add, hx, hy]
  exact Int.bmod_eq_of_le (by omega) (by omega)
theorem ia_sub {x y : Int32} {a b : Int} (hx : x.toInt = a) (hy : y.toInt = b) (h1 : -2147483648 ≤ a - b) (h2 : a - b < 2147483648) : (x - y).toInt = a - b := by
  rw [Int32.toInt_sub, hx, hy]
  exact Int.bmod_eq_of_le (by omega) (by omega)
theorem ia_mul {x y : Int32} {a b : Int} (hx : x.toInt = a) (hy : y.toInt = b) (h1 : -2147483648 ≤ a * b) (h2 : a * b < 2147483648) : (x * y).toInt = a * b := by
  rw [Int32.toInt_mul, hx, hy]
  generalize a * b = z at *
  exact Int.bmod_eq_of_le (by omega) (by omega)
theorem ia_ext {x y : Int32} (h : x.toInt = y.toInt) : x = y := Int32.toInt_inj.mp h
theorem bs_1 : ∀ i, i < 32 → bt 1 i = decide (i = 0) := by decide +kernel
theorem bs_v (x : Int32) {p : Nat} (hp : p < 32) : ((x >>> (nI p &&& 31)) &&& 1) = if bt x p = true then 1 else 0 := by
  apply b_ext
  intro i hi
  rw [b_and, b_sshr p hp x hi, bs_1 i hi]
  by_cases h0 : i = 0
  · subst h0
    by_cases hb : bt x p = true
    · rw [if_pos hb, if_pos (by omega), Nat.add_zero, hb]; decide
    · rw [if_neg hb, if_pos (by omega), Nat.add_zero, Bool.eq_false_iff.mpr hb, b_0]; decide
  · rw [decide_eq_false h0, Bool.and_false]
    by_cases hb : bt x p = true
    · rw [if_pos hb, bs_1 i hi, decide_eq_false h0]
    · rw [if_neg hb, b_0]
theorem bs_z {x : Int32} {p : Nat} (hp : p < 32) : ((x >>> (nI p &&& 31)) &&& 1) = 0 ↔ ¬ bt x p = true := by
  rw [bs_v x hp]
  by_cases hb : bt x p = true
  · rw [if_pos hb]; exact ⟨fun z => absurd z (by decide), fun z => absurd hb z⟩
  · rw [if_neg hb]; exact ⟨fun _ => hb, fun _ => rfl⟩
theorem bs_o {x : Int32} {p : Nat} (hp : p < 32) : ((x >>> (nI p &&& 31)) &&& 1) = 1 ↔ bt x p = true := by
  rw [bs_v x hp]
  by_cases hb : bt x p = true
  · rw [if_pos hb]; exact ⟨fun _ => hb, fun _ => rfl⟩
  · rw [if_neg hb]; exact ⟨fun z => absurd z (by decide), fun z => absurd z hb⟩
theorem bs_br {x y : Int32} {A B : Prop} (p : Nat) (f : ¬ bt x p = true → A) (g : bt x p = true → B) (hy : y = nI p := by rfl) (hp : p < 32 := by omega) : (((x >>> (y &&& 31)) &&& 1) = 0 → A) ∧ (¬ ((x >>> (y &&& 31)) &&& 1) = 0 → B) := by
  subst hy
  rw [bs_z hp]
  exact ⟨f, fun z => g (Classical.byContradiction z)⟩
theorem bs_br1 {x y : Int32} {A B : Prop} (p : Nat) (f : bt x p = true → A) (g : ¬ bt x p = true → B) (hy : y = nI p := by rfl) (hp : p < 32 := by omega) : (((x >>> (y &&& 31)) &&& 1) = 1 → A) ∧ (¬ ((x >>> (y &&& 31)) &&& 1) = 1 → B) := by
  subst hy
  rw [bs_o hp]
  exact ⟨f, g⟩
theorem bs_s {p : Nat} (hp : p < 32) {i : Nat} (hi : i < 32) : bt ((1 : Int32) <<< (nI p &&& 31)) i = decide (i = p) := by
  rw [b_shl p hp 1 hi]
  by_cases h : p ≤ i
  · rw [decide_eq_true h, bs_1 (i - p) (by omega), Bool.true_and]
    exact decide_eq_decide.mpr (by omega)
  · rw [decide_eq_false h, Bool.false_and]
    exact (decide_eq_false (by omega)).symm
theorem bs_or {x y : Int32} {p : Nat} (hp : p < 32) (hy : y = nI p) {i : Nat} (hi : i < 32) : bt (x ||| ((1 : Int32) <<< (y &&& 31))) i = true ↔ bt x i = true ∨ i = p := by
  subst hy
  rw [b_or, bs_s hp hi, Bool.or_eq_true, decide_eq_true_iff]
theorem bs_or0 (x : Int32) : x ||| 0 = x := by
  apply b_ext; intro i _; rw [b_or, b_0, Bool.or_false]
theorem bs_cl {x : Int32} {p : Nat} (hp : p < 32) {i : Nat} (hi : i < 32) : bt (x &&& (((1 : Int32) <<< (nI p &&& 31)) ^^^ (-1))) i = true ↔ bt x i = true ∧ i ≠ p := by
  rw [b_and, b_xor, bs_s hp hi, b_m1 i hi, Bool.and_eq_true, Bool.xor_true, Bool.not_eq_true', decide_eq_false_iff_not]
theorem bs_ext {x y : Int32} (h : ∀ i, i < 32 → (bt x i = true ↔ bt y i = true)) : x = y := b_ext fun i hi => Bool.eq_iff_iff.mpr (h i hi)
theorem up_i {f : Nat → Int32} {y x x' : Int32} {p : Nat} (hy : y = nI p) (hp : p < 2 ^ 31) (hx : x = x') : upd f y.toNatClampNeg x = upd f p x' := by
  subst hy hx; rw [nI_clamp hp]
theorem up_self (f : Nat → Int32) (p : Nat) : upd f p (f p) = f := by
  funext j
  by_cases h : j = p
  · rw [h, pk_us]
  · rw [pk_un h]
theorem ix_7 (a b : Nat) : nI a * 7 + nI b = nI (a * 7 + b) := by
  show nI a * nI 7 + nI b = _
  rw [pk_mul, nI_add]
theorem ix_7l (a b : Nat) : 7 * nI a + nI b = nI (7 * a + b) := by
  show nI 7 * nI a + nI b = _
  rw [pk_mul, nI_add]
theorem nb_b0 : vp_nar .boolean 0 = 0 := by decide
theorem nb_b1 : vp_nar .boolean 1 = 1 := by decide
theorem nb_n0 : narrow .boolean (.int 0) = .int 0 := by rfl
theorem nb_n1 : narrow .boolean (.int 1) = .int 1 := by rfl
theorem nb_by : ∀ p, p < 128 → vp_nar .byte (nI p).toInt8.toInt32 = nI p := by
  intro p hp
  rw [vp_nar_byte]
  exact (by decide +kernel : ∀ p, p < 128 → (nI p).toInt8.toInt32.toInt8.toInt32 = nI p) p hp
theorem nb_m1 : vp_nar .byte ((-1 : Int32).toInt8.toInt32) = -1 := by rw [vp_nar_byte]; decide
theorem nb_m1' : vp_nar .byte (-1 : Int32) = -1 := by rw [vp_nar_byte]; decide
theorem nb_wt : ∀ x : Int32, -20 ≤ x.toInt → x.toInt ≤ 20 → vp_nar .byte x.toInt8.toInt32 = x := by
  intro x h1 h2
  rw [vp_nar_byte]
  apply ia_ext
  rw [Int8.toInt_toInt32, Int32.toInt_toInt8, Int8.toInt_toInt32, Int32.toInt_toInt8]
  have e : x.toInt.bmod (2 ^ 8) = x.toInt := Int.bmod_eq_of_le (by omega) (by omega)
  rw [e, e]
/-- what a state of the component says of the arcs -/
def xg_I (present : Int32) (fromOf toOf weightOf : Nat → Int32) (A : Nat → Prop) (fr to : Nat → Nat) (c : Nat → Int) : Prop :=
  ∀ k, k < 20 → ((bt present k = true ↔ A k) ∧ fromOf k = nI (fr k) ∧ fr k < 7 ∧ toOf k = nI (to k) ∧ to k < 7 ∧ (weightOf k).toInt = c k ∧ -20 ≤ c k ∧ c k ≤ 20)
section XG
variable {f_present : Int32} {a_fromOf a_toOf a_weightOf : Nat → Int32} {A : Nat → Prop} {fr to : Nat → Nat} {c : Nat → Int}
theorem xg_A (hg : xg_I f_present a_fromOf a_toOf a_weightOf A fr to c) {k : Nat} (hk : k < 20) : bt f_present k = true ↔ A k := (hg k hk).1
theorem xg_f (hg : xg_I f_present a_fromOf a_toOf a_weightOf A fr to c) {k : Nat} (hk : k < 20) : a_fromOf (nI k).toNatClampNeg = nI (fr k) := by rw [nI_clamp (by omega)]; exact (hg k hk).2.1
theorem xg_f7 (hg : xg_I f_present a_fromOf a_toOf a_weightOf A fr to c) {k : Nat} (hk : k < 20) : fr k < 7 := (hg k hk).2.2.1
theorem xg_t (hg : xg_I f_present a_fromOf a_toOf a_weightOf A fr to c) {k : Nat} (hk : k < 20) : a_toOf (nI k).toNatClampNeg = nI (to k) := by rw [nI_clamp (by omega)]; exact (hg k hk).2.2.2.1
theorem xg_t7 (hg : xg_I f_present a_fromOf a_toOf a_weightOf A fr to c) {k : Nat} (hk : k < 20) : to k < 7 := (hg k hk).2.2.2.2.1
theorem xg_w (hg : xg_I f_present a_fromOf a_toOf a_weightOf A fr to c) {k : Nat} (hk : k < 20) : (a_weightOf (nI k).toNatClampNeg).toInt = c k := by rw [nI_clamp (by omega)]; exact (hg k hk).2.2.2.2.2.1
theorem xg_c (hg : xg_I f_present a_fromOf a_toOf a_weightOf A fr to c) {k : Nat} (hk : k < 20) : -20 ≤ c k ∧ c k ≤ 20 := (hg k hk).2.2.2.2.2.2
theorem xg_7 (hg : xg_I f_present a_fromOf a_toOf a_weightOf A fr to c) : ∀ a b w, ga_G A fr to c a b w → a < 7 ∧ b < 7 := by
  intro a b w ⟨k, hk, _, e1, e2, _⟩
  exact ⟨e1 ▸ xg_f7 hg hk, e2 ▸ xg_t7 hg hk⟩
theorem xg_20 (hg : xg_I f_present a_fromOf a_toOf a_weightOf A fr to c) : ∀ a b w, ga_G A fr to c a b w → -20 ≤ w ∧ w ≤ 20 := by
  intro a b w ⟨k, hk, _, _, _, e3⟩
  exact e3 ▸ xg_c hg hk
end XG
end
section
/-! spreading over arcs, pure -/
def sp_I (A : Nat → Prop) (fr to : Nat → Nat) (c : Nat → Int) (S : Nat → Prop) (r k : Nat) (B : Nat → Prop) : Prop :=
  (∀ i, B i → i < 7 ∧ ∃ q, S q ∧ wk_R (ga_G A fr to c) q i) ∧
  (∀ n q b w, n ≤ r → S q → wk_W (ga_G A fr to c) n q b w → B b) ∧
  (∀ j n q w, j < k → A j → n ≤ r → S q → wk_W (ga_G A fr to c) n q (fr j) w → B (to j))
section SP
variable {A : Nat → Prop} {fr to : Nat → Nat} {c : Nat → Int} {S : Nat → Prop}
theorem sp_0 (hS : ∀ q, S q → q < 7) : sp_I A fr to c S 0 0 S := by
  refine ⟨fun i hi => ⟨hS i hi, i, hi, rc_0 i⟩, ?_, fun j n q w hj => absurd hj (Nat.not_lt_zero j)⟩
  intro n q b w hn hq hw
  obtain rfl : n = 0 := by omega
  obtain ⟨rfl, _⟩ := hw
  exact hq
theorem sp_no {r k : Nat} {B : Nat → Prop} (h : sp_I A fr to c S r k B) (hn : A k → ¬ B (fr k)) : sp_I A fr to c S r (k + 1) B := by
  obtain ⟨h1, h2, h3⟩ := h
  refine ⟨h1, h2, ?_⟩
  intro j n q w hj ha hr hS hw
  by_cases e : j = k
  · subst e; exact absurd (h2 _ _ _ _ hr hS hw) (hn ha)
  · exact h3 j n q w (by omega) ha hr hS hw
theorem sp_yes {r k : Nat} {B B' : Nat → Prop} (hk : k < 20) (hto : to k < 7) (h : sp_I A fr to c S r k B) (ha : A k) (hb : B (fr k)) (e : ∀ i, B' i ↔ B i ∨ i = to k) : sp_I A fr to c S r (k + 1) B' := by
  obtain ⟨h1, h2, h3⟩ := h
  refine ⟨?_, ?_, ?_⟩
  · intro i hi
    rcases (e i).mp hi with z | z
    · exact h1 i z
    · subst z
      obtain ⟨_, q, hq, hr⟩ := h1 _ hb
      exact ⟨hto, q, hq, rc_s hr (ga_i hk ha)⟩
  · intro n q b w hn hq hw
    exact (e b).mpr (Or.inl (h2 n q b w hn hq hw))
  · intro j n q w hj hA hr hS hw
    by_cases ej : j = k
    · subst ej; exact (e _).mpr (Or.inr rfl)
    · exact (e _).mpr (Or.inl (h3 j n q w (by omega) hA hr hS hw))
theorem sp_rd {r : Nat} {B : Nat → Prop} (h : sp_I A fr to c S r 20 B) : sp_I A fr to c S (r + 1) 0 B := by
  obtain ⟨h1, h2, h3⟩ := h
  refine ⟨h1, ?_, fun j n q w hj => absurd hj (Nat.not_lt_zero j)⟩
  intro n q b w hn hq hw
  by_cases e : n ≤ r
  · exact h2 n q b w e hq hw
  · obtain rfl : n = r + 1 := by omega
    obtain ⟨d, w1, w2, hw1, ⟨j, hj, hA, rfl, rfl, rfl⟩, rfl⟩ := hw
    exact h3 j r q w1 hj hA (Nat.le_refl r) hq hw1
theorem sp_end (hG : ∀ a b w, ga_G A fr to c a b w → a < 7 ∧ b < 7) (hS : ∀ q, S q → q < 7) {B : Nat → Prop} (h : sp_I A fr to c S 7 0 B) (i : Nat) : B i ↔ i < 7 ∧ ∃ q, S q ∧ wk_R (ga_G A fr to c) q i := by
  refine ⟨h.1 i, ?_⟩
  intro ⟨_, q, hq, hr⟩
  obtain ⟨n, w, h6, hw⟩ := rc_6 hG (hS q hq) hr
  exact h.2.1 n q i w (by omega) hq hw
end SP
/-! the component's small methods -/
theorem pt_c (v : Int32) : (∃ p, p < 7 ∧ v = nI p) ∨ (v < 0 ∨ 7 ≤ v) := by
  rcases pk_ix v (n := 7) (by decide) with h | h | h
  · exact Or.inr (Or.inl h)
  · exact Or.inr (Or.inr h)
  · exact Or.inl h
theorem xs_pt1 {post : Int32 → Prop} {p : Nat} (hp : p < 7) (h : post 1) : wpX_isPoint post (nI p) :=
  br_f (nI_pos (by omega)) (br_f (nI_ge hp (by decide)) h)
theorem xs_pt0 {post : Int32 → Prop} {v : Int32} (hv : v < 0 ∨ 7 ≤ v) (h : post 0) : wpX_isPoint post v := by
  by_cases h0 : v < 0
  · exact br_t h0 h
  · exact br_f h0 (br_t (hv.resolve_left h0) h)
theorem ws_c (v : Int32) : (-20 ≤ v.toInt ∧ v.toInt ≤ 20) ∨ (v < -20 ∨ 20 < v) := by
  rw [Int32.lt_iff_toInt_lt, Int32.lt_iff_toInt_lt]
  have e1 : (-20 : Int32).toInt = -20 := by decide
  have e2 : (20 : Int32).toInt = 20 := by decide
  omega
theorem xs_wt1 {post : Int32 → Prop} {v : Int32} (hv : -20 ≤ v.toInt ∧ v.toInt ≤ 20) (h : post 1) : wpX_isWeight post v :=
  ib_lt v.toInt (-20) (fun z => by omega) (fun _ => ib_lt 20 v.toInt (fun z => by omega) (fun _ => h))
theorem xs_wt0 {post : Int32 → Prop} {v : Int32} (hv : v < -20 ∨ 20 < v) (h : post 0) : wpX_isWeight post v := by
  by_cases h0 : v < -20
  · exact br_t h0 h
  · exact br_f h0 (br_t (hv.resolve_left h0) h)
theorem en_c (v : Int32) : (∃ p, p < 5 ∧ v = nI p) ∨ (v < 0 ∨ 5 ≤ v) := by
  rcases pk_ix v (n := 5) (by decide) with h | h | h
  · exact Or.inr (Or.inl h)
  · exact Or.inr (Or.inr h)
  · exact Or.inl h
theorem xs_en1 {post : Int32 → Prop} {p : Nat} (hp : p < 5) (h : post 1) : wpX_isEngine post (nI p) :=
  br_f (nI_pos (by omega)) (br_f (nI_ge hp (by decide)) h)
theorem xs_en0 {post : Int32 → Prop} {v : Int32} (hv : v < 0 ∨ 5 ≤ v) (h : post 0) : wpX_isEngine post v := by
  by_cases h0 : v < 0
  · exact br_t h0 h
  · exact br_f h0 (br_t (hv.resolve_left h0) h)
section XS
variable {f_present f_heapSize f_top f_bottom : Int32} {a_fromOf a_toOf a_weightOf a_found a_kept a_dist a_isLow a_times a_queue a_queued a_price a_heap a_heapPlace a_group a_badGroup a_cameBy a_table a_table2 a_byCount : Nat → Int32} {A : Nat → Prop} {fr to : Nat → Nat} {c : Nat → Int}
theorem xs_has (hg : xg_I f_present a_fromOf a_toOf a_weightOf A fr to c) {post : Int32 → Prop} {k : Nat} (hk : k < 20) (h1 : A k → post 1) (h0 : ¬ A k → post 0) : wpX_has post (f_present, f_heapSize, f_top, f_bottom, a_fromOf, a_toOf, a_weightOf, a_found, a_kept, a_dist, a_isLow, a_times, a_queue, a_queued, a_price, a_heap, a_heapPlace, a_group, a_badGroup, a_cameBy, a_table, a_table2, a_byCount) (nI k) := by
  unfold wpX_has
  exact br_f (nI_pos (by omega)) (br_f (nI_ge hk (by decide)) (bs_br k (fun z => h0 fun ha => z ((xg_A hg hk).mpr ha)) (fun z => h1 ((xg_A hg hk).mp z))))
theorem xs_has0 {post : Int32 → Prop} {v : Int32} (hv : v < 0 ∨ 20 ≤ v) (h : post 0) : wpX_has post (f_present, f_heapSize, f_top, f_bottom, a_fromOf, a_toOf, a_weightOf, a_found, a_kept, a_dist, a_isLow, a_times, a_queue, a_queued, a_price, a_heap, a_heapPlace, a_group, a_badGroup, a_cameBy, a_table, a_table2, a_byCount) v := by
  unfold wpX_has
  by_cases h0 : v < 0
  · exact br_t h0 h
  · exact br_f h0 (br_t (hv.resolve_left h0) h)
theorem xs_spread (hg : xg_I f_present a_fromOf a_toOf a_weightOf A fr to c) {post : Int32 → Prop} {set : Int32} (hset : ∀ i, bt set i = true → i < 7) (h : ∀ r, (∀ i, bt r i = true ↔ i < 7 ∧ ∃ q, bt set q = true ∧ wk_R (ga_G A fr to c) q i) → post r) : wpX_spread post (f_present, f_heapSize, f_top, f_bottom, a_fromOf, a_toOf, a_weightOf, a_found, a_kept, a_dist, a_isLow, a_times, a_queue, a_queued, a_price, a_heap, a_heapPlace, a_group, a_badGroup, a_cameBy, a_table, a_table2, a_byCount) set := by
  unfold wpX_spread
  refine loop_0 (fun n i s => wX_spread_4 post f_present f_heapSize f_top f_bottom a_fromOf a_toOf a_weightOf a_found a_kept a_dist a_isLow a_times a_queue a_queued a_price a_heap a_heapPlace a_group a_badGroup a_cameBy a_table a_table2 a_byCount n s (nI i)) (fun r s => sp_I A fr to c (fun q => bt set q = true) r 0 (fun i => bt s i = true)) 7 set (sp_0 hset) ?_ ?_
  · intro n s hI
    exact br_t (nI_le (Nat.le_refl 7) (by decide)) (h s (sp_end (xg_7 hg) hset hI))
  · intro n i s hi hI ih
    refine br_f (nI_ge hi (by decide)) ?_
    refine loop_0 (fun n' k s => wX_spread_13 post (wX_spread_4 post f_present f_heapSize f_top f_bottom a_fromOf a_toOf a_weightOf a_found a_kept a_dist a_isLow a_times a_queue a_queued a_price a_heap a_heapPlace a_group a_badGroup a_cameBy a_table a_table2 a_byCount n) (nI i) f_present f_heapSize f_top f_bottom a_fromOf a_toOf a_weightOf a_found a_kept a_dist a_isLow a_times a_queue a_queued a_price a_heap a_heapPlace a_group a_badGroup a_cameBy a_table a_table2 a_byCount n' s (nI k)) (fun k s => sp_I A fr to c (fun q => bt set q = true) i k (fun i => bt s i = true)) 20 s hI ?_ ?_
    · intro n' s' hI'
      exact br_t (nI_le (Nat.le_refl 20) (by decide)) (nm_r (nI_1 i) (ih s' (sp_rd hI')))
    · intro n' k s' hk hI' ih'
      refine br_f (nI_ge hk (by decide)) ?_
      refine xs_has hg hk (fun ha => br_f (by decide) ?_) (fun ha => br_t rfl ?_)
      · refine And.intro (vp_in_nI hk (by decide)) ?_
        refine bs_br (fr k) (fun hb => ?_) (fun hb => ?_) (xg_f hg hk) (by have := xg_f7 hg hk; omega)
        · exact nm_r (bs_or0 s') (nm_r (nI_1 k) (ih' s' (sp_no hI' fun _ => hb)))
        · refine And.intro (vp_in_nI hk (by decide)) ?_
          refine nm_e (nm_r (nI_1 k) (ih' _ (sp_yes hk (xg_t7 hg hk) hI' ha hb ?_)))
          intro q
          by_cases hq : q < 32
          · exact bs_or (by have := xg_t7 hg hk; omega) (xg_t hg hk) hq
          · have := xg_t7 hg hk
            rw [b_big (by omega), b_big (by omega)]
            exact ⟨fun z => absurd z (by decide), fun z => z.elim (fun z => absurd z (by decide)) (fun z => by omega)⟩
      · exact nm_r (bs_or0 s') (nm_r (nI_1 k) (ih' s' (sp_no hI' fun z => absurd z ha)))
theorem xs_startFrom {post : SX → Prop} {s : Nat} (hs : s < 7) (h : ∀ d l : Nat → Int32, (∀ p, p < 7 → (d p).toInt = if p = s then 0 else 1048576) → (∀ p, p < 7 → l p = 0) → post (f_present, f_heapSize, f_top, f_bottom, a_fromOf, a_toOf, a_weightOf, a_found, a_kept, d, l, a_times, a_queue, a_queued, a_price, a_heap, a_heapPlace, a_group, a_badGroup, a_cameBy, a_table, a_table2, a_byCount)) : wpX_startFrom post (f_present, f_heapSize, f_top, f_bottom, a_fromOf, a_toOf, a_weightOf, a_found, a_kept, a_dist, a_isLow, a_times, a_queue, a_queued, a_price, a_heap, a_heapPlace, a_group, a_badGroup, a_cameBy, a_table, a_table2, a_byCount) (nI s) := by
  unfold wpX_startFrom
  refine loop_0 (σ := (Nat → Int32) × (Nat → Int32)) (fun n i s' => wX_startFrom_2 post (nI s) f_present f_heapSize f_top f_bottom n (nI i) a_fromOf a_toOf a_weightOf a_found a_kept s'.1 s'.2 a_times a_queue a_queued a_price a_heap a_heapPlace a_group a_badGroup a_cameBy a_table a_table2 a_byCount) (fun i s' => (∀ p, p < i → (s'.1 p).toInt = if p = s then 0 else 1048576) ∧ (∀ p, p < i → s'.2 p = 0)) 7 (a_dist, a_isLow) ⟨fun p hp => absurd hp (Nat.not_lt_zero p), fun p hp => absurd hp (Nat.not_lt_zero p)⟩ ?_ ?_
  · intro n s' hI
    exact br_t (nI_le (Nat.le_refl 7) (by decide)) (h s'.1 s'.2 hI.1 hI.2)
  · intro n i s' hi hI ih
    refine br_f (nI_ge hi (by decide)) ?_
    have key : ∀ z0 : Int32, z0.toInt = (if i = s then 0 else 1048576) → wX_startFrom_24 post (wX_startFrom_2 post (nI s) f_present f_heapSize f_top f_bottom n) (nI s) (nI i) z0 (nI i) f_present f_heapSize f_top f_bottom a_fromOf a_toOf a_weightOf a_found a_kept s'.1 s'.2 a_times a_queue a_queued a_price a_heap a_heapPlace a_group a_badGroup a_cameBy a_table a_table2 a_byCount := by
      intro z0 hz
      refine And.intro (vp_in_nI hi (by decide)) (nm_r (up_i rfl (by omega) rfl) (And.intro (vp_in_nI hi (by decide)) (nm_r (up_i rfl (by omega) nb_b0) (nm_r (nI_1 i) (ih (upd s'.1 i z0, upd s'.2 i 0) ⟨?_, ?_⟩)))))
      · intro p hp
        show (upd s'.1 i z0 p).toInt = _
        by_cases e : p = i
        · subst e; rw [pk_us]; exact hz
        · rw [pk_un e]; exact hI.1 p (by omega)
      · intro p hp
        show upd s'.2 i 0 p = 0
        by_cases e : p = i
        · subst e; rw [pk_us]
        · rw [pk_un e]; exact hI.2 p (by omega)
    exact pk_eq i s (fun e => key 0 (by rw [if_pos e]; decide)) (fun e => key 1048576 (by rw [if_neg e]; decide))
theorem xs_relax (hg : xg_I f_present a_fromOf a_toOf a_weightOf A fr to c) {post : Int32 → SX → Prop} {k : Nat} (hk : k < 20) (hd : ∀ p, p < 7 → -1000000 ≤ (a_dist p).toInt ∧ (a_dist p).toInt ≤ 1048576)
    (hy : (a_dist (fr k)).toInt < 1048576 → (a_dist (fr k)).toInt + c k < (a_dist (to k)).toInt → ∀ x : Int32, x.toInt = (a_dist (fr k)).toInt + c k → post 1 (f_present, f_heapSize, f_top, f_bottom, a_fromOf, a_toOf, a_weightOf, a_found, a_kept, upd a_dist (to k) x, a_isLow, a_times, a_queue, a_queued, a_price, a_heap, a_heapPlace, a_group, a_badGroup, a_cameBy, a_table, a_table2, a_byCount))
    (hn : 1048576 ≤ (a_dist (fr k)).toInt ∨ (a_dist (to k)).toInt ≤ (a_dist (fr k)).toInt + c k → post 0 (f_present, f_heapSize, f_top, f_bottom, a_fromOf, a_toOf, a_weightOf, a_found, a_kept, a_dist, a_isLow, a_times, a_queue, a_queued, a_price, a_heap, a_heapPlace, a_group, a_badGroup, a_cameBy, a_table, a_table2, a_byCount)) : wpX_relax post (f_present, f_heapSize, f_top, f_bottom, a_fromOf, a_toOf, a_weightOf, a_found, a_kept, a_dist, a_isLow, a_times, a_queue, a_queued, a_price, a_heap, a_heapPlace, a_group, a_badGroup, a_cameBy, a_table, a_table2, a_byCount) (nI k) := by
  unfold wpX_relax
  have hf := xg_f7 hg hk
  have ht := xg_t7 hg hk
  have hc := xg_c hg hk
  have hw := xg_w hg hk
  have cf : (nI (fr k)).toNatClampNeg = fr k := nI_clamp (by omega)
  have ct : (nI (to k)).toNatClampNeg = to k := nI_clamp (by omega)
  have h0 := hd _ hf
  have hsum : ((a_dist (fr k)) + (a_weightOf (nI k).toNatClampNeg)).toInt = (a_dist (fr k)).toInt + c k := ia_add rfl hw (by omega) (by omega)
  have no : 1048576 ≤ (a_dist (fr k)).toInt ∨ (a_dist (to k)).toInt ≤ (a_dist (fr k)).toInt + c k → wX_relax_51 post (nI k) (nI (fr k)) (nI (to k)) f_present f_heapSize f_top f_bottom a_fromOf a_toOf a_weightOf a_found a_kept a_dist a_isLow a_times a_queue a_queued a_price a_heap a_heapPlace a_group a_badGroup a_cameBy a_table a_table2 a_byCount := by
    intro hz
    refine br_t rfl (And.intro (vp_in_nI ht (by decide)) (And.intro (vp_in_nI ht (by decide)) (nm_r (e' := a_dist) ?_ (And.intro nb_n0 (hn hz)))))
    rw [ct, up_self]
  refine And.intro (vp_in_nI hk (by decide)) (nm_r (xg_f hg hk) (And.intro (vp_in_nI hk (by decide)) (nm_r (xg_t hg hk) (And.intro (vp_in_nI hf (by decide)) ?_))))
  refine ib_le 1048576 (a_dist (fr k)).toInt (fun z => no (Or.inl z)) (fun z => ?_) (by decide) (by rw [cf])
  refine And.intro (vp_in_nI hf (by decide)) (And.intro (vp_in_nI hk (by decide)) (And.intro (vp_in_nI ht (by decide)) ?_))
  refine ib_le (a_dist (to k)).toInt ((a_dist (fr k)).toInt + c k) (fun z => no (Or.inr z)) (fun z2 => ?_) (by rw [ct]) (by rw [cf]; exact hsum)
  refine br_f (by decide) (And.intro (vp_in_nI hf (by decide)) (And.intro (vp_in_nI hk (by decide)) (And.intro (vp_in_nI ht (by decide)) (nm_r (e' := upd a_dist (to k) ((a_dist (fr k)) + (a_weightOf (nI k).toNatClampNeg))) ?_ (And.intro nb_n1 (hy z z2 _ hsum))))))
  rw [ct, cf]
theorem xs_lowerFrom (hg : xg_I f_present a_fromOf a_toOf a_weightOf A fr to c) {post : SX → Prop} {set : Int32} (hset : ∀ i, bt set i = true → i < 7) (h : ∀ l : Nat → Int32, (∀ p, p < 7 → (l p ≠ 0 ↔ a_isLow p ≠ 0 ∨ ∃ q, bt set q = true ∧ wk_R (ga_G A fr to c) q p)) → post (f_present, f_heapSize, f_top, f_bottom, a_fromOf, a_toOf, a_weightOf, a_found, a_kept, a_dist, l, a_times, a_queue, a_queued, a_price, a_heap, a_heapPlace, a_group, a_badGroup, a_cameBy, a_table, a_table2, a_byCount)) : wpX_lowerFrom post (f_present, f_heapSize, f_top, f_bottom, a_fromOf, a_toOf, a_weightOf, a_found, a_kept, a_dist, a_isLow, a_times, a_queue, a_queued, a_price, a_heap, a_heapPlace, a_group, a_badGroup, a_cameBy, a_table, a_table2, a_byCount) set := by
  have key : ∀ r : Int32, (∀ i, bt r i = true ↔ i < 7 ∧ ∃ q, bt set q = true ∧ wk_R (ga_G A fr to c) q i) → ∃ n16 : Nat, wX_lowerFrom_16 post r f_present f_heapSize f_top f_bottom n16 0 a_fromOf a_toOf a_weightOf a_found a_kept a_dist a_isLow a_times a_queue a_queued a_price a_heap a_heapPlace a_group a_badGroup a_cameBy a_table a_table2 a_byCount := by
    intro r hr
    refine loop_0 (fun n i s => wX_lowerFrom_16 post r f_present f_heapSize f_top f_bottom n (nI i) a_fromOf a_toOf a_weightOf a_found a_kept a_dist s a_times a_queue a_queued a_price a_heap a_heapPlace a_group a_badGroup a_cameBy a_table a_table2 a_byCount) (fun i s => (∀ p, p < i → (s p ≠ 0 ↔ a_isLow p ≠ 0 ∨ bt r p = true)) ∧ (∀ p, i ≤ p → s p = a_isLow p)) 7 a_isLow ⟨fun p hp => absurd hp (Nat.not_lt_zero p), fun p _ => rfl⟩ ?_ ?_
    · intro n s hI
      refine br_t (nI_le (Nat.le_refl 7) (by decide)) (h s fun p hp => ?_)
      rw [hI.1 p hp, hr p]
      exact ⟨fun z => z.imp id (fun z => z.2), fun z => z.imp id (fun z => ⟨hp, z⟩)⟩
    · intro n i s hi hI ih
      have ci : (nI i).toNatClampNeg = i := nI_clamp (by omega)
      have hsi := hI.2 i (Nat.le_refl i)
      have key2 : ∀ z : Int32, (z ≠ 0 ↔ a_isLow i ≠ 0 ∨ bt r i = true) → (∀ p, p < i + 1 → (upd s i z p ≠ 0 ↔ a_isLow p ≠ 0 ∨ bt r p = true)) ∧ (∀ p, i + 1 ≤ p → upd s i z p = a_isLow p) := by
        intro z hz
        refine ⟨fun p hp => ?_, fun p hp => ?_⟩
        · by_cases e : p = i
          · subst e; rw [pk_us]; exact hz
          · rw [pk_un e]; exact hI.1 p (by omega)
        · rw [pk_un (by omega)]; exact hI.2 p (by omega)
      refine br_f (nI_ge hi (by decide)) (And.intro (vp_in_nI hi (by decide)) (br_c (fun hz => bs_br i (fun hb => ?_) (fun hb => ?_)) (fun hz => ?_)))
      · rw [ci, hsi] at hz
        exact And.intro (vp_in_nI hi (by decide)) (nm_r (up_i rfl (by omega) nb_b0) (nm_r (nI_1 i) (ih _ (key2 0 ⟨fun z => absurd rfl z, fun z => z.elim (fun z => absurd hz z) (fun z => absurd z hb)⟩))))
      · exact And.intro (vp_in_nI hi (by decide)) (nm_r (up_i rfl (by omega) nb_b1) (nm_r (nI_1 i) (ih _ (key2 1 ⟨fun _ => Or.inr hb, fun _ => by decide⟩))))
      · rw [ci, hsi] at hz
        exact And.intro (vp_in_nI hi (by decide)) (nm_r (up_i rfl (by omega) nb_b1) (nm_r (nI_1 i) (ih _ (key2 1 ⟨fun _ => Or.inl hz, fun _ => by decide⟩))))
  unfold wpX_lowerFrom
  refine br_c (fun hz => key 0 fun i => ?_) (fun hz => xs_spread hg hset key)
  rw [b_0]
  refine ⟨fun z => absurd z (by decide), fun ⟨_, q, hq, _⟩ => ?_⟩
  rw [hz, b_0] at hq
  exact absurd hq (by decide)
theorem xs_writeFrom {post : SX → Prop} {s : Nat} (hs : s < 7) (h : ∀ f : Nat → Int32, (∀ t, t < 7 → f (s * 7 + t) = if a_isLow t = 0 then a_dist t else -4000) → (∀ i, (i < s * 7 ∨ s * 7 + 7 ≤ i) → f i = a_found i) → post (f_present, f_heapSize, f_top, f_bottom, a_fromOf, a_toOf, a_weightOf, f, a_kept, a_dist, a_isLow, a_times, a_queue, a_queued, a_price, a_heap, a_heapPlace, a_group, a_badGroup, a_cameBy, a_table, a_table2, a_byCount)) : wpX_writeFrom post (f_present, f_heapSize, f_top, f_bottom, a_fromOf, a_toOf, a_weightOf, a_found, a_kept, a_dist, a_isLow, a_times, a_queue, a_queued, a_price, a_heap, a_heapPlace, a_group, a_badGroup, a_cameBy, a_table, a_table2, a_byCount) (nI s) := by
  unfold wpX_writeFrom
  refine loop_0 (fun n i f => wX_writeFrom_2 post (nI s) f_present f_heapSize f_top f_bottom n (nI i) a_fromOf a_toOf a_weightOf f a_kept a_dist a_isLow a_times a_queue a_queued a_price a_heap a_heapPlace a_group a_badGroup a_cameBy a_table a_table2 a_byCount) (fun i f => (∀ t, t < i → f (s * 7 + t) = if a_isLow t = 0 then a_dist t else -4000) ∧ (∀ i, (i < s * 7 ∨ s * 7 + 7 ≤ i) → f i = a_found i)) 7 a_found ⟨fun p hp => absurd hp (Nat.not_lt_zero p), fun _ _ => rfl⟩ ?_ ?_
  · intro n f hI
    exact br_t (nI_le (Nat.le_refl 7) (by decide)) (h f hI.1 hI.2)
  · intro n i f hi hI ih
    have ci : (nI i).toNatClampNeg = i := nI_clamp (by omega)
    have key : ∀ x : Int32, x = (if a_isLow i = 0 then a_dist i else -4000) → (∀ t, t < i + 1 → upd f (s * 7 + i) x (s * 7 + t) = if a_isLow t = 0 then a_dist t else -4000) ∧ (∀ j, (j < s * 7 ∨ s * 7 + 7 ≤ j) → upd f (s * 7 + i) x j = a_found j) := by
      intro x hx
      refine ⟨fun t ht => ?_, fun j hj => ?_⟩
      · by_cases e : t = i
        · subst e; rw [pk_us]; exact hx
        · rw [pk_un (by omega)]; exact hI.1 t (by omega)
      · rw [pk_un (by omega)]; exact hI.2 j hj
    have hin : vp_in (nI s * 7 + nI i) 49 := pk_in (s * 7 + i) 49 (by omega) (ix_7 s i) (by decide)
    refine br_f (nI_ge hi (by decide)) (And.intro (vp_in_nI hi (by decide)) (br_c (fun hz => ?_) (fun hz => ?_)))
    · rw [ci] at hz
      exact And.intro (vp_in_nI hi (by decide)) (And.intro hin (nm_r (up_i (ix_7 s i) (by omega) (by rw [ci])) (nm_r (nI_1 i) (ih _ (key (a_dist i) (by rw [if_pos hz]))))))
    · rw [ci] at hz
      exact And.intro hin (nm_r (up_i (ix_7 s i) (by omega) rfl) (nm_r (nI_1 i) (ih _ (key (-4000) (by rw [if_neg hz])))))
end XS
end
section
/-! engine 0: rounds over all arcs -/
section E0
variable {A : Nat → Prop} {fr to : Nat → Nat} {c : Nat → Int}
theorem bf_rg {S : Nat → Prop} (hw : ∀ a b w, ga_G A fr to c a b w → -20 ≤ w ∧ w ≤ 20) {r k : Nat} {D : Nat → Int} (h : bf_I A fr to c S r k D) (hr : r ≤ 8) (hk : k ≤ 20) {b : Nat} (hb : b < 7) : -4000 ≤ D b := by
  by_cases hD : D b < 1048576
  · obtain ⟨n, a, hn, _, hW⟩ := h.2.2 b hb hD
    have := wk_ge (C := 20) (fun a b w g => (hw a b w g).1) _ _ _ _ hW
    omega
  · omega
theorem bf_F (hw : ∀ a b w, ga_G A fr to c a b w → -20 ≤ w ∧ w ≤ 20) (S : Nat → Prop) {r : Nat} (hr : r ≤ 8) : ∀ n a b w, n ≤ r → S a → wk_W (ga_G A fr to c) n a b w → w < 1048576 := by
  intro n a b w hn _ hW
  have := wk_le (C := 20) (fun a b w g => (hw a b w g).2) _ _ _ _ hW
  omega
theorem lp_rg {S Lw M : Nat → Prop} (hw : ∀ a b w, ga_G A fr to c a b w → -20 ≤ w ∧ w ≤ 20) {k : Nat} {D0 D : Nat → Int} (h : lp_I A fr to c S Lw D0 k D M) (hk : k ≤ 20) {b : Nat} (hb : b < 7) : -4000 ≤ D b := by
  by_cases hD : D b < 1048576
  · obtain ⟨n, a, hn, _, hW⟩ := h.2.2.2.1 b hb hD
    have := wk_ge (C := 20) (fun a b w g => (hw a b w g).1) _ _ _ _ hW
    omega
  · omega
theorem bf_nl (hG : ∀ a b w, ga_G A fr to c a b w → a < 7 ∧ b < 7) {s : Nat} (hs : s < 7) {D0 : Nat → Int} (h0 : bf_I A fr to c (fun a => a = s) 7 0 D0) : ∀ q, q < 7 → ¬ wk_L (ga_G A fr to c) s q → ∀ n a w, a = s → wk_W (ga_G A fr to c) n a q w → D0 q ≤ w := by
  intro q hq hl n a w ha hW
  subst ha
  obtain ⟨n', w', h6, _, hW', hle⟩ := wk_sn hG hs hl hW
  have := h0.1 n' a q w' (by omega) rfl hW'
  omega
theorem bf_0 {s : Nat} {D : Nat → Int} (hD : ∀ p, p < 7 → D p = if p = s then 0 else 1048576) (hs : s < 7) : bf_I A fr to c (fun a => a = s) 0 0 D := by
  refine ⟨?_, fun j n a w hj => absurd hj (Nat.not_lt_zero j), ?_⟩
  · intro n a b w hn ha hW
    obtain rfl : n = 0 := by omega
    obtain ⟨rfl, rfl⟩ := hW
    rw [hD a (by omega), if_pos ha]
    omega
  · intro b hb hlt
    rw [hD b hb] at hlt
    by_cases e : b = s
    · rw [hD b hb, if_pos e]
      exact ⟨0, s, by omega, rfl, e ▸ wk_0 b⟩
    · rw [if_neg e] at hlt; omega
theorem lp_low (hG : ∀ a b w, ga_G A fr to c a b w → a < 7 ∧ b < 7) (hw : ∀ a b w, ga_G A fr to c a b w → -20 ≤ w ∧ w ≤ 20) {s : Nat} (hs : s < 7) {D0 D : Nat → Int} {M : Nat → Prop} (h0 : bf_I A fr to c (fun a => a = s) 7 0 D0) (h : lp_I A fr to c (fun a => a = s) (wk_L (ga_G A fr to c) s) D0 20 D M) {t : Nat} (hM : ∀ q, M q → q < 7) : (∃ q, M q ∧ wk_R (ga_G A fr to c) q t) ↔ wk_L (ga_G A fr to c) s t := by
  refine ⟨fun ⟨q, hq, hr⟩ => lo_r (h.2.2.2.2 q (hM q hq) hq) hr, fun hl => Classical.byContradiction fun hn => ?_⟩
  refine pt_lo (D := D0) ?_ hl
  intro a b w hg ra rb
  have rat := rc_h hg rb
  obtain ⟨j, hj, hA, rfl, rfl, rfl⟩ := hg
  have := h.2.2.1 j hj hA (fun z => hn ⟨_, z, rat⟩) (fun z => hn ⟨_, z, rb⟩)
  obtain ⟨n, w, h6, hW⟩ := rc_6 hG hs ra
  have e1 := h0.1 n s _ w (by omega) rfl hW
  have e2 := wk_le (C := 20) (fun a b w g => (hw a b w g).2) _ _ _ _ hW
  omega
theorem lp_val (hG : ∀ a b w, ga_G A fr to c a b w → a < 7 ∧ b < 7) (hw : ∀ a b w, ga_G A fr to c a b w → -20 ≤ w ∧ w ≤ 20) {s : Nat} (hs : s < 7) {D0 D : Nat → Int} {M : Nat → Prop} (h0 : bf_I A fr to c (fun a => a = s) 7 0 D0) (h : lp_I A fr to c (fun a => a = s) (wk_L (ga_G A fr to c) s) D0 20 D M) {t : Nat} (ht : t < 7) (hu : D t ≤ 1048576) (hl : ¬ wk_L (ga_G A fr to c) s t) : fd_F (ga_G A fr to c) s t (D t) := by
  have hm : ¬ M t := fun z => hl (h.2.2.2.2 t ht z)
  have he := h.1 t ht hm
  refine Or.inr ?_
  by_cases hr : wk_R (ga_G A fr to c) s t
  · refine Or.inr ⟨hl, ?_⟩
    have hle : ∀ n w, wk_W (ga_G A fr to c) n s t w → D t ≤ w := by
      intro n w hW
      have := bf_nl hG hs h0 t ht hl n s w rfl hW
      omega
    obtain ⟨n, w, h6, hW⟩ := rc_6 hG hs hr
    have e1 := hle n w hW
    have e2 := wk_le (C := 20) (fun a b w g => (hw a b w g).2) _ _ _ _ hW
    obtain ⟨n', a, _, ha, hW'⟩ := h.2.2.2.1 t ht (by omega)
    subst ha
    exact ⟨⟨n', hW'⟩, hle⟩
  · refine Or.inl ⟨hl, hr, ?_⟩
    by_cases hD : D t < 1048576
    · obtain ⟨n', a, _, ha, hW'⟩ := h.2.2.2.1 t ht hD
      subst ha
      exact absurd ⟨_, _, hW'⟩ hr
    · omega
end E0
section E0X
variable {f_present f_heapSize f_top f_bottom : Int32} {a_fromOf a_toOf a_weightOf a_found a_kept a_dist a_isLow a_times a_queue a_queued a_price a_heap a_heapPlace a_group a_badGroup a_cameBy a_table a_table2 a_byCount : Nat → Int32} {A : Nat → Prop} {fr to : Nat → Nat} {c : Nat → Int}
theorem xs_goByRounds (hg : xg_I f_present a_fromOf a_toOf a_weightOf A fr to c) {post : SX → Prop} {s : Nat} (hs : s < 7) (h : ∀ d l f : Nat → Int32, (∀ t, t < 7 → fd_F (ga_G A fr to c) s t (f (s * 7 + t)).toInt) → (∀ i, (i < s * 7 ∨ s * 7 + 7 ≤ i) → f i = a_found i) → post (f_present, f_heapSize, f_top, f_bottom, a_fromOf, a_toOf, a_weightOf, f, a_kept, d, l, a_times, a_queue, a_queued, a_price, a_heap, a_heapPlace, a_group, a_badGroup, a_cameBy, a_table, a_table2, a_byCount)) : wpX_goByRounds post (f_present, f_heapSize, f_top, f_bottom, a_fromOf, a_toOf, a_weightOf, a_found, a_kept, a_dist, a_isLow, a_times, a_queue, a_queued, a_price, a_heap, a_heapPlace, a_group, a_badGroup, a_cameBy, a_table, a_table2, a_byCount) (nI s) := by
  have hG := xg_7 hg
  have hw := xg_20 hg
  unfold wpX_goByRounds
  refine xs_startFrom hs fun d0 l0 hd0 hl0 => ?_
  refine loop_0 (fun n i d => wX_goByRounds_7 post (nI s) n (nI i) f_present f_heapSize f_top f_bottom a_fromOf a_toOf a_weightOf a_found a_kept d l0 a_times a_queue a_queued a_price a_heap a_heapPlace a_group a_badGroup a_cameBy a_table a_table2 a_byCount) (fun i d => bf_I A fr to c (fun a => a = s) i 0 (fun p => (d p).toInt) ∧ ∀ p, p < 7 → (d p).toInt ≤ 1048576) 7 d0 ⟨bf_0 hd0 hs, fun p hp => by rw [hd0 p hp]; by_cases e : p = s <;> simp [e]⟩ ?_ ?_
  · intro n d hI
    obtain ⟨h0, hu⟩ := hI
    refine br_t (nI_le (Nat.le_refl 7) (by decide)) ?_
    refine loop_0 (σ := Int32 × (Nat → Int32)) (fun n k z => wX_goByRounds_51 post (nI s) n z.1 (nI k) f_present f_heapSize f_top f_bottom a_fromOf a_toOf a_weightOf a_found a_kept z.2 l0 a_times a_queue a_queued a_price a_heap a_heapPlace a_group a_badGroup a_cameBy a_table a_table2 a_byCount) (fun k z => lp_I A fr to c (fun a => a = s) (wk_L (ga_G A fr to c) s) (fun p => (d p).toInt) k (fun p => (z.2 p).toInt) (fun q => bt z.1 q = true) ∧ (∀ p, p < 7 → (z.2 p).toInt ≤ 1048576) ∧ (∀ q, bt z.1 q = true → q < 7)) 20 (0, d) ⟨lp_0 h0 (fun q _ z => by rw [b_0] at z; exact absurd z (by decide)), hu, fun q z => by rw [b_0] at z; exact absurd z (by decide)⟩ ?_ ?_
    · intro n z hI
      obtain ⟨h1, hu1, hb1⟩ := hI
      refine br_t (nI_le (Nat.le_refl 20) (by decide)) ?_
      refine xs_lowerFrom hg hb1 fun l hl => ?_
      refine xs_writeFrom hs fun f hf1 hf2 => ?_
      refine h z.2 l f (fun t ht => ?_) hf2
      rw [hf1 t ht]
      have el : l t ≠ 0 ↔ wk_L (ga_G A fr to c) s t := by
        rw [hl t ht, ← lp_low hG hw hs h0 h1 hb1]
        exact ⟨fun z => z.elim (fun z => absurd (hl0 t ht) z) id, Or.inr⟩
      by_cases e : l t = 0
      · rw [if_pos e]
        exact lp_val hG hw hs h0 h1 ht (hu1 t ht) fun z => el.mpr z e
      · rw [if_neg e]
        exact Or.inl ⟨el.mp e, by decide⟩
    · intro n k z hk hI ih
      obtain ⟨h1, hu1, hb1⟩ := hI
      have hf7 := xg_f7 hg hk
      have ht7 := xg_t7 hg hk
      refine br_f (nI_ge hk (by decide)) ?_
      refine xs_has hg hk (fun ha => br_f (by decide) ?_) (fun ha => br_t rfl ?_)
      · refine xs_relax hg hk (fun p hp => ⟨by have := lp_rg hw h1 (by omega) hp; omega, hu1 p hp⟩) (fun c1 c2 x hx => ?_) (fun hn => ?_)
        · refine br_f (by decide) (And.intro (vp_in_nI hk (by decide)) (nm_e (nm_r (nI_1 k) (ih (_, _) ⟨?_, ?_, ?_⟩))))
          · refine lp_yes hk hf7 ht7 (bf_nl hG hs h0) h1 ha c1 c2 (by show (upd z.2 (to k) x (to k)).toInt = _; rw [pk_us]; exact hx) (fun j hj => by show (upd z.2 (to k) x j).toInt = _; rw [pk_un hj]) ?_ ?_ ?_
            · intro q hq
              have := hb1 q hq
              exact (bs_or (by omega) (xg_t hg hk) (by omega)).mpr (Or.inl hq)
            · exact (bs_or (by omega) (xg_t hg hk) (by omega)).mpr (Or.inr rfl)
            · intro hL q hq hm
              rcases (bs_or (by omega) (xg_t hg hk) (by omega)).mp hm with e | e
              · exact Or.inl e
              · exact Or.inr (e ▸ hL)
          · intro p hp
            show (upd z.2 (to k) x p).toInt ≤ _
            by_cases e : p = to k
            · rw [e, pk_us, hx]; have := hu1 _ ht7; omega
            · rw [pk_un e]; exact hu1 p hp
          · intro q hq
            by_cases h32 : q < 32
            · rcases (bs_or (by omega) (xg_t hg hk) h32).mp hq with e | e
              · exact hb1 q e
              · omega
            · have hq' : bt (z.1 ||| ((1 : Int32) <<< ((a_toOf (nI k).toNatClampNeg) &&& 31))) q = true := hq
              rw [b_big (by omega)] at hq'
              exact absurd hq' (by decide)
        · exact br_t rfl (nm_r (bs_or0 z.1) (nm_r (nI_1 k) (ih (z.1, z.2) ⟨lp_no hk hf7 ht7 h1 (fun _ => hn), hu1, hb1⟩)))
      · exact nm_r (bs_or0 z.1) (nm_r (nI_1 k) (ih (z.1, z.2) ⟨lp_no hk hf7 ht7 h1 (fun z => absurd z ha), hu1, hb1⟩))
  · intro n i d hi hI ih
    refine br_f (nI_ge hi (by decide)) ?_
    refine loop_0 (fun n' k d => wX_goByRounds_15 post (wX_goByRounds_7 post (nI s) n) (nI s) (nI i) n' (nI k) f_present f_heapSize f_top f_bottom a_fromOf a_toOf a_weightOf a_found a_kept d l0 a_times a_queue a_queued a_price a_heap a_heapPlace a_group a_badGroup a_cameBy a_table a_table2 a_byCount) (fun k d => bf_I A fr to c (fun a => a = s) i k (fun p => (d p).toInt) ∧ ∀ p, p < 7 → (d p).toInt ≤ 1048576) 20 d hI ?_ ?_
    · intro n' d' hI'
      exact br_t (nI_le (Nat.le_refl 20) (by decide)) (nm_r (nI_1 i) (ih d' ⟨bf_rd hI'.1, hI'.2⟩))
    · intro n' k d' hk hI' ih'
      obtain ⟨h1, hu1⟩ := hI'
      have hf7 := xg_f7 hg hk
      have ht7 := xg_t7 hg hk
      refine br_f (nI_ge hk (by decide)) ?_
      refine xs_has hg hk (fun ha => br_f (by decide) ?_) (fun ha => br_t rfl ?_)
      · refine xs_relax hg hk (fun p hp => ⟨by have := bf_rg hw h1 (by omega) (by omega) hp; omega, hu1 p hp⟩) (fun c1 c2 x hx => ?_) (fun hn => ?_)
        · refine nm_r (nI_1 k) (ih' _ ⟨bf_yes hk hf7 h1 ha c1 c2 (by show (upd d' (to k) x (to k)).toInt = _; rw [pk_us]; exact hx) (fun j hj => by show (upd d' (to k) x j).toInt = _; rw [pk_un hj]), ?_⟩)
          intro p hp
          by_cases e : p = to k
          · rw [e, pk_us, hx]; have := hu1 _ ht7; omega
          · rw [pk_un e]; exact hu1 p hp
        · exact nm_r (nI_1 k) (ih' d' ⟨bf_no hk (bf_F hw _ (by omega)) h1 (fun _ => hn), hu1⟩)
      · exact nm_r (nI_1 k) (ih' d' ⟨bf_no hk (bf_F hw _ (by omega)) h1 (fun z => absurd z ha), hu1⟩)
end E0X
end
section
/-! tables of all pairs, pure -/
def tb_R (T : Nat → Int) : Prop := ∀ i, i < 49 → -200000 ≤ T i ∧ T i ≤ 1048576
def tb_S (G : Nat → Nat → Int → Prop) (T : Nat → Int) : Prop := ∀ a b, a < 7 → b < 7 → T (a * 7 + b) < 1048576 → ∃ n w, wk_W G n a b w ∧ w ≤ T (a * 7 + b)
/-- one sum of two cells -/
def tb_A (x y z : Int) : Prop := (1048576 ≤ x ∧ z = 1048576) ∨ (1048576 ≤ y ∧ z = 1048576) ∨ (x < 1048576 ∧ y < 1048576 ∧ -200000 ≤ x + y ∧ z = x + y) ∨ (x < 1048576 ∧ y < 1048576 ∧ x + y < -200000 ∧ z = -200000)
section TB
variable {G : Nat → Nat → Int → Prop}
/-- a walk whose inner points are below k -/
def fw_W (G : Nat → Nat → Int → Prop) (k : Nat) : Nat → Nat → Nat → Int → Prop
  | 0, a, b, w => a = b ∧ w = 0
  | n + 1, a, b, w => ∃ c w1 w2, fw_W G k n a c w1 ∧ G c b w2 ∧ w = w1 + w2 ∧ (n = 0 ∨ c < k)
theorem fw_wk {k : Nat} : ∀ (n a b : Nat) (w : Int), fw_W G k n a b w → wk_W G n a b w := by
  intro n
  induction n with
  | zero => intro a b w h; exact h
  | succ n ih =>
    intro a b w h
    obtain ⟨c, w1, w2, h1, g, e, _⟩ := h
    exact ⟨c, w1, w2, ih _ _ _ h1, g, e⟩
theorem fw_of (hG : ∀ a b w, G a b w → a < 7 ∧ b < 7) : ∀ (n a b : Nat) (w : Int), wk_W G n a b w → fw_W G 7 n a b w := by
  intro n
  induction n with
  | zero => intro a b w h; exact h
  | succ n ih =>
    intro a b w h
    obtain ⟨c, w1, w2, h1, g, e⟩ := h
    exact ⟨c, w1, w2, ih _ _ _ h1, g, e, Or.inr (hG _ _ _ g).1⟩
theorem fw_spl {k : Nat} : ∀ (n a b : Nat) (w : Int), fw_W G (k + 1) n a b w → fw_W G k n a b w ∨ ∃ n1 n2 w1 w2, 0 < n1 ∧ 0 < n2 ∧ n1 + n2 = n ∧ fw_W G (k + 1) n1 a k w1 ∧ fw_W G (k + 1) n2 k b w2 ∧ w = w1 + w2 := by
  intro n
  induction n with
  | zero => intro a b w h; exact Or.inl h
  | succ n ih =>
    intro a b w h
    obtain ⟨c, w1, w2, h1, g, e, hc⟩ := h
    by_cases hn : n = 0
    · subst hn
      exact Or.inl ⟨c, w1, w2, h1, g, e, Or.inl rfl⟩
    · have hck : c < k + 1 := hc.resolve_left hn
      by_cases ek : c = k
      · subst ek
        exact Or.inr ⟨n, 1, w1, w2, by omega, by omega, by omega, h1, ⟨c, 0, w2, ⟨rfl, rfl⟩, g, by omega, Or.inl rfl⟩, e⟩
      · rcases ih a c w1 h1 with h2 | ⟨n1, n2, v1, v2, p1, p2, en, hv1, hv2, ev⟩
        · exact Or.inl ⟨c, w1, w2, h2, g, e, Or.inr (by omega)⟩
        · exact Or.inr ⟨n1, n2 + 1, v1, v2 + w2, p1, by omega, by omega, hv1, ⟨c, v2, w2, hv2, g, rfl, Or.inr hck⟩, by omega⟩
/-- a ring below 0 is known between a and b -/
def fw_F (G : Nat → Nat → Int → Prop) (T : Nat → Int) (a b : Nat) : Prop := ∃ m, m < 7 ∧ T (m * 7 + m) < 0 ∧ wk_R G a m ∧ wk_R G m b
def fw_U (G : Nat → Nat → Int → Prop) (k : Nat) (T : Nat → Int) : Prop := ∀ n a b w, n ≤ 10 → a < 7 → b < 7 → fw_W G k n a b w → T (a * 7 + b) ≤ 20 * n ∧ (T (a * 7 + b) ≤ w ∨ fw_F G T a b)
theorem fw_P {k : Nat} {T : Nat → Int} (hk : k < 7) (h : fw_U G k T) : ∀ (N n b : Nat) (w : Int), n ≤ N → n ≤ 10 → b < 7 → fw_W G (k + 1) n k b w → T (k * 7 + b) ≤ 20 * n ∧ (T (k * 7 + b) ≤ w ∨ fw_F G T k b) := by
  intro N
  induction N with
  | zero =>
    intro n b w hn h10 hb hW
    obtain rfl : n = 0 := by omega
    exact h 0 k b w (by omega) hk hb hW
  | succ N ih =>
    intro n b w hn h10 hb hW
    rcases fw_spl n k b w hW with h1 | ⟨n1, n2, w1, w2, p1, p2, en, h1, h2, ew⟩
    · exact h n k b w h10 hk hb h1
    · obtain ⟨_, f1⟩ := ih n1 k w1 (by omega) (by omega) hk h1
      obtain ⟨e2, f2⟩ := ih n2 b w2 (by omega) (by omega) hb h2
      refine ⟨by omega, ?_⟩
      rcases f2 with f2 | f2
      · rcases f1 with f1 | ⟨m, hm, hT, r1, r2⟩
        · by_cases hneg : w1 < 0
          · exact Or.inr ⟨k, hk, by omega, rc_0 k, rc_w (fw_wk _ _ _ _ h2)⟩
          · exact Or.inl (by omega)
        · exact Or.inr ⟨m, hm, hT, r1, rc_t r2 (rc_w (fw_wk _ _ _ _ h2))⟩
      · exact Or.inr f2
theorem fw_Q {k : Nat} {T : Nat → Int} (hk : k < 7) (h : fw_U G k T) : ∀ (N n a : Nat) (w : Int), n ≤ N → n ≤ 10 → a < 7 → fw_W G (k + 1) n a k w → T (a * 7 + k) ≤ 20 * n ∧ (T (a * 7 + k) ≤ w ∨ fw_F G T a k) := by
  intro N
  induction N with
  | zero =>
    intro n a w hn h10 ha hW
    obtain rfl : n = 0 := by omega
    exact h 0 a k w (by omega) ha hk hW
  | succ N ih =>
    intro n a w hn h10 ha hW
    rcases fw_spl n a k w hW with h1 | ⟨n1, n2, w1, w2, p1, p2, en, h1, h2, ew⟩
    · exact h n a k w h10 ha hk h1
    · obtain ⟨e1, f1⟩ := ih n1 a w1 (by omega) (by omega) ha h1
      obtain ⟨_, f2⟩ := fw_P hk h n2 n2 k w2 (Nat.le_refl _) (by omega) hk h2
      refine ⟨by omega, ?_⟩
      rcases f1 with f1 | f1
      · rcases f2 with f2 | ⟨m, hm, hT, r1, r2⟩
        · by_cases hneg : w2 < 0
          · exact Or.inr ⟨k, hk, by omega, rc_w (fw_wk _ _ _ _ h1), rc_0 k⟩
          · exact Or.inl (by omega)
        · exact Or.inr ⟨m, hm, hT, rc_t (rc_w (fw_wk _ _ _ _ h1)) r1, r2⟩
      · obtain ⟨m, hm, hT, r1, r2⟩ := f1
        exact Or.inr ⟨m, hm, hT, r1, r2⟩
theorem fw_st (hw : ∀ a b w, G a b w → -20 ≤ w ∧ w ≤ 20) {k : Nat} {T T' : Nat → Int} (hk : k < 7) (h : fw_U G k T) (h1 : ∀ i, i < 49 → T' i ≤ T i) (h2 : ∀ a b w, a < 7 → b < 7 → T (a * 7 + k) < 1048576 → T (k * 7 + b) < 1048576 → T (a * 7 + k) + T (k * 7 + b) ≤ w → -200000 ≤ w → T' (a * 7 + b) ≤ w) : fw_U G (k + 1) T' := by
  intro n a b w h10 ha hb hW
  have hmono : ∀ a b, fw_F G T a b → fw_F G T' a b := by
    intro a b ⟨m, hm, hT, r1, r2⟩
    exact ⟨m, hm, by have := h1 (m * 7 + m) (by omega); omega, r1, r2⟩
  rcases fw_spl n a b w hW with hx | ⟨n1, n2, w1, w2, p1, p2, en, hx1, hx2, ew⟩
  · obtain ⟨e1, f1⟩ := h n a b w h10 ha hb hx
    have := h1 (a * 7 + b) (by omega)
    exact ⟨by omega, f1.imp (fun z => by omega) (hmono a b)⟩
  · obtain ⟨e1, f1⟩ := fw_Q hk h n1 n1 a w1 (Nat.le_refl _) (by omega) ha hx1
    obtain ⟨e2, f2⟩ := fw_P hk h n2 n2 b w2 (Nat.le_refl _) (by omega) hb hx2
    refine ⟨h2 a b _ ha hb (by omega) (by omega) (by omega) (by omega), ?_⟩
    rcases f1 with f1 | ⟨m, hm, hT, r1, r2⟩
    · rcases f2 with f2 | ⟨m, hm, hT, r1, r2⟩
      · have b1 := wk_ge (C := 20) (fun a b w g => (hw a b w g).1) _ _ _ _ (fw_wk _ _ _ _ hx1)
        have b2 := wk_ge (C := 20) (fun a b w g => (hw a b w g).1) _ _ _ _ (fw_wk _ _ _ _ hx2)
        exact Or.inl (h2 a b w ha hb (by omega) (by omega) (by omega) (by omega))
      · exact Or.inr (hmono _ _ ⟨m, hm, hT, rc_t (rc_w (fw_wk _ _ _ _ hx1)) r1, r2⟩)
    · exact Or.inr (hmono _ _ ⟨m, hm, hT, r1, rc_t r2 (rc_w (fw_wk _ _ _ _ hx2))⟩)
theorem fw_0 (hw : ∀ a b w, G a b w → -20 ≤ w ∧ w ≤ 20) {T : Nat → Int} (h1 : ∀ a, a < 7 → T (a * 7 + a) ≤ 0) (h2 : ∀ a b w, G a b w → T (a * 7 + b) ≤ w) : fw_U G 0 T := by
  intro n a b w h10 ha hb hW
  match n, hW with
  | 0, hW =>
    obtain ⟨rfl, rfl⟩ := hW
    have := h1 a ha
    exact ⟨by omega, Or.inl this⟩
  | 1, hW =>
    obtain ⟨c, w1, w2, ⟨rfl, rfl⟩, g, rfl, _⟩ := hW
    have e1 := h2 _ _ _ g
    have e2 := hw _ _ _ g
    exact ⟨by omega, Or.inl (by omega)⟩
  | n + 2, hW =>
    obtain ⟨c, w1, w2, _, g, _, hc⟩ := hW
    omega
theorem fw_R (hG : ∀ a b w, G a b w → a < 7 ∧ b < 7) {T : Nat → Int} (h : fw_U G 7 T) {a b : Nat} (ha : a < 7) (hr : wk_R G a b) : T (a * 7 + b) < 1048576 := by
  have hb := rc_b hG hr ha
  obtain ⟨n, w, h6, hW⟩ := rc_6 hG ha hr
  have := (h n a b w (by omega) ha hb (fw_of hG _ _ _ _ hW)).1
  omega
theorem fw_S {T : Nat → Int} (hS : tb_S G T) {a b : Nat} (ha : a < 7) (hb : b < 7) (h : T (a * 7 + b) < 1048576) : wk_R G a b := by
  obtain ⟨n, w, hW, _⟩ := hS a b ha hb h
  exact rc_w hW
theorem fw_FL {T : Nat → Int} (hS : tb_S G T) {a b : Nat} (h : fw_F G T a b) : wk_L G a b := by
  obtain ⟨m, hm, hT, r1, r2⟩ := h
  obtain ⟨n, w, hW, hle⟩ := hS m m hm hm (by omega)
  exact ⟨m, n, w, r1, hW, by omega, r2⟩
theorem fw_low (hG : ∀ a b w, G a b w → a < 7 ∧ b < 7) {T : Nat → Int} (hS : tb_S G T) (h : fw_U G 7 T) {a b : Nat} (ha : a < 7) (hb : b < 7) : (∃ m, m < 7 ∧ T (m * 7 + m) < 0 ∧ T (a * 7 + m) < 1048576 ∧ T (m * 7 + b) < 1048576) ↔ wk_L G a b := by
  refine ⟨fun ⟨m, hm, h1, h2, h3⟩ => fw_FL hS ⟨m, hm, h1, fw_S hS ha hm h2, fw_S hS hm hb h3⟩, fun hl => ?_⟩
  obtain ⟨d, n, w, h7, r1, hW, hneg, r2⟩ := lo_s7 hG ha hl
  have hd := rc_b hG r1 ha
  rcases (h n d d w (by omega) hd hd (fw_of hG _ _ _ _ hW)).2 with f | ⟨m, hm, hT, q1, q2⟩
  · exact ⟨d, hd, by omega, fw_R hG h ha r1, fw_R hG h hd r2⟩
  · exact ⟨m, hm, hT, fw_R hG h ha (rc_t r1 q1), fw_R hG h hm (rc_t q2 r2)⟩
/-- a table that is below all walks of six arcs where nothing is low, and sound, is right there -/
theorem tb_val (hG : ∀ a b w, G a b w → a < 7 ∧ b < 7) (hw : ∀ a b w, G a b w → -20 ≤ w ∧ w ≤ 20) {T : Nat → Int} (hR : tb_R T) (hS : tb_S G T) {a b : Nat} (ha : a < 7) (hb : b < 7) (hl : ¬ wk_L G a b) (h : ∀ n w, n ≤ 6 → wk_W G n a b w → T (a * 7 + b) ≤ w) : fd_F G a b (T (a * 7 + b)) := by
  refine Or.inr ?_
  by_cases hr : wk_R G a b
  · refine Or.inr ⟨hl, ?_⟩
    have hall : ∀ n w, wk_W G n a b w → T (a * 7 + b) ≤ w := by
      intro n w hW
      obtain ⟨n', w', h6, _, hW', hle⟩ := wk_sn hG ha hl hW
      have := h n' w' h6 hW'
      omega
    obtain ⟨n, w, h6, hW⟩ := rc_6 hG ha hr
    have e1 := hall n w hW
    have e2 := wk_le (C := 20) (fun a b w g => (hw a b w g).2) _ _ _ _ hW
    obtain ⟨n', w', hW', hle⟩ := hS a b ha hb (by omega)
    have e3 := hall n' w' hW'
    have e4 : w' = T (a * 7 + b) := by omega
    exact ⟨⟨n', e4 ▸ hW'⟩, hall⟩
  · refine Or.inl ⟨hl, hr, ?_⟩
    have := hR (a * 7 + b) (by omega)
    by_cases hD : T (a * 7 + b) < 1048576
    · exact absurd (fw_S hS ha hb hD) hr
    · omega
/-- doubling -/
def db_U (G : Nat → Nat → Int → Prop) (k : Nat) (T : Nat → Int) : Prop := ∀ n a b w, n ≤ 2 ^ k → a < 7 → b < 7 → wk_W G n a b w → T (a * 7 + b) ≤ w
theorem db_0 {T : Nat → Int} (h1 : ∀ a, a < 7 → T (a * 7 + a) ≤ 0) (h2 : ∀ a b w, G a b w → T (a * 7 + b) ≤ w) : db_U G 0 T := by
  intro n a b w hn ha hb hW
  match n, hW with
  | 0, hW =>
    obtain ⟨rfl, rfl⟩ := hW
    exact h1 a ha
  | 1, hW =>
    obtain ⟨c, w1, w2, ⟨rfl, rfl⟩, g, rfl⟩ := hW
    have e1 := h2 _ _ _ g
    omega
  | n + 2, hW => exact absurd hn (by simp)
theorem db_st (hG : ∀ a b w, G a b w → a < 7 ∧ b < 7) (hw : ∀ a b w, G a b w → -20 ≤ w ∧ w ≤ 20) {k : Nat} (hk : k < 12) {T T' : Nat → Int} (h : db_U G k T) (h2 : ∀ a m b w, a < 7 → m < 7 → b < 7 → T (a * 7 + m) < 1048576 → T (m * 7 + b) < 1048576 → T (a * 7 + m) + T (m * 7 + b) ≤ w → -200000 ≤ w → w < 1048576 → T' (a * 7 + b) ≤ w) : db_U G (k + 1) T' := by
  intro n a b w hn ha hb hW
  have hp : 2 ^ k ≤ 2048 := Nat.pow_le_pow_right (n := 2) (by omega) (show k ≤ 11 by omega)
  have hs : 2 ^ (k + 1) = 2 * 2 ^ k := by rw [Nat.pow_succ]; omega
  generalize hP : 2 ^ k = P at *
  obtain ⟨n1, n2, en, e1, e2⟩ : ∃ n1 n2, n = n1 + n2 ∧ n1 ≤ P ∧ n2 ≤ P := ⟨n / 2, n - n / 2, by omega, by omega, by omega⟩
  subst en
  obtain ⟨m, w1, w2, hW1, hW2, ew⟩ := wk_spl n2 b w hW
  have hm := wk_b hG hW1 ha
  have f1 := h n1 a m w1 (by omega) ha hm hW1
  have f2 := h n2 m b w2 (by omega) hm hb hW2
  have g1 := wk_le (C := 20) (fun a b w g => (hw a b w g).2) _ _ _ _ hW1
  have g2 := wk_ge (C := 20) (fun a b w g => (hw a b w g).1) _ _ _ _ hW1
  have g3 := wk_le (C := 20) (fun a b w g => (hw a b w g).2) _ _ _ _ hW2
  have g4 := wk_ge (C := 20) (fun a b w g => (hw a b w g).1) _ _ _ _ hW2
  exact h2 a m b w ha hm hb (by omega) (by omega) (by omega) (by omega) (by omega)
theorem db_low (hG : ∀ a b w, G a b w → a < 7 ∧ b < 7) (hw : ∀ a b w, G a b w → -20 ≤ w ∧ w ≤ 20) {T : Nat → Int} (h : db_U G 12 T) {a b : Nat} (ha : a < 7) (hb : b < 7) (hl : wk_L G a b) : T (a * 7 + b) < -140 := by
  obtain ⟨d, n, w, h7, r1, hW, hneg, r2⟩ := lo_s7 hG ha hl
  have hd := rc_b hG r1 ha
  obtain ⟨n1, w1, h6, hW1⟩ := rc_6 hG ha r1
  obtain ⟨n3, w3, h6', hW3⟩ := rc_6 hG hd r2
  have g1 := wk_le (C := 20) (fun a b w g => (hw a b w g).2) _ _ _ _ hW1
  have g3 := wk_le (C := 20) (fun a b w g => (hw a b w g).2) _ _ _ _ hW3
  have hWr := wk_rep hW 583
  have hWW := wk_app (wk_app hW1 _ _ _ hWr) _ _ _ hW3
  have := h _ a b _ (by show n1 + 583 * n + n3 ≤ 2 ^ 12; omega) ha hb hWW
  omega
end TB
end
section
/-! engines 3 and 4 -/
theorem ix_d {i : Nat} (h : i < 2 ^ 31) : nI i / 7 = nI (i / 7) := pk_div h (by decide) (by decide)
theorem ix_m {i : Nat} (h : i < 2 ^ 31) : nI i - nI i / 7 * 7 = nI (i % 7) := pk_rem h (by decide) (by decide)
theorem ix_n7 : ¬ (7 : Int32) = 0 := by decide
theorem tb_us {f : Nat → Int32} {k : Nat} {x : Int32} : (upd f k x k).toInt = x.toInt := by rw [pk_us]
theorem tb_un {f : Nat → Int32} {k j : Nat} {x : Int32} (h : j ≠ k) : (upd f k x j).toInt = (f j).toInt := by rw [pk_un h]
theorem xs_sumOf {post : Int32 → Prop} {x y : Int32} (hx : -200000 ≤ x.toInt ∧ x.toInt ≤ 1048576) (hy : -200000 ≤ y.toInt ∧ y.toInt ≤ 1048576) (h : ∀ z : Int32, tb_A x.toInt y.toInt z.toInt → post z) : wpX_sumOf post x y := by
  refine ib_le 1048576 x.toInt (fun z => h _ (Or.inl ⟨z, by decide⟩)) (fun z1 => ib_lt y.toInt 1048576 (fun z2 => ?_) (fun z2 => h _ (Or.inr (Or.inl ⟨z2, by decide⟩))))
  have hs : (x + y).toInt = x.toInt + y.toInt := ia_add rfl rfl (by omega) (by omega)
  refine nm_e (ib_le (-200000) (x.toInt + y.toInt) (fun z3 => h _ (Or.inr (Or.inr (Or.inl ⟨z1, z2, z3, hs⟩)))) (fun z3 => h _ (Or.inr (Or.inr (Or.inr ⟨z1, z2, z3, by decide⟩)))) (by decide) hs)
section TU
variable {G : Nat → Nat → Int → Prop}
theorem tb_SA {T : Nat → Int} (hS : tb_S G T) {a m b : Nat} (ha : a < 7) (hm : m < 7) (hb : b < 7) {z : Int} (hz : tb_A (T (a * 7 + m)) (T (m * 7 + b)) z) (hf : z < 1048576) : ∃ n w, wk_W G n a b w ∧ w ≤ z := by
  rcases hz with ⟨_, e⟩ | ⟨_, e⟩ | ⟨h1, h2, h3, e⟩ | ⟨h1, h2, h3, e⟩
  · omega
  · omega
  · obtain ⟨n1, w1, hW1, l1⟩ := hS a m ha hm h1
    obtain ⟨n2, w2, hW2, l2⟩ := hS m b hm hb h2
    exact ⟨_, _, wk_app hW1 _ _ _ hW2, by omega⟩
  · obtain ⟨n1, w1, hW1, l1⟩ := hS a m ha hm h1
    obtain ⟨n2, w2, hW2, l2⟩ := hS m b hm hb h2
    exact ⟨_, _, wk_app hW1 _ _ _ hW2, by omega⟩
theorem tb_ix {a b a' b' : Nat} (hb : b < 7) (hb' : b' < 7) (h : a * 7 + b = a' * 7 + b') : a = a' ∧ b = b' := by omega
/-- a cell is lowered to a sound value -/
theorem tb_Su {T T' : Nat → Int} (hS : tb_S G T) {a b : Nat} (ha : a < 7) (hb : b < 7) {x : Int} (hx : x < 1048576 → ∃ n w, wk_W G n a b w ∧ w ≤ x) (e1 : T' (a * 7 + b) = x) (e2 : ∀ j, j ≠ a * 7 + b → T' j = T j) : tb_S G T' := by
  intro a' b' ha' hb' hlt
  by_cases e : a' * 7 + b' = a * 7 + b
  · obtain ⟨rfl, rfl⟩ := tb_ix hb' hb e
    rw [e1] at hlt ⊢
    exact hx hlt
  · rw [e2 _ e] at hlt ⊢
    exact hS a' b' ha' hb' hlt
theorem tb_Ru {T T' : Nat → Int} (hR : tb_R T) {i : Nat} {x : Int} (hx : -200000 ≤ x ∧ x ≤ 1048576) (e1 : T' i = x) (e2 : ∀ j, j ≠ i → T' j = T j) : tb_R T' := by
  intro j hj
  by_cases e : j = i
  · rw [e, e1]; exact hx
  · rw [e2 j e]; exact hR j hj
end TU
section E3
variable {f_present f_heapSize f_top f_bottom : Int32} {a_fromOf a_toOf a_weightOf a_found a_kept a_dist a_isLow a_times a_queue a_queued a_price a_heap a_heapPlace a_group a_badGroup a_cameBy a_table a_table2 a_byCount : Nat → Int32} {A : Nat → Prop} {fr to : Nat → Nat} {c : Nat → Int}
theorem xs_fillTable (hg : xg_I f_present a_fromOf a_toOf a_weightOf A fr to c) {post : SX → Prop} (h : ∀ T : Nat → Int32, tb_R (fun i => (T i).toInt) → tb_S (ga_G A fr to c) (fun i => (T i).toInt) → (∀ a, a < 7 → (T (a * 7 + a)).toInt ≤ 0) → (∀ a b w, ga_G A fr to c a b w → (T (a * 7 + b)).toInt ≤ w) → post (f_present, f_heapSize, f_top, f_bottom, a_fromOf, a_toOf, a_weightOf, a_found, a_kept, a_dist, a_isLow, a_times, a_queue, a_queued, a_price, a_heap, a_heapPlace, a_group, a_badGroup, a_cameBy, T, a_table2, a_byCount)) : wpX_fillTable post (f_present, f_heapSize, f_top, f_bottom, a_fromOf, a_toOf, a_weightOf, a_found, a_kept, a_dist, a_isLow, a_times, a_queue, a_queued, a_price, a_heap, a_heapPlace, a_group, a_badGroup, a_cameBy, a_table, a_table2, a_byCount) := by
  unfold wpX_fillTable
  refine loop_0 (fun n i T => wX_fillTable_2 post f_present f_heapSize f_top f_bottom n (nI i) a_fromOf a_toOf a_weightOf a_found a_kept a_dist a_isLow a_times a_queue a_queued a_price a_heap a_heapPlace a_group a_badGroup a_cameBy T a_table2 a_byCount) (fun i T => ∀ j, j < i → (T j).toInt = if j / 7 = j % 7 then 0 else 1048576) 49 a_table (fun j hj => absurd hj (Nat.not_lt_zero j)) ?_ ?_
  · intro n T0 hI
    refine br_t (nI_le (Nat.le_refl 49) (by decide)) ?_
    refine loop_0 (fun n k T => wX_fillTable_39 post f_present f_heapSize f_top f_bottom n (nI k) a_fromOf a_toOf a_weightOf a_found a_kept a_dist a_isLow a_times a_queue a_queued a_price a_heap a_heapPlace a_group a_badGroup a_cameBy T a_table2 a_byCount) (fun k T => tb_R (fun i => (T i).toInt) ∧ tb_S (ga_G A fr to c) (fun i => (T i).toInt) ∧ (∀ a, a < 7 → (T (a * 7 + a)).toInt ≤ 0) ∧ (∀ j, j < k → A j → (T (fr j * 7 + to j)).toInt ≤ c j)) 20 T0 ⟨?_, ?_, ?_, fun j hj => absurd hj (Nat.not_lt_zero j)⟩ ?_ ?_
    · intro i hi
      show -200000 ≤ (T0 i).toInt ∧ (T0 i).toInt ≤ 1048576
      rw [hI i hi]
      by_cases e : i / 7 = i % 7
      · rw [if_pos e]; omega
      · rw [if_neg e]; omega
    · intro a b ha hb hlt
      have hlt' : (T0 (a * 7 + b)).toInt < 1048576 := hlt
      show ∃ n w, wk_W (ga_G A fr to c) n a b w ∧ w ≤ (T0 (a * 7 + b)).toInt
      rw [hI (a * 7 + b) (by omega)] at hlt' ⊢
      by_cases e : (a * 7 + b) / 7 = (a * 7 + b) % 7
      · rw [if_pos e]
        obtain rfl : a = b := by omega
        exact ⟨0, 0, wk_0 a, by omega⟩
      · rw [if_neg e] at hlt'; omega
    · intro a ha
      rw [hI (a * 7 + a) (by omega), if_pos (by omega)]
      omega
    · intro n T hI'
      obtain ⟨hR, hS, hd, ha⟩ := hI'
      refine br_t (nI_le (Nat.le_refl 20) (by decide)) (h T hR hS hd ?_)
      intro a b w ⟨j, hj, hA, e1, e2, e3⟩
      subst e1 e2 e3
      exact ha j hj hA
    · intro n k T hk hI' ih
      obtain ⟨hR, hS, hd, ha⟩ := hI'
      have hf7 := xg_f7 hg hk
      have ht7 := xg_t7 hg hk
      have hc := xg_c hg hk
      have hix : a_fromOf (nI k).toNatClampNeg * 7 + a_toOf (nI k).toNatClampNeg = nI (fr k * 7 + to k) := by rw [xg_f hg hk, xg_t hg hk]; exact ix_7 _ _
      have cl : (nI (fr k * 7 + to k)).toNatClampNeg = fr k * 7 + to k := nI_clamp (by omega)
      have hin : vp_in (nI (fr k * 7 + to k)) 49 := vp_in_nI (by omega) (by decide)
      have hsame : upd T (nI (fr k * 7 + to k)).toNatClampNeg (T (nI (fr k * 7 + to k)).toNatClampNeg) = T := by rw [cl, up_self]
      refine br_f (nI_ge hk (by decide)) (And.intro (vp_in_nI hk (by decide)) (And.intro (vp_in_nI hk (by decide)) (nm_r hix ?_)))
      refine xs_has hg hk (fun hA => br_f (by decide) ?_) (fun hA => br_t rfl ?_)
      · refine And.intro (vp_in_nI hk (by decide)) (And.intro hin ?_)
        refine ib_le (T (fr k * 7 + to k)).toInt (c k) (fun z => ?_) (fun z => ?_) (by rw [cl]) (xg_w hg hk)
        · refine And.intro hin (And.intro hin (nm_r hsame (nm_r (nI_1 k) (ih T ⟨hR, hS, hd, ?_⟩))))
          intro j hj hAj
          by_cases e : j = k
          · subst e; exact z
          · exact ha j (by omega) hAj
        · have hw := xg_w hg hk
          refine And.intro (vp_in_nI hk (by decide)) (And.intro hin (nm_r (up_i rfl (by omega) rfl) (nm_r (nI_1 k) (ih (upd T (fr k * 7 + to k) (a_weightOf (nI k).toNatClampNeg)) ⟨?_, ?_, ?_, ?_⟩))))
          · exact tb_Ru hR (x := c k) (by omega) (tb_us.trans hw) (fun j hj => tb_un hj)
          · exact tb_Su hS hf7 ht7 (x := c k) (fun _ => ⟨1, c k, wk_1 (ga_i hk hA), by omega⟩) (tb_us.trans hw) (fun j hj => tb_un hj)
          · intro a ha7
            by_cases e : a * 7 + a = fr k * 7 + to k
            · have := hd a ha7
              rw [e, tb_us, hw]; rw [e] at this; omega
            · rw [tb_un e]; exact hd a ha7
          · intro j hj hAj
            by_cases e : fr j * 7 + to j = fr k * 7 + to k
            · rw [e, tb_us, hw]
              by_cases ej : j = k
              · subst ej; omega
              · have := ha j (by omega) hAj
                rw [e] at this; omega
            · rw [tb_un e]
              have : j ≠ k := fun z => e (by rw [z])
              exact ha j (by omega) hAj
      · exact And.intro hin (And.intro hin (nm_r hsame (nm_r (nI_1 k) (ih T ⟨hR, hS, hd, fun j hj hAj => by
          by_cases e : j = k
          · subst e; exact absurd hAj hA
          · exact ha j (by omega) hAj⟩))))
  · intro n i T hi hI ih
    have key : ∀ x : Int32, x.toInt = (if i / 7 = i % 7 then 0 else 1048576) → ∀ j, j < i + 1 → (upd T i x j).toInt = if j / 7 = j % 7 then 0 else 1048576 := by
      intro x hx j hj
      by_cases e : j = i
      · rw [e, tb_us]; exact hx
      · rw [tb_un e]; exact hI j (by omega)
    refine br_f (nI_ge hi (by decide)) (And.intro ix_n7 (And.intro ix_n7 (pk_eq (i / 7) (i % 7) (fun e => ?_) (fun e => ?_) (ix_d (by omega)) (ix_m (by omega)))))
    · exact And.intro (vp_in_nI hi (by decide)) (nm_r (up_i rfl (by omega) rfl) (nm_r (nI_1 i) (ih _ (key 0 (by rw [if_pos e]; decide)))))
    · exact And.intro (vp_in_nI hi (by decide)) (nm_r (up_i rfl (by omega) rfl) (nm_r (nI_1 i) (ih _ (key 1048576 (by rw [if_neg e]; decide)))))
/-- what a pass over a middle point does -/
def om_I (G : Nat → Nat → Int → Prop) (m : Nat) (T : Nat → Int) (a b : Nat) (T' : Nat → Int) : Prop :=
  tb_R T' ∧ tb_S G T' ∧ (∀ i, i < 49 → T' i ≤ T i) ∧ (∀ a' b' w, a' < 7 → b' < 7 → (a' < a ∨ (a' = a ∧ b' < b)) → T (a' * 7 + m) < 1048576 → T (m * 7 + b') < 1048576 → T (a' * 7 + m) + T (m * 7 + b') ≤ w → -200000 ≤ w → T' (a' * 7 + b') ≤ w)
theorem om_no {G : Nat → Nat → Int → Prop} {m a b : Nat} {T T' : Nat → Int} (hm : m < 7) (ha : a < 7) (hb : b < 7) (h : om_I G m T a b T') {z : Int} (hz : tb_A (T' (a * 7 + m)) (T' (m * 7 + b)) z) (hle : T' (a * 7 + b) ≤ z) : om_I G m T a (b + 1) T' := by
  obtain ⟨h1, h2, h3, h4⟩ := h
  refine ⟨h1, h2, h3, ?_⟩
  intro a' b' w ha' hb' hc l1 l2 hs hw
  by_cases e : a' = a ∧ b' = b
  · obtain ⟨rfl, rfl⟩ := e
    have e1 := h3 (a' * 7 + m) (by omega)
    have e2 := h3 (m * 7 + b') (by omega)
    rcases hz with ⟨_, e⟩ | ⟨_, e⟩ | ⟨_, _, _, e⟩ | ⟨_, _, _, e⟩ <;> omega
  · exact h4 a' b' w ha' hb' (by omega) l1 l2 hs hw
theorem om_yes {G : Nat → Nat → Int → Prop} {m a b : Nat} {T T' T'' : Nat → Int} (hm : m < 7) (ha : a < 7) (hb : b < 7) (h : om_I G m T a b T') {z : Int} (hz : tb_A (T' (a * 7 + m)) (T' (m * 7 + b)) z) (hlt : z < T' (a * 7 + b)) (e1 : T'' (a * 7 + b) = z) (e2 : ∀ j, j ≠ a * 7 + b → T'' j = T' j) : om_I G m T a (b + 1) T'' := by
  have h' := h
  obtain ⟨h1, h2, h3, h4⟩ := h
  have r1 := h1 (a * 7 + b) (by omega)
  have hzr : -200000 ≤ z ∧ z ≤ 1048576 := by
    rcases hz with ⟨_, e⟩ | ⟨_, e⟩ | ⟨_, _, _, e⟩ | ⟨_, _, _, e⟩ <;> omega
  refine ⟨tb_Ru h1 hzr e1 e2, tb_Su h2 ha hb (tb_SA h2 ha hm hb hz) e1 e2, ?_, ?_⟩
  · intro i hi
    by_cases e : i = a * 7 + b
    · rw [e, e1]; have := h3 (a * 7 + b) (by omega); omega
    · rw [e2 i e]; exact h3 i hi
  · intro a' b' w ha' hb' hc l1 l2 hs hw
    by_cases e : a' * 7 + b' = a * 7 + b
    · obtain ⟨rfl, rfl⟩ := tb_ix hb' hb e
      have g1 := h3 (a' * 7 + m) (by omega)
      have g2 := h3 (m * 7 + b') (by omega)
      rw [e1]
      rcases hz with ⟨_, e⟩ | ⟨_, e⟩ | ⟨_, _, _, e⟩ | ⟨_, _, _, e⟩ <;> omega
    · rw [e2 _ e]
      exact h4 a' b' w ha' hb' (by omega) l1 l2 hs hw
theorem xs_overMiddle {G : Nat → Nat → Int → Prop} {post : SX → Prop} {m : Nat} (hm : m < 7) (hR : tb_R (fun i => (a_table i).toInt)) (hS : tb_S G (fun i => (a_table i).toInt)) (h : ∀ T : Nat → Int32, om_I G m (fun i => (a_table i).toInt) 7 0 (fun i => (T i).toInt) → post (f_present, f_heapSize, f_top, f_bottom, a_fromOf, a_toOf, a_weightOf, a_found, a_kept, a_dist, a_isLow, a_times, a_queue, a_queued, a_price, a_heap, a_heapPlace, a_group, a_badGroup, a_cameBy, T, a_table2, a_byCount)) : wpX_overMiddle post (f_present, f_heapSize, f_top, f_bottom, a_fromOf, a_toOf, a_weightOf, a_found, a_kept, a_dist, a_isLow, a_times, a_queue, a_queued, a_price, a_heap, a_heapPlace, a_group, a_badGroup, a_cameBy, a_table, a_table2, a_byCount) (nI m) := by
  unfold wpX_overMiddle
  refine loop_0 (fun n i T => wX_overMiddle_2 post (nI m) f_present f_heapSize f_top f_bottom n (nI i) a_fromOf a_toOf a_weightOf a_found a_kept a_dist a_isLow a_times a_queue a_queued a_price a_heap a_heapPlace a_group a_badGroup a_cameBy T a_table2 a_byCount) (fun i T => om_I G m (fun i => (a_table i).toInt) i 0 (fun i => (T i).toInt)) 7 a_table ⟨hR, hS, fun i _ => Int.le_refl _, fun a' b' w _ _ hc => by omega⟩ ?_ ?_
  · intro n T hI
    exact br_t (nI_le (Nat.le_refl 7) (by decide)) (h T hI)
  · intro n a T ha hI ih
    refine br_f (nI_ge ha (by decide)) ?_
    refine loop_0 (fun n' b T => wX_overMiddle_10 post (wX_overMiddle_2 post (nI m) f_present f_heapSize f_top f_bottom n) (nI m) (nI a) f_present f_heapSize f_top f_bottom n' (nI b) a_fromOf a_toOf a_weightOf a_found a_kept a_dist a_isLow a_times a_queue a_queued a_price a_heap a_heapPlace a_group a_badGroup a_cameBy T a_table2 a_byCount) (fun b T => om_I G m (fun i => (a_table i).toInt) a b (fun i => (T i).toInt)) 7 T hI ?_ ?_
    · intro n' T' hI'
      refine br_t (nI_le (Nat.le_refl 7) (by decide)) (nm_r (nI_1 a) (ih T' ?_))
      obtain ⟨h1, h2, h3, h4⟩ := hI'
      exact ⟨h1, h2, h3, fun a' b' w ha' hb' hc => h4 a' b' w ha' hb' (by omega)⟩
    · intro n' b T' hb hI' ih'
      have c1 : (nI a * 7 + nI m).toNatClampNeg = a * 7 + m := by rw [ix_7, nI_clamp (by omega)]
      have c2 : (nI m * 7 + nI b).toNatClampNeg = m * 7 + b := by rw [ix_7, nI_clamp (by omega)]
      have c3 : (nI a * 7 + nI b).toNatClampNeg = a * 7 + b := by rw [ix_7, nI_clamp (by omega)]
      have i1 : vp_in (nI a * 7 + nI m) 49 := by rw [ix_7]; exact vp_in_nI (by omega) (by decide)
      have i2 : vp_in (nI m * 7 + nI b) 49 := by rw [ix_7]; exact vp_in_nI (by omega) (by decide)
      have i3 : vp_in (nI a * 7 + nI b) 49 := by rw [ix_7]; exact vp_in_nI (by omega) (by decide)
      refine br_f (nI_ge hb (by decide)) (And.intro i1 (And.intro i2 ?_))
      rw [c1, c2]
      refine xs_sumOf (hI'.1 (a * 7 + m) (by omega)) (hI'.1 (m * 7 + b) (by omega)) fun z hz => ?_
      refine And.intro i3 ?_
      rw [c3]
      refine ib_le (T' (a * 7 + b)).toInt z.toInt (fun hle => ?_) (fun hlt => ?_)
      · exact And.intro i3 (And.intro i3 (nm_r (up_self T' (a * 7 + b)) (nm_r (nI_1 b) (ih' T' (om_no hm ha hb hI' hz hle)))))
      · exact And.intro i3 (nm_e (nm_r (nI_1 b) (ih' _ (om_yes hm ha hb hI' hz hlt tb_us (fun j hj => tb_un hj)))))
theorem xs_lowerOver {post : SX → Prop} {m : Nat} (hm : m < 7) (h : ∀ f : Nat → Int32, (∀ a b, a < 7 → b < 7 → f (a * 7 + b) = if (a_table (a * 7 + m)).toInt < 1048576 ∧ (a_table (m * 7 + b)).toInt < 1048576 then -4000 else a_found (a * 7 + b)) → post (f_present, f_heapSize, f_top, f_bottom, a_fromOf, a_toOf, a_weightOf, f, a_kept, a_dist, a_isLow, a_times, a_queue, a_queued, a_price, a_heap, a_heapPlace, a_group, a_badGroup, a_cameBy, a_table, a_table2, a_byCount)) : wpX_lowerOver post (f_present, f_heapSize, f_top, f_bottom, a_fromOf, a_toOf, a_weightOf, a_found, a_kept, a_dist, a_isLow, a_times, a_queue, a_queued, a_price, a_heap, a_heapPlace, a_group, a_badGroup, a_cameBy, a_table, a_table2, a_byCount) (nI m) := by
  unfold wpX_lowerOver
  refine loop_0 (fun n i f => wX_lowerOver_2 post (nI m) f_present f_heapSize f_top f_bottom n (nI i) a_fromOf a_toOf a_weightOf f a_kept a_dist a_isLow a_times a_queue a_queued a_price a_heap a_heapPlace a_group a_badGroup a_cameBy a_table a_table2 a_byCount) (fun i f => (∀ j, j < i → f j = if (a_table (j / 7 * 7 + m)).toInt < 1048576 ∧ (a_table (m * 7 + j % 7)).toInt < 1048576 then -4000 else a_found j) ∧ (∀ j, i ≤ j → f j = a_found j)) 49 a_found ⟨fun j hj => absurd hj (Nat.not_lt_zero j), fun _ _ => rfl⟩ ?_ ?_
  · intro n f hI
    refine br_t (nI_le (Nat.le_refl 49) (by decide)) (h f fun a b ha hb => ?_)
    have e1 : (a * 7 + b) / 7 = a := by omega
    have e2 : (a * 7 + b) % 7 = b := by omega
    rw [hI.1 (a * 7 + b) (by omega), e1, e2]
  · intro n i f hi hI ih
    have ci : (nI i).toNatClampNeg = i := nI_clamp (by omega)
    have c1 : nI i / 7 * 7 + nI m = nI (i / 7 * 7 + m) := by rw [ix_d (by omega), ix_7]
    have c2 : nI m * 7 + (nI i - nI i / 7 * 7) = nI (m * 7 + i % 7) := by rw [ix_m (by omega), ix_7]
    have k1 : (nI (i / 7 * 7 + m)).toNatClampNeg = i / 7 * 7 + m := nI_clamp (by omega)
    have k2 : (nI (m * 7 + i % 7)).toNatClampNeg = m * 7 + i % 7 := nI_clamp (by omega)
    have hin := vp_in_nI hi (show 49 < 2 ^ 31 by decide)
    have key : ∀ x : Int32, x = (if (a_table (i / 7 * 7 + m)).toInt < 1048576 ∧ (a_table (m * 7 + i % 7)).toInt < 1048576 then -4000 else a_found i) → (∀ j, j < i + 1 → upd f i x j = if (a_table (j / 7 * 7 + m)).toInt < 1048576 ∧ (a_table (m * 7 + j % 7)).toInt < 1048576 then -4000 else a_found j) ∧ (∀ j, i + 1 ≤ j → upd f i x j = a_found j) := by
      intro x hx
      refine ⟨fun j hj => ?_, fun j hj => ?_⟩
      · by_cases e : j = i
        · subst e; rw [pk_us]; exact hx
        · rw [pk_un e]; exact hI.1 j (by omega)
      · rw [pk_un (by omega)]; exact hI.2 j (by omega)
    have no : ¬ ((a_table (i / 7 * 7 + m)).toInt < 1048576 ∧ (a_table (m * 7 + i % 7)).toInt < 1048576) → wX_lowerOver_50 post (wX_lowerOver_2 post (nI m) f_present f_heapSize f_top f_bottom n) (nI m) (nI i) f_present f_heapSize f_top f_bottom a_fromOf a_toOf a_weightOf f a_kept a_dist a_isLow a_times a_queue a_queued a_price a_heap a_heapPlace a_group a_badGroup a_cameBy a_table a_table2 a_byCount := by
      intro hn
      refine br_t rfl (And.intro hin (And.intro hin (nm_r (up_i rfl (by omega) (x' := f i) (by rw [ci])) (nm_r (nI_1 i) (ih _ (key (f i) ?_))))))
      rw [if_neg hn]; exact hI.2 i (Nat.le_refl i)
    refine br_f (nI_ge hi (by decide)) (And.intro ix_n7 ?_)
    rw [c1, c2, k1, k2]
    refine And.intro (vp_in_nI (by omega) (by decide)) ?_
    refine ib_le 1048576 (a_table (i / 7 * 7 + m)).toInt (fun z => no (by omega)) (fun z1 => ?_)
    refine And.intro ix_n7 (And.intro (vp_in_nI (by omega) (by decide)) ?_)
    refine ib_le 1048576 (a_table (m * 7 + i % 7)).toInt (fun z => no (by omega)) (fun z2 => ?_)
    exact br_f (by decide) (And.intro hin (nm_r (up_i rfl (by omega) rfl) (nm_r (nI_1 i) (ih _ (key (-4000) (by rw [if_pos ⟨z1, z2⟩]))))))
theorem xs_overMiddles (hg : xg_I f_present a_fromOf a_toOf a_weightOf A fr to c) {post : SX → Prop} (h : ∀ T f : Nat → Int32, (∀ a b, a < 7 → b < 7 → fd_F (ga_G A fr to c) a b (f (a * 7 + b)).toInt) → post (f_present, f_heapSize, f_top, f_bottom, a_fromOf, a_toOf, a_weightOf, f, a_kept, a_dist, a_isLow, a_times, a_queue, a_queued, a_price, a_heap, a_heapPlace, a_group, a_badGroup, a_cameBy, T, a_table2, a_byCount)) : wpX_solveOverMiddles post (f_present, f_heapSize, f_top, f_bottom, a_fromOf, a_toOf, a_weightOf, a_found, a_kept, a_dist, a_isLow, a_times, a_queue, a_queued, a_price, a_heap, a_heapPlace, a_group, a_badGroup, a_cameBy, a_table, a_table2, a_byCount) := by
  have hG := xg_7 hg
  have hw := xg_20 hg
  unfold wpX_solveOverMiddles
  refine xs_fillTable hg fun T0 hR0 hS0 hd0 ha0 => ?_
  refine loop_0 (fun n i T => wX_solveOverMiddles_6 post n (nI i) f_present f_heapSize f_top f_bottom a_fromOf a_toOf a_weightOf a_found a_kept a_dist a_isLow a_times a_queue a_queued a_price a_heap a_heapPlace a_group a_badGroup a_cameBy T a_table2 a_byCount) (fun i T => tb_R (fun i => (T i).toInt) ∧ tb_S (ga_G A fr to c) (fun i => (T i).toInt) ∧ fw_U (ga_G A fr to c) i (fun i => (T i).toInt)) 7 T0 ⟨hR0, hS0, fw_0 hw hd0 ha0⟩ ?_ ?_
  · intro n T hI
    obtain ⟨hR, hS, hU⟩ := hI
    refine br_t (nI_le (Nat.le_refl 7) (by decide)) ?_
    refine loop_0 (fun n i f => wX_solveOverMiddles_25 post f_present f_heapSize f_top f_bottom n (nI i) a_fromOf a_toOf a_weightOf f a_kept a_dist a_isLow a_times a_queue a_queued a_price a_heap a_heapPlace a_group a_badGroup a_cameBy T a_table2 a_byCount) (fun i f => ∀ j, j < i → f j = T j) 49 a_found (fun j hj => absurd hj (Nat.not_lt_zero j)) ?_ ?_
    · intro n f0 hf0
      refine br_t (nI_le (Nat.le_refl 49) (by decide)) ?_
      refine loop_0 (fun n m f => wX_solveOverMiddles_51 post n (nI m) f_present f_heapSize f_top f_bottom a_fromOf a_toOf a_weightOf f a_kept a_dist a_isLow a_times a_queue a_queued a_price a_heap a_heapPlace a_group a_badGroup a_cameBy T a_table2 a_byCount) (fun m f => ∀ a b, a < 7 → b < 7 → ((∃ m', m' < m ∧ (T (m' * 7 + m')).toInt < 0 ∧ (T (a * 7 + m')).toInt < 1048576 ∧ (T (m' * 7 + b)).toInt < 1048576) ∧ f (a * 7 + b) = -4000) ∨ (¬ (∃ m', m' < m ∧ (T (m' * 7 + m')).toInt < 0 ∧ (T (a * 7 + m')).toInt < 1048576 ∧ (T (m' * 7 + b)).toInt < 1048576) ∧ f (a * 7 + b) = T (a * 7 + b))) 7 f0 (fun a b ha hb => Or.inr ⟨fun ⟨m', hm', _⟩ => absurd hm' (Nat.not_lt_zero m'), hf0 _ (by omega)⟩) ?_ ?_
      · intro n f hf
        refine br_t (nI_le (Nat.le_refl 7) (by decide)) (h T f fun a b ha hb => ?_)
        have hlow := fw_low hG hS hU ha hb
        rcases hf a b ha hb with ⟨e1, e2⟩ | ⟨e1, e2⟩
        · rw [e2]
          exact Or.inl ⟨hlow.mp e1, by decide⟩
        · rw [e2]
          have hl : ¬ wk_L (ga_G A fr to c) a b := fun z => e1 (hlow.mpr z)
          refine tb_val hG hw hR hS ha hb hl fun n w h6 hW => ?_
          rcases (hU n a b w (by omega) ha hb (fw_of hG _ _ _ _ hW)).2 with z | z
          · exact z
          · exact absurd (fw_FL hS z) hl
      · intro n m f hm hf ih
        have c1 : (nI m * 7 + nI m).toNatClampNeg = m * 7 + m := by rw [ix_7, nI_clamp (by omega)]
        refine br_f (nI_ge hm (by decide)) (And.intro (by rw [ix_7]; exact vp_in_nI (by omega) (by decide)) ?_)
        rw [c1]
        refine ib_le 0 (T (m * 7 + m)).toInt (fun z => nm_r (nI_1 m) (ih f fun a b ha hb => ?_)) (fun z => ?_)
        · refine (hf a b ha hb).imp (fun ⟨⟨m', hm', q⟩, e⟩ => ⟨⟨m', by omega, q⟩, e⟩) (fun ⟨q, e⟩ => ⟨fun ⟨m', hm', q1, q2⟩ => ?_, e⟩)
          by_cases em : m' = m
          · subst em; omega
          · exact q ⟨m', by omega, q1, q2⟩
        · refine xs_lowerOver hm fun f' hf' => nm_r (nI_1 m) (ih f' fun a b ha hb => ?_)
          rw [hf' a b ha hb]
          by_cases hc : (T (a * 7 + m)).toInt < 1048576 ∧ (T (m * 7 + b)).toInt < 1048576
          · rw [if_pos hc]
            exact Or.inl ⟨⟨m, by omega, z, hc.1, hc.2⟩, rfl⟩
          · rw [if_neg hc]
            refine (hf a b ha hb).imp (fun ⟨⟨m', hm', q⟩, e⟩ => ⟨⟨m', by omega, q⟩, e⟩) (fun ⟨q, e⟩ => ⟨fun ⟨m', hm', q1, q2⟩ => ?_, e⟩)
            by_cases em : m' = m
            · subst em; exact hc q2
            · exact q ⟨m', by omega, q1, q2⟩
    · intro n i f hi hf ih
      have ci : (nI i).toNatClampNeg = i := nI_clamp (by omega)
      refine br_f (nI_ge hi (by decide)) (And.intro (vp_in_nI hi (by decide)) (And.intro (vp_in_nI hi (by decide)) (nm_r (up_i rfl (by omega) (x' := T i) (by rw [ci])) (nm_r (nI_1 i) (ih _ fun j hj => ?_)))))
      by_cases e : j = i
      · subst e; rw [pk_us]
      · rw [pk_un e]; exact hf j (by omega)
  · intro n m T hm hI ih
    obtain ⟨hR, hS, hU⟩ := hI
    refine br_f (nI_ge hm (by decide)) ?_
    refine xs_overMiddle hm hR hS fun T' hT' => nm_r (nI_1 m) (ih T' ?_)
    obtain ⟨h1, h2, h3, h4⟩ := hT'
    exact ⟨h1, h2, fw_st hw hm hU h3 fun a b w ha hb => h4 a b w ha hb (by omega)⟩
theorem xs_leastOverAll {post : Int32 → Prop} {a b : Nat} (ha : a < 7) (hb : b < 7) (hR : tb_R (fun i => (a_table i).toInt)) (h : ∀ r : Int32, -200000 ≤ r.toInt → r.toInt ≤ 1048576 → (∀ m z, m < 7 → tb_A (a_table (a * 7 + m)).toInt (a_table (m * 7 + b)).toInt z → r.toInt ≤ z) → (r.toInt = 1048576 ∨ ∃ m, m < 7 ∧ tb_A (a_table (a * 7 + m)).toInt (a_table (m * 7 + b)).toInt r.toInt) → post r) : wpX_leastOverAll post (f_present, f_heapSize, f_top, f_bottom, a_fromOf, a_toOf, a_weightOf, a_found, a_kept, a_dist, a_isLow, a_times, a_queue, a_queued, a_price, a_heap, a_heapPlace, a_group, a_badGroup, a_cameBy, a_table, a_table2, a_byCount) (nI a) (nI b) := by
  have uq : ∀ {x y z z' : Int}, tb_A x y z → tb_A x y z' → z = z' := by
    intro x y z z' h1 h2
    rcases h1 with ⟨_, e⟩ | ⟨_, e⟩ | ⟨_, _, _, e⟩ | ⟨_, _, _, e⟩ <;> rcases h2 with ⟨_, e'⟩ | ⟨_, e'⟩ | ⟨_, _, _, e'⟩ | ⟨_, _, _, e'⟩ <;> omega
  unfold wpX_leastOverAll
  refine loop_0 (fun n m r => wX_leastOverAll_6 post (nI a) (nI b) f_present f_heapSize f_top f_bottom a_fromOf a_toOf a_weightOf a_found a_kept a_dist a_isLow a_times a_queue a_queued a_price a_heap a_heapPlace a_group a_badGroup a_cameBy a_table a_table2 a_byCount n r (nI m)) (fun k r => -200000 ≤ r.toInt ∧ r.toInt ≤ 1048576 ∧ (∀ m z, m < k → tb_A (a_table (a * 7 + m)).toInt (a_table (m * 7 + b)).toInt z → r.toInt ≤ z) ∧ (r.toInt = 1048576 ∨ ∃ m, m < 7 ∧ tb_A (a_table (a * 7 + m)).toInt (a_table (m * 7 + b)).toInt r.toInt)) 7 1048576 ⟨by decide, by decide, fun m z hm => absurd hm (Nat.not_lt_zero m), Or.inl (by decide)⟩ ?_ ?_
  · intro n r hI
    exact br_t (nI_le (Nat.le_refl 7) (by decide)) (h r hI.1 hI.2.1 hI.2.2.1 hI.2.2.2)
  · intro n m r hm hI ih
    obtain ⟨h1, h2, h3, h4⟩ := hI
    have c1 : (nI a * 7 + nI m).toNatClampNeg = a * 7 + m := by rw [ix_7, nI_clamp (by omega)]
    have c2 : (nI m * 7 + nI b).toNatClampNeg = m * 7 + b := by rw [ix_7, nI_clamp (by omega)]
    refine br_f (nI_ge hm (by decide)) (And.intro (by rw [ix_7]; exact vp_in_nI (by omega) (by decide)) (And.intro (by rw [ix_7]; exact vp_in_nI (by omega) (by decide)) ?_))
    rw [c1, c2]
    refine xs_sumOf (hR (a * 7 + m) (by omega)) (hR (m * 7 + b) (by omega)) fun z hz => ?_
    refine ib_le r.toInt z.toInt (fun hle => nm_r (nI_1 m) (ih r ⟨h1, h2, ?_, h4⟩)) (fun hlt => nm_r (nI_1 m) (ih z ⟨?_, ?_, ?_, Or.inr ⟨m, hm, hz⟩⟩))
    · intro m' z' hm' hz'
      by_cases e : m' = m
      · subst e; have := uq hz hz'; omega
      · exact h3 m' z' (by omega) hz'
    · rcases hz with ⟨_, e⟩ | ⟨_, e⟩ | ⟨_, _, _, e⟩ | ⟨_, _, _, e⟩ <;> omega
    · omega
    · intro m' z' hm' hz'
      by_cases e : m' = m
      · subst e; have := uq hz hz'; omega
      · have := h3 m' z' (by omega) hz'; omega
theorem xs_doubling (hg : xg_I f_present a_fromOf a_toOf a_weightOf A fr to c) {post : SX → Prop} (h : ∀ T T2 f : Nat → Int32, (∀ a b, a < 7 → b < 7 → fd_F (ga_G A fr to c) a b (f (a * 7 + b)).toInt) → post (f_present, f_heapSize, f_top, f_bottom, a_fromOf, a_toOf, a_weightOf, f, a_kept, a_dist, a_isLow, a_times, a_queue, a_queued, a_price, a_heap, a_heapPlace, a_group, a_badGroup, a_cameBy, T, T2, a_byCount)) : wpX_solveByDoubling post (f_present, f_heapSize, f_top, f_bottom, a_fromOf, a_toOf, a_weightOf, a_found, a_kept, a_dist, a_isLow, a_times, a_queue, a_queued, a_price, a_heap, a_heapPlace, a_group, a_badGroup, a_cameBy, a_table, a_table2, a_byCount) := by
  have hG := xg_7 hg
  have hw := xg_20 hg
  unfold wpX_solveByDoubling
  refine xs_fillTable hg fun T0 hR0 hS0 hd0 ha0 => ?_
  refine loop_0 (σ := (Nat → Int32) × (Nat → Int32)) (fun n i s => wX_solveByDoubling_6 post f_present f_heapSize f_top f_bottom n (nI i) a_fromOf a_toOf a_weightOf a_found a_kept a_dist a_isLow a_times a_queue a_queued a_price a_heap a_heapPlace a_group a_badGroup a_cameBy s.1 s.2 a_byCount) (fun i s => tb_R (fun i => (s.1 i).toInt) ∧ tb_S (ga_G A fr to c) (fun i => (s.1 i).toInt) ∧ db_U (ga_G A fr to c) i (fun i => (s.1 i).toInt)) 12 (T0, a_table2) ⟨hR0, hS0, db_0 hd0 ha0⟩ ?_ ?_
  · intro n s hI
    obtain ⟨T, T2⟩ := s
    obtain ⟨hR, hS, hU⟩ := hI
    refine br_t (nI_le (Nat.le_refl 12) (by decide)) ?_
    refine loop_0 (fun n i f => wX_solveByDoubling_78 post f_present f_heapSize f_top f_bottom n (nI i) a_fromOf a_toOf a_weightOf f a_kept a_dist a_isLow a_times a_queue a_queued a_price a_heap a_heapPlace a_group a_badGroup a_cameBy T T2 a_byCount) (fun i f => ∀ j, j < i → (f j).toInt = if (T j).toInt < -140 then -4000 else (T j).toInt) 49 a_found (fun j hj => absurd hj (Nat.not_lt_zero j)) ?_ ?_
    · intro n f hf
      refine br_t (nI_le (Nat.le_refl 49) (by decide)) (h T T2 f fun a b ha hb => ?_)
      rw [hf (a * 7 + b) (by omega)]
      by_cases hl : wk_L (ga_G A fr to c) a b
      · have := db_low hG hw hU ha hb hl
        rw [if_pos this]
        exact Or.inl ⟨hl, rfl⟩
      · have hv := tb_val hG hw hR hS ha hb hl fun n w h6 hW => hU n a b w (by show n ≤ 4096; omega) ha hb hW
        rw [if_neg ?_]
        · exact hv
        · rcases hv with ⟨z, _⟩ | ⟨_, _, e⟩ | ⟨_, hd⟩
          · exact absurd z hl
          · have e' : (T (a * 7 + b)).toInt = 1048576 := e
            omega
          · have := fd_bd hG hw ha hl hd
            have e' : -120 ≤ (T (a * 7 + b)).toInt := this.1
            omega
    · intro n i f hi hf ih
      have ci : (nI i).toNatClampNeg = i := nI_clamp (by omega)
      have hin := vp_in_nI hi (show 49 < 2 ^ 31 by decide)
      have key : ∀ x : Int32, x.toInt = (if (T i).toInt < -140 then -4000 else (T i).toInt) → ∀ j, j < i + 1 → (upd f i x j).toInt = if (T j).toInt < -140 then -4000 else (T j).toInt := by
        intro x hx j hj
        by_cases e : j = i
        · rw [e, tb_us]; exact hx
        · rw [tb_un e]; exact hf j (by omega)
      refine br_f (nI_ge hi (by decide)) (And.intro hin ?_)
      rw [ci]
      refine ib_le (-140) (T i).toInt (fun z => ?_) (fun z => ?_)
      · exact And.intro hin (And.intro hin (nm_e (nm_r (nI_1 i) (ih _ (key (T i) (by rw [if_neg (by omega)]))))))
      · exact And.intro hin (nm_e (nm_r (nI_1 i) (ih _ (key (-4000) (by rw [if_pos z]; decide)))))
  · intro n r s hr hI ih
    obtain ⟨T, T2⟩ := s
    obtain ⟨hR, hS, hU⟩ := hI
    have hR' : tb_R (fun i => (T i).toInt) := hR
    refine br_f (nI_ge hr (by decide)) ?_
    refine loop_0 (fun n' i T2 => wX_solveByDoubling_14 post (wX_solveByDoubling_6 post f_present f_heapSize f_top f_bottom n) (nI r) f_present f_heapSize f_top f_bottom n' (nI i) a_fromOf a_toOf a_weightOf a_found a_kept a_dist a_isLow a_times a_queue a_queued a_price a_heap a_heapPlace a_group a_badGroup a_cameBy T T2 a_byCount) (fun i T2 => ∀ j, j < i → -200000 ≤ (T2 j).toInt ∧ (T2 j).toInt ≤ 1048576 ∧ (∀ m z, m < 7 → tb_A (T (j / 7 * 7 + m)).toInt (T (m * 7 + j % 7)).toInt z → (T2 j).toInt ≤ z) ∧ ((T2 j).toInt = 1048576 ∨ ∃ m, m < 7 ∧ tb_A (T (j / 7 * 7 + m)).toInt (T (m * 7 + j % 7)).toInt (T2 j).toInt)) 49 T2 (fun j hj => absurd hj (Nat.not_lt_zero j)) ?_ ?_
    · intro n' T2' h2
      refine br_t (nI_le (Nat.le_refl 49) (by decide)) ?_
      refine loop_0 (fun n' i T => wX_solveByDoubling_46 post (wX_solveByDoubling_6 post f_present f_heapSize f_top f_bottom n) (nI r) f_present f_heapSize f_top f_bottom n' (nI i) a_fromOf a_toOf a_weightOf a_found a_kept a_dist a_isLow a_times a_queue a_queued a_price a_heap a_heapPlace a_group a_badGroup a_cameBy T T2' a_byCount) (fun i T' => ∀ j, j < i → T' j = T2' j) 49 T (fun j hj => absurd hj (Nat.not_lt_zero j)) ?_ ?_
      · intro n'' T' hT'
        refine br_t (nI_le (Nat.le_refl 49) (by decide)) (nm_r (nI_1 r) (ih (T', T2') ⟨?_, ?_, ?_⟩))
        · intro i hi
          show -200000 ≤ (T' i).toInt ∧ (T' i).toInt ≤ 1048576
          rw [hT' i hi]
          exact ⟨(h2 i hi).1, (h2 i hi).2.1⟩
        · intro a b ha hb hlt
          have e1 : (a * 7 + b) / 7 = a := by omega
          have e2 : (a * 7 + b) % 7 = b := by omega
          have h3 := (h2 (a * 7 + b) (by omega)).2.2.2
          have hlt' : (T' (a * 7 + b)).toInt < 1048576 := hlt
          show ∃ n w, wk_W (ga_G A fr to c) n a b w ∧ w ≤ (T' (a * 7 + b)).toInt
          rw [hT' (a * 7 + b) (by omega)] at hlt' ⊢
          rw [e1, e2] at h3
          rcases h3 with z | ⟨m, hm, z⟩
          · omega
          · exact tb_SA hS ha hm hb z hlt'
        · refine db_st hG hw hr hU ?_
          intro a m b w ha hm hb l1 l2 hs hw1 hw2
          have e1 : (a * 7 + b) / 7 = a := by omega
          have e2 : (a * 7 + b) % 7 = b := by omega
          have h3 := (h2 (a * 7 + b) (by omega)).2.2.1
          rw [e1, e2] at h3
          show (T' (a * 7 + b)).toInt ≤ w
          rw [hT' (a * 7 + b) (by omega)]
          by_cases hcl : -200000 ≤ (T (a * 7 + m)).toInt + (T (m * 7 + b)).toInt
          · have := h3 m _ hm (Or.inr (Or.inr (Or.inl ⟨l1, l2, hcl, rfl⟩)))
            have hs' : (T (a * 7 + m)).toInt + (T (m * 7 + b)).toInt ≤ w := hs
            omega
          · have := h3 m _ hm (Or.inr (Or.inr (Or.inr ⟨l1, l2, by show (T (a * 7 + m)).toInt + (T (m * 7 + b)).toInt < -200000; omega, rfl⟩)))
            omega
      · intro n'' i T' hi hT' ih'
        have ci : (nI i).toNatClampNeg = i := nI_clamp (by omega)
        refine br_f (nI_ge hi (by decide)) (And.intro (vp_in_nI hi (by decide)) (And.intro (vp_in_nI hi (by decide)) (nm_r (up_i rfl (by omega) (x' := T2' i) (by rw [ci])) (nm_r (nI_1 i) (ih' _ fun j hj => ?_)))))
        by_cases e : j = i
        · subst e; rw [pk_us]
        · rw [pk_un e]; exact hT' j (by omega)
    · intro n' i T2' hi h2 ih'
      refine br_f (nI_ge hi (by decide)) (And.intro ix_n7 (And.intro ix_n7 ?_))
      rw [ix_m (by omega), ix_d (by omega)]
      refine xs_leastOverAll (by omega) (by omega) hR' fun z z1 z2 z3 z4 => ?_
      refine And.intro (vp_in_nI hi (by decide)) (nm_r (up_i rfl (by omega) rfl) (nm_r (nI_1 i) (ih' _ fun j hj => ?_)))
      by_cases e : j = i
      · subst e; rw [pk_us]; exact ⟨z1, z2, z3, z4⟩
      · rw [pk_un e]; exact h2 j (by omega)
end E3
end
section
/-! engine 1, pure: a queue in phases. P1: queued for phase f, P2: queued for the next; ex: arcs of the point in hand that are still to be looked at -/
def qe_I (A : Nat → Prop) (fr to : Nat → Nat) (c : Nat → Int) (s : Nat) (ex : Nat → Prop) (f : Nat) (P1 P2 : Nat → Prop) (D : Nat → Int) (L : Nat → Prop) (tm : Nat → Nat) : Prop :=
  (∀ b, b < 7 → D b < 1048576 → ∃ n, wk_W (ga_G A fr to c) n s b (D b)) ∧
  (D s ≤ 0) ∧
  ((∀ v, v < 7 → L v → wk_L (ga_G A fr to c) s v) ∧ (∀ v t, v < 7 → L v → wk_R (ga_G A fr to c) v t → L t)) ∧
  (∀ j, j < 20 → A j → ¬ ex j → ¬ L (fr j) → ¬ L (to j) → ¬ P1 (fr j) → ¬ P2 (fr j) → D (fr j) < 1048576 → D (to j) ≤ D (fr j) + c j) ∧
  (∀ n v w, n ≤ f → n ≤ 6 → wk_W (ga_G A fr to c) n s v w → ¬ wk_L (ga_G A fr to c) s v → D v ≤ w) ∧
  (∀ j n w, j < 20 → A j → ¬ ex j → ¬ wk_L (ga_G A fr to c) s (to j) → ¬ P1 (fr j) → n ≤ f → n ≤ 6 → wk_W (ga_G A fr to c) n s (fr j) w → D (to j) ≤ w + c j) ∧
  ((∀ v, v < 7 → ¬ L v → tm v ≤ 7) ∧ (∀ v, v < 7 → tm v ≤ 8) ∧ (∀ v, v < 7 → ¬ P2 v → tm v ≤ f) ∧ (∀ v, v < 7 → P2 v → tm v ≤ f + 1))
section QE
variable {A : Nat → Prop} {fr to : Nat → Nat} {c : Nat → Int} {s : Nat}
theorem qe_0 {D : Nat → Int} {L P1 : Nat → Prop} {tm : Nat → Nat} (hs : s < 7) (hD : ∀ p, p < 7 → D p = if p = s then 0 else 1048576) (hL : ∀ p, ¬ L p) (ht : ∀ p, p < 7 → tm p = 0) (hP : P1 s) (hf : ∀ j, j < 20 → fr j < 7) : qe_I A fr to c s (fun _ => False) 0 P1 (fun _ => False) D L tm := by
  have hDs : D s = 0 := by rw [hD s hs, if_pos rfl]
  refine ⟨?_, by omega, ⟨fun v _ z => absurd z (hL v), fun v t _ z => absurd z (hL v)⟩, ?_, ?_, ?_, ⟨?_, ?_, ?_, ?_⟩⟩
  · intro b hb hlt
    rw [hD b hb] at hlt
    by_cases e : b = s
    · rw [hD b hb, if_pos e]; exact ⟨0, e ▸ wk_0 b⟩
    · rw [if_neg e] at hlt; omega
  · intro j hj _ _ _ _ h1 _ hlt
    have e : fr j ≠ s := fun e => h1 (e ▸ hP)
    rw [hD _ (hf j hj), if_neg e] at hlt; omega
  · intro n v w h0 _ hW _
    obtain rfl : n = 0 := by omega
    obtain ⟨rfl, rfl⟩ := hW
    omega
  · intro j n w _ _ _ _ h1 h0 _ hW
    obtain rfl : n = 0 := by omega
    obtain ⟨e, _⟩ := hW
    exact absurd (e ▸ hP) h1
  · intro v hv _; rw [ht v hv]; omega
  · intro v hv; rw [ht v hv]; omega
  · intro v hv _; rw [ht v hv]; omega
  · intro v hv _; rw [ht v hv]; omega
theorem qe_sw (hw : ∀ a b w, ga_G A fr to c a b w → -20 ≤ w ∧ w ≤ 20) (hf : ∀ j, j < 20 → fr j < 7 ∧ to j < 7) {f : Nat} {P1 P2 : Nat → Prop} {D : Nat → Int} {L : Nat → Prop} {tm : Nat → Nat} (h : qe_I A fr to c s (fun _ => False) f P1 P2 D L tm) (hP : ∀ v, ¬ P1 v) : qe_I A fr to c s (fun _ => False) (f + 1) P2 (fun _ => False) D L tm := by
  obtain ⟨h1, h2, h3, h4, h5, h6, h7, h8, h9, h10⟩ := h
  have h5' : ∀ n v w, n ≤ f + 1 → n ≤ 6 → wk_W (ga_G A fr to c) n s v w → ¬ wk_L (ga_G A fr to c) s v → D v ≤ w := by
    intro n v w hn n6 hW hl
    by_cases e : n ≤ f
    · exact h5 n v w e n6 hW hl
    · obtain rfl : n = f + 1 := by omega
      obtain ⟨d, w1, w2, hW1, ⟨j, hj, hA, rfl, rfl, rfl⟩, rfl⟩ := hW
      exact h6 j f w1 hj hA id hl (hP _) (Nat.le_refl f) (by omega) hW1
  refine ⟨h1, h2, h3, ?_, h5', ?_, h7, h8, ?_, ?_⟩
  · intro j hj hA hx n1 n2 n3 _ hlt
    exact h4 j hj hA hx n1 n2 (hP _) n3 hlt
  · intro j n w hj hA hx hl hp hn n6 hW
    have hlf : ¬ wk_L (ga_G A fr to c) s (fr j) := fun z => hl (lo_r z (rc_1 (ga_i hj hA)))
    have e1 := h5' n _ w hn n6 hW hlf
    have e2 := wk_le (C := 20) (fun a b w g => (hw a b w g).2) _ _ _ _ hW
    have e3 := h4 j hj hA hx (fun z => hlf (h3.1 _ (hf j hj).1 z)) (fun z => hl (h3.1 _ (hf j hj).2 z)) (hP _) hp (by omega)
    omega
  · intro v hv _
    by_cases e : P2 v
    · exact h10 v hv e
    · have := h9 v hv e; omega
  · intro v hv e; exact absurd e id
theorem qe_pop {f u : Nat} {P1 P1' P2 : Nat → Prop} {D : Nat → Int} {L : Nat → Prop} {tm : Nat → Nat} (h : qe_I A fr to c s (fun _ => False) f P1 P2 D L tm) (hP : ∀ v, P1 v → v = u ∨ P1' v) : qe_I A fr to c s (fun j => fr j = u ∧ 0 ≤ j) f P1' P2 D L tm := by
  obtain ⟨h1, h2, h3, h4, h5, h6, h7⟩ := h
  have hx : ∀ j, ¬ (fr j = u ∧ 0 ≤ j) → ¬ P1' (fr j) → ¬ P1 (fr j) := fun j hn hp z => (hP _ z).elim (fun e => hn ⟨e, by omega⟩) hp
  refine ⟨h1, h2, h3, ?_, h5, ?_, h7⟩
  · intro j hj hA hn n1 n2 n3 n4 hlt
    exact h4 j hj hA id n1 n2 (hx j hn n3) n4 hlt
  · intro j n w hj hA hn hl hp
    exact h6 j n w hj hA id hl (hx j hn hp)
theorem qe_done {f u : Nat} {P1 P2 : Nat → Prop} {D : Nat → Int} {L : Nat → Prop} {tm : Nat → Nat} (h : qe_I A fr to c s (fun j => fr j = u ∧ 20 ≤ j) f P1 P2 D L tm) : qe_I A fr to c s (fun _ => False) f P1 P2 D L tm := by
  obtain ⟨h1, h2, h3, h4, h5, h6, h7⟩ := h
  refine ⟨h1, h2, h3, ?_, h5, ?_, h7⟩
  · intro j hj hA _; exact h4 j hj hA (by omega)
  · intro j n w hj hA _; exact h6 j n w hj hA (by omega)
theorem qe_no (hw : ∀ a b w, ga_G A fr to c a b w → -20 ≤ w ∧ w ≤ 20) (hf : ∀ j, j < 20 → fr j < 7 ∧ to j < 7) {f u k : Nat} {P1 P2 : Nat → Prop} {D : Nat → Int} {L : Nat → Prop} {tm : Nat → Nat} (hk : k < 20) (h : qe_I A fr to c s (fun j => fr j = u ∧ k ≤ j) f P1 P2 D L tm) (hn : A k → fr k = u → ¬ L u → ¬ L (to k) → 1048576 ≤ D u ∨ D (to k) ≤ D u + c k) : qe_I A fr to c s (fun j => fr j = u ∧ k + 1 ≤ j) f P1 P2 D L tm := by
  obtain ⟨h1, h2, h3, h4, h5, h6, h7⟩ := h
  refine ⟨h1, h2, h3, ?_, h5, ?_, h7⟩
  · intro j hj hA hx n1 n2 n3 n4 hlt
    by_cases e : j = k ∧ fr j = u
    · obtain ⟨rfl, rfl⟩ := e
      rcases hn hA rfl n1 n2 with z | z
      · omega
      · exact z
    · exact h4 j hj hA (by omega) n1 n2 n3 n4 hlt
  · intro j n w hj hA hx hl hp hnf n6 hW
    by_cases e : j = k ∧ fr j = u
    · obtain ⟨rfl, rfl⟩ := e
      have hlf : ¬ wk_L (ga_G A fr to c) s (fr j) := fun z => hl (lo_r z (rc_1 (ga_i hj hA)))
      have e1 := h5 n _ w hnf n6 hW hlf
      have e2 := wk_le (C := 20) (fun a b w g => (hw a b w g).2) _ _ _ _ hW
      rcases hn hA rfl (fun z => hlf (h3.1 _ (hf j hj).1 z)) (fun z => hl (h3.1 _ (hf j hj).2 z)) with z | z <;> omega
    · exact h6 j n w hj hA (by omega) hl hp hnf n6 hW
/-- the arc makes its point better: D' -/
theorem qe_yes (hG : ∀ a b w, ga_G A fr to c a b w → a < 7 ∧ b < 7) (hs : s < 7) (hf : ∀ j, j < 20 → fr j < 7 ∧ to j < 7) {f u k : Nat} {P1 P2 P2' : Nat → Prop} {D D' : Nat → Int} {L L' : Nat → Prop} {tm tm' : Nat → Nat} (hk : k < 20) (h : qe_I A fr to c s (fun j => fr j = u ∧ k ≤ j) f P1 P2 D L tm) (hA : A k) (hu : fr k = u) (hlv : ¬ L (to k)) (hF : D u < 1048576) (hl : D u + c k < D (to k)) (e1 : D' (to k) = D u + c k) (e2 : ∀ j, j ≠ to k → D' j = D j)
    (hq : P1 (to k) ∨ P2' (to k)) (hP : ∀ v, P2 v → P2' v) (hP' : ∀ v, P2' v → P2 v ∨ v = to k)
    (ht : (∀ v, v < 7 → tm' v = tm v) ∧ (∀ v, v < 7 → (L' v ↔ L v)) ∧ (∀ v, P2' v → P2 v) ∨ (¬ P2 (to k) ∧ P2' (to k) ∧ tm' (to k) = tm (to k) + 1 ∧ (∀ v, v ≠ to k → tm' v = tm v) ∧ (∀ v, v < 7 → (L' v ↔ L v ∨ (7 < tm (to k) + 1 ∧ wk_R (ga_G A fr to c) (to k) v)))))
    : qe_I A fr to c s (fun j => fr j = u ∧ k + 1 ≤ j) f P1 P2' D' L' tm' := by
  obtain ⟨h1, h2, h3, h4, h5, h6, h7, h8, h9, h10⟩ := h
  have htk := (hf k hk).2
  have hle : ∀ j, D' j ≤ D j := by
    intro j
    by_cases e : j = to k
    · rw [e, e1]; omega
    · rw [e2 j e]; omega
  obtain ⟨n0, hW0⟩ := h1 u (hu ▸ (hf k hk).1) hF
  have g : ga_G A fr to c u (to k) (c k) := by rw [← hu]; exact ga_i hk hA
  have hWk := wk_s hW0 g
  -- the point is low if it gets better in phase 6 or later
  have hlow : 6 ≤ f → wk_L (ga_G A fr to c) s (to k) := by
    intro f6
    refine Classical.byContradiction fun hnl => ?_
    obtain ⟨n', w', n6, _, hW', hle'⟩ := wk_sn hG hs hnl hWk
    have := h5 n' _ w' (by omega) n6 hW' hnl
    omega
  have hLL : ∀ v, v < 7 → L v → L' v := by
    intro v hv z
    rcases ht with ⟨_, hx, _⟩ | ⟨_, _, _, _, hx⟩
    · exact (hx v hv).mpr z
    · exact (hx v hv).mpr (Or.inl z)
  refine ⟨?_, ?_, ⟨?_, ?_⟩, ?_, ?_, ?_, ?_, ?_, ?_, ?_⟩
  · intro b hb hlt
    by_cases e : b = to k
    · subst e; rw [e1]; exact ⟨_, hWk⟩
    · rw [e2 b e] at hlt ⊢; exact h1 b hb hlt
  · have := hle s; omega
  · intro v hv z
    rcases ht with ⟨_, hx, _⟩ | ⟨np, _, _, _, hx⟩
    · exact h3.1 v hv ((hx v hv).mp z)
    · rcases (hx v hv).mp z with z | ⟨z1, z2⟩
      · exact h3.1 v hv z
      · have := h9 (to k) htk np
        exact lo_r (hlow (by omega)) z2
  · intro v t hv z r
    have ht7 := rc_b hG r hv
    rcases ht with ⟨_, hx, _⟩ | ⟨np, _, _, _, hx⟩
    · exact (hx t ht7).mpr (h3.2 v t hv ((hx v hv).mp z) r)
    · rcases (hx v hv).mp z with z | ⟨z1, z2⟩
      · exact (hx t ht7).mpr (Or.inl (h3.2 v t hv z r))
      · exact (hx t ht7).mpr (Or.inr ⟨z1, rc_t z2 r⟩)
  · intro j hj hAj hx n1 n2 n3 n4 hlt
    have hne : fr j ≠ to k := fun e => hq.elim (fun z => n3 (e ▸ z)) (fun z => n4 (e ▸ z))
    rw [e2 _ hne] at hlt ⊢
    by_cases e : j = k
    · subst e; rw [e1, hu]; omega
    · have := h4 j hj hAj (by omega) (fun z => n1 (hLL _ (hf j hj).1 z)) (fun z => n2 (hLL _ (hf j hj).2 z)) n3 (fun z => n4 (hP _ z)) hlt
      have := hle (to j)
      omega
  · intro n v w hn n6 hW hnl
    have := h5 n v w hn n6 hW hnl
    have := hle v
    omega
  · intro j n w hj hAj hx hnl hp hn n6 hW
    by_cases e : j = k
    · subst e
      have hlf : ¬ wk_L (ga_G A fr to c) s (fr j) := fun z => hnl (lo_r z (rc_1 (ga_i hj hAj)))
      have := h5 n _ w hn n6 hW hlf
      rw [hu] at this
      omega
    · have := h6 j n w hj hAj (by omega) hnl hp hn n6 hW
      have := hle (to j)
      omega
  · intro v hv z
    rcases ht with ⟨ht, hx, _⟩ | ⟨np, _, ht1, ht2, hx⟩
    · rw [ht v hv]; exact h7 v hv (fun y => z ((hx v hv).mpr y))
    · by_cases e : v = to k
      · subst e
        by_cases h8 : 7 < tm (to k) + 1
        · exact absurd ((hx _ hv).mpr (Or.inr ⟨h8, rc_0 _⟩)) z
        · omega
      · rw [ht2 v e]; exact h7 v hv (fun y => z ((hx v hv).mpr (Or.inl y)))
  · intro v hv
    rcases ht with ⟨ht, hx, _⟩ | ⟨np, _, ht1, ht2, hx⟩
    · rw [ht v hv]; exact h8 v hv
    · by_cases e : v = to k
      · subst e; have := h7 _ hv hlv; omega
      · rw [ht2 v e]; exact h8 v hv
  · intro v hv z
    rcases ht with ⟨ht, hx, hy⟩ | ⟨np, hp, ht1, ht2, hx⟩
    · rw [ht v hv]; exact h9 v hv (fun y => z (hP v y))
    · by_cases e : v = to k
      · exact absurd (e ▸ hp) z
      · rw [ht2 v e]; exact h9 v hv (fun y => z (hP v y))
  · intro v hv z
    rcases ht with ⟨ht, hx, hy⟩ | ⟨np, hp, ht1, ht2, hx⟩
    · rw [ht v hv]; exact h10 v hv (hy v z)
    · by_cases e : v = to k
      · subst e; have := h9 _ hv np; omega
      · rw [ht2 v e]; exact h10 v hv ((hP' v z).resolve_right e)
theorem qe_fin (hG : ∀ a b w, ga_G A fr to c a b w → a < 7 ∧ b < 7) (hw : ∀ a b w, ga_G A fr to c a b w → -20 ≤ w ∧ w ≤ 20) (hs : s < 7) {f : Nat} {P1 P2 : Nat → Prop} {D : Nat → Int} {L : Nat → Prop} {tm : Nat → Nat} (h : qe_I A fr to c s (fun _ => False) f P1 P2 D L tm) (p1 : ∀ v, ¬ P1 v) (p2 : ∀ v, ¬ P2 v) {t : Nat} (ht : t < 7) (hu : D t ≤ 1048576) : (L t ↔ wk_L (ga_G A fr to c) s t) ∧ (¬ L t → fd_F (ga_G A fr to c) s t (D t)) := by
  obtain ⟨h1, h2, h3, h4, h5, h6, h7⟩ := h
  have arc : ¬ L t → ∀ j, j < 20 → A j → wk_R (ga_G A fr to c) (to j) t → D (fr j) < 1048576 → D (to j) ≤ D (fr j) + c j := by
    intro hL j hj hA hr hlt
    have g := ga_i (fr := fr) (to := to) (c := c) hj hA
    have hb := hG _ _ _ g
    exact h4 j hj hA id (fun z => hL (h3.2 _ t hb.1 z (rc_h g hr))) (fun z => hL (h3.2 _ t hb.2 z hr)) (p1 _) (p2 _) hlt
  have near : ¬ L t → ∀ n a w, n ≤ 6 → wk_W (ga_G A fr to c) n s a w → wk_R (ga_G A fr to c) a t → D a ≤ w := by
    intro hL n
    induction n with
    | zero => intro a w _ hW _; obtain ⟨rfl, rfl⟩ := hW; exact h2
    | succ n ih =>
      intro a w hn hW hr
      obtain ⟨d, w1, w2, hW1, g, rfl⟩ := hW
      have e1 := ih d w1 (by omega) hW1 (rc_h g hr)
      have e2 := wk_le (C := 20) (fun a b w g => (hw a b w g).2) _ _ _ _ hW1
      obtain ⟨j, hj, hA, rfl, rfl, rfl⟩ := g
      have := arc hL j hj hA hr (by omega)
      omega
  have hlow : L t ↔ wk_L (ga_G A fr to c) s t := by
    refine ⟨h3.1 t ht, fun hl => Classical.byContradiction fun hL => ?_⟩
    refine pt_lo (D := D) ?_ hl
    intro a b w g ra rb
    obtain ⟨n, w', n6, hW⟩ := rc_6 hG hs ra
    have e1 := near hL n a w' n6 hW (rc_h g rb)
    have e2 := wk_le (C := 20) (fun a b w g => (hw a b w g).2) _ _ _ _ hW
    obtain ⟨j, hj, hA, rfl, rfl, rfl⟩ := g
    exact arc hL j hj hA rb (by omega)
  refine ⟨hlow, fun hL => Or.inr ?_⟩
  have hl : ¬ wk_L (ga_G A fr to c) s t := fun z => hL (hlow.mpr z)
  by_cases hr : wk_R (ga_G A fr to c) s t
  · have hn := fun n w n6 hW => near hL n t w n6 hW (rc_0 t)
    obtain ⟨n, w', n6, hW⟩ := rc_6 hG hs hr
    have e1 := hn n w' n6 hW
    have e2 := wk_le (C := 20) (fun a b w g => (hw a b w g).2) _ _ _ _ hW
    exact Or.inr ⟨hl, fd_D6 hG hs hl (h1 t ht (by omega)) hn⟩
  · refine Or.inl ⟨hl, hr, ?_⟩
    by_cases hlt : D t < 1048576
    · obtain ⟨n, hW⟩ := h1 t ht hlt
      exact absurd (rc_w hW) hr
    · omega
end QE
end
section
/-! engine 1 over the component's arrays -/
def qx_s (g : Nat → Nat) : Nat := g 0 + g 1 + g 2 + g 3 + g 4 + g 5 + g 6
theorem qx_s1 {g g' : Nat → Nat} {v : Nat} (hv : v < 7) (h : ∀ j, g' j ≤ g j) (h' : g' v + 1 ≤ g v) : qx_s g' + 1 ≤ qx_s g := by
  unfold qx_s
  have h0 := h 0; have h1 := h 1; have h2 := h 2; have h3 := h 3; have h4 := h 4; have h5 := h 5; have h6 := h 6
  have hc : v = 0 ∨ v = 1 ∨ v = 2 ∨ v = 3 ∨ v = 4 ∨ v = 5 ∨ v = 6 := by omega
  rcases hc with rfl | rfl | rfl | rfl | rfl | rfl | rfl <;> omega
def qx_m (tm : Nat → Int32) (size : Nat) : Nat := 2 * qx_s (fun v => 8 - (tm v).toNatClampNeg) + size
def qx_I (A : Nat → Prop) (fr to : Nat → Nat) (c : Nat → Int) (s : Nat) (ex : Nat → Prop) (first size : Nat) (d l tm qu qd : Nat → Int32) : Prop :=
  ∃ (q : Nat → Nat) (r f : Nat) (t : Nat → Nat), first < 8 ∧ r ≤ size ∧
   (∀ i, i < size → q i < 7 ∧ qu ((first + i) % 8) = nI (q i)) ∧
   (∀ i j, i < size → j < size → q i = q j → i = j) ∧
   (∀ v, v < 7 → (qd v ≠ 0 ↔ ∃ i, i < size ∧ q i = v)) ∧
   (∀ v, v < 7 → tm v = nI (t v)) ∧
   (∀ p, p < 7 → (d p).toInt ≤ 1048576) ∧
   qe_I A fr to c s ex f (fun v => ∃ i, i < r ∧ q i = v) (fun v => ∃ i, r ≤ i ∧ i < size ∧ q i = v) (fun p => (d p).toInt) (fun v => v < 7 ∧ l v ≠ 0) t
section QX
variable {A : Nat → Prop} {fr to : Nat → Nat} {c : Nat → Int} {s : Nat}
theorem qx_7 {size : Nat} {q : Nat → Nat} (h1 : ∀ i, i < size → q i < 7) (h2 : ∀ i j, i < size → j < size → q i = q j → i = j) : size ≤ 7 := by
  refine Classical.byContradiction fun hn => ?_
  obtain ⟨i, j, hij, hj, e⟩ := ph_pig 7 q fun i hi => h1 i (by omega)
  have := h2 i j (by omega) (by omega) e
  omega
theorem qe_c {ex : Nat → Prop} {f : Nat} {P1 P2 P1' P2' : Nat → Prop} {D : Nat → Int} {L : Nat → Prop} {tm : Nat → Nat} (h : qe_I A fr to c s ex f P1 P2 D L tm) (e1 : ∀ v, P1 v ↔ P1' v) (e2 : ∀ v, P2 v ↔ P2' v) : qe_I A fr to c s ex f P1' P2' D L tm := by
  have h1 : P1 = P1' := funext fun v => propext (e1 v)
  have h2 : P2 = P2' := funext fun v => propext (e2 v)
  subst h1 h2
  exact h
/-- the front of the queue is taken -/
theorem qx_pop (hw : ∀ a b w, ga_G A fr to c a b w → -20 ≤ w ∧ w ≤ 20) (hf : ∀ j, j < 20 → fr j < 7 ∧ to j < 7) {first size : Nat} {d l tm qu qd : Nat → Int32} (h : qx_I A fr to c s (fun _ => False) first (size + 1) d l tm qu qd) : ∃ u, u < 7 ∧ first < 8 ∧ qu first = nI u ∧ qx_I A fr to c s (fun j => fr j = u ∧ 0 ≤ j) ((first + 1) % 8) size d l tm qu (upd qd u 0) := by
  obtain ⟨q, r, f, t, h1, h2, h3, h4, h5, h6, h7, h8⟩ := h
  have hq0 := h3 0 (by omega)
  rw [Nat.add_zero, Nat.mod_eq_of_lt h1] at hq0
  obtain ⟨r', f', hr1, hr2, h8'⟩ : ∃ r' f', 0 < r' ∧ r' ≤ size + 1 ∧ qe_I A fr to c s (fun _ => False) f' (fun v => ∃ i, i < r' ∧ q i = v) (fun v => ∃ i, r' ≤ i ∧ i < size + 1 ∧ q i = v) (fun p => (d p).toInt) (fun v => v < 7 ∧ l v ≠ 0) t := by
    by_cases hr : r = 0
    · subst hr
      refine ⟨size + 1, f + 1, by omega, by omega, qe_c (qe_sw hw hf h8 fun v ⟨i, hi, _⟩ => by omega) (fun v => ⟨fun ⟨i, _, a, b⟩ => ⟨i, a, b⟩, fun ⟨i, a, b⟩ => ⟨i, by omega, a, b⟩⟩) (fun v => ⟨fun z => absurd z id, fun ⟨i, a, b, _⟩ => by omega⟩)⟩
    · exact ⟨r, f, by omega, h2, h8⟩
  refine ⟨q 0, hq0.1, h1, hq0.2, fun i => q (i + 1), r' - 1, f', t, by omega, by omega, ?_, ?_, ?_, h6, h7, ?_⟩
  · intro i hi
    have := h3 (i + 1) (by omega)
    refine ⟨this.1, ?_⟩
    have e : ((first + 1) % 8 + i) % 8 = (first + (i + 1)) % 8 := by omega
    rw [e]; exact this.2
  · intro i j hi hj e
    have := h4 (i + 1) (j + 1) (by omega) (by omega) e
    omega
  · intro v hv
    by_cases e : v = q 0
    · rw [e, pk_us]
      refine ⟨fun z => absurd rfl z, fun ⟨i, hi, ei⟩ => ?_⟩
      have := h4 (i + 1) 0 (by omega) (by omega) ei
      omega
    · rw [pk_un e, h5 v hv]
      refine ⟨fun ⟨i, hi, ei⟩ => ⟨i - 1, ?_⟩, fun ⟨i, hi, ei⟩ => ⟨i + 1, by omega, ei⟩⟩
      have hi0 : i ≠ 0 := fun z => e (by rw [← ei, z])
      have ee : i - 1 + 1 = i := by omega
      refine ⟨by omega, ?_⟩
      show q (i - 1 + 1) = v
      rw [ee]; exact ei
  · refine qe_c (qe_pop (u := q 0) (P1' := fun v => ∃ i, i < r' - 1 ∧ q (i + 1) = v) h8' fun v ⟨i, hi, ei⟩ => ?_) (fun v => Iff.rfl) (fun v => ?_)
    · by_cases hi0 : i = 0
      · exact Or.inl (by rw [← ei, hi0])
      · have ee : i - 1 + 1 = i := by omega
        refine Or.inr ⟨i - 1, by omega, ?_⟩
        rw [ee]; exact ei
    · refine ⟨fun ⟨i, a, b, ei⟩ => ⟨i - 1, by omega, by omega, ?_⟩, fun ⟨i, a, b, ei⟩ => ⟨i + 1, by omega, by omega, ei⟩⟩
      have ee : i - 1 + 1 = i := by omega
      show q (i - 1 + 1) = v
      rw [ee]; exact ei
theorem qx_done {first size u : Nat} {d l tm qu qd : Nat → Int32} (h : qx_I A fr to c s (fun j => fr j = u ∧ 20 ≤ j) first size d l tm qu qd) : qx_I A fr to c s (fun _ => False) first size d l tm qu qd := by
  obtain ⟨q, r, f, t, h1, h2, h3, h4, h5, h6, h7, h8⟩ := h
  exact ⟨q, r, f, t, h1, h2, h3, h4, h5, h6, h7, qe_done h8⟩
theorem qx_no (hw : ∀ a b w, ga_G A fr to c a b w → -20 ≤ w ∧ w ≤ 20) (hf : ∀ j, j < 20 → fr j < 7 ∧ to j < 7) {first size u k : Nat} {d l tm qu qd : Nat → Int32} (hk : k < 20) (h : qx_I A fr to c s (fun j => fr j = u ∧ k ≤ j) first size d l tm qu qd) (hn : A k → fr k = u → l u = 0 → l (to k) = 0 → 1048576 ≤ (d u).toInt ∨ (d (to k)).toInt ≤ (d u).toInt + c k) : qx_I A fr to c s (fun j => fr j = u ∧ k + 1 ≤ j) first size d l tm qu qd := by
  obtain ⟨q, r, f, t, h1, h2, h3, h4, h5, h6, h7, h8⟩ := h
  refine ⟨q, r, f, t, h1, h2, h3, h4, h5, h6, h7, qe_no hw hf hk h8 fun hA hu n1 n2 => hn hA hu ?_ ?_⟩
  · refine Classical.byContradiction fun z => n1 ⟨hu ▸ (hf k hk).1, z⟩
  · refine Classical.byContradiction fun z => n2 ⟨(hf k hk).2, z⟩
theorem qx_du {d : Nat → Int32} {v : Nat} {x : Int32} (h7 : ∀ p, p < 7 → (d p).toInt ≤ 1048576) (hx : x.toInt ≤ 1048576) : ∀ p, p < 7 → (upd d v x p).toInt ≤ 1048576 := by
  intro p hp
  by_cases e : p = v
  · rw [e, tb_us]; exact hx
  · rw [tb_un e]; exact h7 p hp
theorem qx_a (hG : ∀ a b w, ga_G A fr to c a b w → a < 7 ∧ b < 7) (hs : s < 7) (hf : ∀ j, j < 20 → fr j < 7 ∧ to j < 7) {first size u k : Nat} {d l tm qu qd : Nat → Int32} (hk : k < 20) (h : qx_I A fr to c s (fun j => fr j = u ∧ k ≤ j) first size d l tm qu qd) (hA : A k) (hu : fr k = u) (hlv : l (to k) = 0) (hF : (d u).toInt < 1048576) (hl : (d u).toInt + c k < (d (to k)).toInt) {x : Int32} (hx : x.toInt = (d u).toInt + c k) (hq : qd (to k) ≠ 0) : qx_I A fr to c s (fun j => fr j = u ∧ k + 1 ≤ j) first size (upd d (to k) x) l tm qu qd := by
  obtain ⟨q, r, f, t, h1, h2, h3, h4, h5, h6, h7, h8⟩ := h
  have htk := (hf k hk).2
  have := h7 (to k) htk
  refine ⟨q, r, f, t, h1, h2, h3, h4, h5, h6, qx_du h7 (by omega), ?_⟩
  refine qe_yes hG hs hf hk h8 hA hu (fun z => z.2 hlv) hF hl (by show (upd d (to k) x (to k)).toInt = _; rw [tb_us, hx]) (fun j hj => by show (upd d (to k) x j).toInt = _; rw [tb_un hj]) ?_ (fun v z => z) (fun v z => Or.inl z) (Or.inl ⟨fun v _ => rfl, fun v _ => Iff.rfl, fun v z => z⟩)
  obtain ⟨i, hi, ei⟩ := (h5 (to k) htk).mp hq
  by_cases hr : i < r
  · exact Or.inl ⟨i, hr, ei⟩
  · exact Or.inr ⟨i, by omega, hi, ei⟩
theorem qx_b (hG : ∀ a b w, ga_G A fr to c a b w → a < 7 ∧ b < 7) (hs : s < 7) (hf : ∀ j, j < 20 → fr j < 7 ∧ to j < 7) {first size u k : Nat} {d l l' tm qu qd : Nat → Int32} (hk : k < 20) (h : qx_I A fr to c s (fun j => fr j = u ∧ k ≤ j) first size d l tm qu qd) (hA : A k) (hu : fr k = u) (hlv : l (to k) = 0) (hF : (d u).toInt < 1048576) (hl : (d u).toInt + c k < (d (to k)).toInt) {x : Int32} (hx : x.toInt = (d u).toInt + c k) (hq : qd (to k) = 0) {T : Nat} (hT : T < 2 ^ 31) (eT : tm (to k) = nI T) (hl' : ∀ p, p < 7 → (l' p ≠ 0 ↔ l p ≠ 0 ∨ (7 < T + 1 ∧ wk_R (ga_G A fr to c) (to k) p))) : qx_I A fr to c s (fun j => fr j = u ∧ k + 1 ≤ j) first (size + 1) (upd d (to k) x) l' (upd tm (to k) (nI (T + 1))) (upd qu ((first + size) % 8) (nI (to k))) (upd qd (to k) 1) := by
  obtain ⟨q, r, f, t, h1, h2, h3, h4, h5, h6, h7, h8⟩ := h
  have htk := (hf k hk).2
  have hd := h7 (to k) htk
  have hs7 := qx_7 (fun i hi => (h3 i hi).1) h4
  have hnq : ∀ i, i < size → q i ≠ to k := fun i hi e => (h5 (to k) htk).mpr ⟨i, hi, e⟩ hq
  have h8' := h8
  obtain ⟨_, _, _, _, _, _, k7, k8, _, _⟩ := h8'
  have htk8 := k8 (to k) htk
  have eT' : t (to k) = T := by
    have := h6 (to k) htk
    rw [eT] at this
    exact ((nI_eq hT (by omega)).mp this).symm
  have hqn : (fun i => if i = size then to k else q i) size = to k := by simp
  have hqo : ∀ i, i < size → (fun i => if i = size then to k else q i) i = q i := fun i hi => if_neg (by omega)
  refine ⟨fun i => if i = size then to k else q i, r, f, fun v => if v = to k then T + 1 else t v, h1, by omega, ?_, ?_, ?_, ?_, qx_du h7 (by omega), ?_⟩
  · intro i hi
    by_cases e : i = size
    · subst e
      show (if i = i then to k else q i) < 7 ∧ upd qu ((first + i) % 8) (nI (to k)) ((first + i) % 8) = nI (if i = i then to k else q i)
      rw [if_pos rfl, pk_us]; exact ⟨htk, rfl⟩
    · show (if i = size then to k else q i) < 7 ∧ upd qu ((first + size) % 8) (nI (to k)) ((first + i) % 8) = nI (if i = size then to k else q i)
      rw [if_neg e, pk_un (by omega)]; exact h3 i (by omega)
  · intro i j hi hj e
    have e' : (if i = size then to k else q i) = (if j = size then to k else q j) := e
    by_cases ei : i = size
    · by_cases ej : j = size
      · omega
      · rw [if_pos ei, if_neg ej] at e'; exact absurd e'.symm (hnq j (by omega))
    · by_cases ej : j = size
      · rw [if_neg ei, if_pos ej] at e'; exact absurd e' (hnq i (by omega))
      · rw [if_neg ei, if_neg ej] at e'; exact h4 i j (by omega) (by omega) e'
  · intro v hv
    by_cases e : v = to k
    · rw [e, pk_us]
      exact ⟨fun _ => ⟨size, by omega, hqn⟩, fun _ => by decide⟩
    · rw [pk_un e, h5 v hv]
      refine ⟨fun ⟨i, hi, ei⟩ => ⟨i, by omega, (hqo i hi).trans ei⟩, fun ⟨i, hi, ei⟩ => ?_⟩
      by_cases es : i = size
      · subst es; exact absurd (hqn.symm.trans ei).symm e
      · exact ⟨i, by omega, (hqo i (by omega)).symm.trans ei⟩
  · intro v hv
    show upd tm (to k) (nI (T + 1)) v = nI (if v = to k then T + 1 else t v)
    by_cases e : v = to k
    · rw [if_pos e, e, pk_us]
    · rw [if_neg e, pk_un e]; exact h6 v hv
  · refine qe_c (P1 := fun v => ∃ i, i < r ∧ q i = v) (P2 := fun v => (∃ i, r ≤ i ∧ i < size ∧ q i = v) ∨ v = to k) (qe_yes hG hs hf hk h8 hA hu (fun z => z.2 hlv) hF hl (by show (upd d (to k) x (to k)).toInt = _; rw [tb_us, hx]) (fun j hj => by show (upd d (to k) x j).toInt = _; rw [tb_un hj]) (Or.inr (Or.inr rfl)) (fun v z => Or.inl z) (fun v z => z) (Or.inr ⟨?_, Or.inr rfl, ?_, ?_, ?_⟩)) ?_ ?_
    · intro ⟨i, _, hi, ei⟩; exact hnq i hi ei
    · show (if to k = to k then T + 1 else t (to k)) = _
      rw [if_pos rfl, eT']
    · intro v hv
      show (if v = to k then T + 1 else t v) = _
      rw [if_neg hv]
    · intro v hv
      rw [eT']
      show v < 7 ∧ l' v ≠ 0 ↔ _
      rw [hl' v hv]
      exact ⟨fun z => z.2.imp (fun z => ⟨hv, z⟩) id, fun z => ⟨hv, z.imp (fun z => z.2) id⟩⟩
    · intro v
      exact ⟨fun ⟨i, hi, ei⟩ => ⟨i, hi, (hqo i (by omega)).trans ei⟩, fun ⟨i, hi, ei⟩ => ⟨i, hi, (hqo i (by omega)).symm.trans ei⟩⟩
    · intro v
      refine ⟨fun z => z.elim (fun ⟨i, hi, hi2, ei⟩ => ⟨i, hi, by omega, (hqo i (by omega)).trans ei⟩) (fun z => ⟨size, by omega, by omega, by rw [z]; exact hqn⟩), fun ⟨i, hi, hi2, ei⟩ => ?_⟩
      by_cases es : i = size
      · subst es; exact Or.inr (hqn.symm.trans ei).symm
      · exact Or.inl ⟨i, hi, by omega, (hqo i (by omega)).symm.trans ei⟩
theorem qx_t {ex : Nat → Prop} {first size : Nat} {d l tm qu qd : Nat → Int32} (h : qx_I A fr to c s ex first size d l tm qu qd) {v : Nat} (hv : v < 7) : ∃ T, T ≤ 8 ∧ tm v = nI T ∧ (l v = 0 → T ≤ 7) := by
  obtain ⟨q, r, f, t, h1, h2, h3, h4, h5, h6, h7, _, _, _, _, _, _, k7, k8, _, _⟩ := h
  exact ⟨t v, k8 v hv, h6 v hv, fun z => k7 v hv fun y => y.2 z⟩
theorem qx_mb {tm : Nat → Int32} {size v T : Nat} (hv : v < 7) (hT : T ≤ 7) (e : tm v = nI T) : qx_m (upd tm v (nI (T + 1))) (size + 1) + 1 ≤ qx_m tm size := by
  unfold qx_m
  have := qx_s1 (g := fun v => 8 - (tm v).toNatClampNeg) (g' := fun j => 8 - (upd tm v (nI (T + 1)) j).toNatClampNeg) hv (fun j => by
    by_cases ej : j = v
    · show 8 - (upd tm v (nI (T + 1)) j).toNatClampNeg ≤ 8 - (tm j).toNatClampNeg
      rw [ej, pk_us, e, nI_clamp (by omega), nI_clamp (by omega)]; omega
    · show 8 - (upd tm v (nI (T + 1)) j).toNatClampNeg ≤ 8 - (tm j).toNatClampNeg
      rw [pk_un ej]; omega) (by
    show 8 - (upd tm v (nI (T + 1)) v).toNatClampNeg + 1 ≤ 8 - (tm v).toNatClampNeg
    rw [pk_us, e, nI_clamp (by omega), nI_clamp (by omega)]; omega)
  omega
theorem qx_sz {ex : Nat → Prop} {first size : Nat} {d l tm qu qd : Nat → Int32} (h : qx_I A fr to c s ex first size d l tm qu qd) : first < 8 ∧ size ≤ 7 := by
  obtain ⟨q, r, f, t, h1, h2, h3, h4, _⟩ := h
  exact ⟨h1, qx_7 (fun i hi => (h3 i hi).1) h4⟩
theorem qx_ub {ex : Nat → Prop} {first size : Nat} {d l tm qu qd : Nat → Int32} (h : qx_I A fr to c s ex first size d l tm qu qd) : ∀ p, p < 7 → (d p).toInt ≤ 1048576 := by
  obtain ⟨q, r, f, t, h1, h2, h3, h4, h5, h6, h7, _⟩ := h
  exact h7
theorem qx_fin (hG : ∀ a b w, ga_G A fr to c a b w → a < 7 ∧ b < 7) (hw : ∀ a b w, ga_G A fr to c a b w → -20 ≤ w ∧ w ≤ 20) (hs : s < 7) {first : Nat} {d l tm qu qd : Nat → Int32} (h : qx_I A fr to c s (fun _ => False) first 0 d l tm qu qd) {t : Nat} (ht : t < 7) : fd_F (ga_G A fr to c) s t (if l t = 0 then d t else -4000).toInt := by
  obtain ⟨q, r, f, T, h1, h2, h3, h4, h5, h6, h7, h8⟩ := h
  obtain ⟨e1, e2⟩ := qe_fin hG hw hs h8 (fun v ⟨i, hi, _⟩ => by omega) (fun v ⟨i, _, hi, _⟩ => by omega) ht (h7 t ht)
  by_cases e : l t = 0
  · rw [if_pos e]; exact e2 fun z => z.2 e
  · rw [if_neg e]; exact Or.inl ⟨e1.mp ⟨ht, e⟩, by decide⟩
end QX
theorem bs_i {v : Nat} (hv : v < 32) (i : Nat) : bt ((1 : Int32) <<< (nI v &&& 31)) i = true ↔ i = v := by
  by_cases hi : i < 32
  · rw [bs_s hv hi, decide_eq_true_iff]
  · rw [b_big (by omega)]
    exact ⟨fun z => absurd z (by decide), fun z => by omega⟩
section QW
variable {f_present f_heapSize f_top f_bottom : Int32} {a_fromOf a_toOf a_weightOf a_found a_kept a_dist a_isLow a_times a_queue a_queued a_price a_heap a_heapPlace a_group a_badGroup a_cameBy a_table a_table2 a_byCount : Nat → Int32} {A : Nat → Prop} {fr to : Nat → Nat} {c : Nat → Int}
theorem xs_countTime (hg : xg_I f_present a_fromOf a_toOf a_weightOf A fr to c) {post : SX → Prop} {v T : Nat} (hv : v < 7) (hT : T ≤ 8) (eT : a_times v = nI T) (h : ∀ l : Nat → Int32, (∀ p, p < 7 → (l p ≠ 0 ↔ a_isLow p ≠ 0 ∨ (7 < T + 1 ∧ wk_R (ga_G A fr to c) v p))) → post (f_present, f_heapSize, f_top, f_bottom, a_fromOf, a_toOf, a_weightOf, a_found, a_kept, a_dist, l, upd a_times v (nI (T + 1)), a_queue, a_queued, a_price, a_heap, a_heapPlace, a_group, a_badGroup, a_cameBy, a_table, a_table2, a_byCount)) : wpX_countTime post (f_present, f_heapSize, f_top, f_bottom, a_fromOf, a_toOf, a_weightOf, a_found, a_kept, a_dist, a_isLow, a_times, a_queue, a_queued, a_price, a_heap, a_heapPlace, a_group, a_badGroup, a_cameBy, a_table, a_table2, a_byCount) (nI v) := by
  unfold wpX_countTime
  have cv : (nI v).toNatClampNeg = v := nI_clamp (by omega)
  refine And.intro (vp_in_nI hv (by decide)) (And.intro (vp_in_nI hv (by decide)) (nm_r (e' := upd a_times v (nI (T + 1))) ?_ (And.intro (vp_in_nI hv (by decide)) ?_)))
  · refine up_i rfl (by omega) ?_
    rw [cv, eT, nI_1]; exact nb_by _ (by omega)
  · refine pk_le (T + 1) 7 (fun hle => h a_isLow fun p hp => ⟨Or.inl, fun z => z.elim id (fun z => by omega)⟩) (fun hlt => ?_) (by rw [cv, pk_us])
    refine xs_lowerFrom hg (fun i hi => by rw [(bs_i (by omega) i).mp hi]; exact hv) fun l hl => h l fun p hp => ?_
    rw [hl p hp]
    refine ⟨fun z => z.imp id fun ⟨q, hq, hr⟩ => ⟨hlt, ?_⟩, fun z => z.imp id fun ⟨_, hr⟩ => ⟨v, (bs_i (by omega) v).mpr rfl, hr⟩⟩
    rw [(bs_i (by omega) q).mp hq] at hr; exact hr
theorem xs_goByQueue (hg : xg_I f_present a_fromOf a_toOf a_weightOf A fr to c) {post : SX → Prop} {s : Nat} (hs : s < 7) (h : ∀ d l tm qu qd f : Nat → Int32, (∀ t, t < 7 → fd_F (ga_G A fr to c) s t (f (s * 7 + t)).toInt) → (∀ i, (i < s * 7 ∨ s * 7 + 7 ≤ i) → f i = a_found i) → post (f_present, f_heapSize, f_top, f_bottom, a_fromOf, a_toOf, a_weightOf, f, a_kept, d, l, tm, qu, qd, a_price, a_heap, a_heapPlace, a_group, a_badGroup, a_cameBy, a_table, a_table2, a_byCount)) : wpX_goByQueue post (f_present, f_heapSize, f_top, f_bottom, a_fromOf, a_toOf, a_weightOf, a_found, a_kept, a_dist, a_isLow, a_times, a_queue, a_queued, a_price, a_heap, a_heapPlace, a_group, a_badGroup, a_cameBy, a_table, a_table2, a_byCount) (nI s) := by
  have hG := xg_7 hg
  have hw := xg_20 hg
  have hf : ∀ j, j < 20 → fr j < 7 ∧ to j < 7 := fun j hj => ⟨xg_f7 hg hj, xg_t7 hg hj⟩
  unfold wpX_goByQueue
  refine xs_startFrom hs fun d0 l0 hd0 hl0 => ?_
  refine loop_0 (σ := (Nat → Int32) × (Nat → Int32)) (fun n i z => wX_goByQueue_7 post (nI s) f_present f_heapSize f_top f_bottom n (nI i) a_fromOf a_toOf a_weightOf a_found a_kept d0 l0 z.1 a_queue z.2 a_price a_heap a_heapPlace a_group a_badGroup a_cameBy a_table a_table2 a_byCount) (fun i z => (∀ v, v < i → z.1 v = 0) ∧ (∀ v, v < i → z.2 v = 0)) 7 (a_times, a_queued) ⟨fun v hv => absurd hv (Nat.not_lt_zero v), fun v hv => absurd hv (Nat.not_lt_zero v)⟩ ?_ ?_
  · intro n z hz
    obtain ⟨tm0, qd0⟩ := z
    obtain ⟨ht0, hq0⟩ := hz
    have ht0' : ∀ v, v < 7 → tm0 v = 0 := ht0
    have hq0' : ∀ v, v < 7 → qd0 v = 0 := hq0
    refine br_t (nI_le (Nat.le_refl 7) (by decide)) (nm_r (e' := upd a_queue 0 (nI s)) (by rw [nb_by s (by omega)]) (And.intro (vp_in_nI hs (by decide)) (nm_r (e' := upd qd0 s 1) (up_i rfl (by omega) nb_b1) ?_)))
    have hinit : qx_I A fr to c s (fun _ => False) 0 1 d0 l0 tm0 (upd a_queue 0 (nI s)) (upd qd0 s 1) := by
      refine ⟨fun _ => s, 1, 0, fun _ => 0, by omega, by omega, ?_, ?_, ?_, ?_, ?_, ?_⟩
      · intro i hi
        obtain rfl : i = 0 := by omega
        exact ⟨hs, rfl⟩
      · intro i j hi hj _; omega
      · intro v hv
        by_cases e : v = s
        · rw [e, pk_us]; exact ⟨fun _ => ⟨0, by omega, rfl⟩, fun _ => by decide⟩
        · rw [pk_un e, hq0' v hv]; exact ⟨fun z => absurd rfl z, fun ⟨_, _, z⟩ => absurd z.symm e⟩
      · intro v hv; rw [ht0' v hv]; rfl
      · intro p hp; rw [hd0 p hp]; by_cases e : p = s <;> simp [e]
      · refine qe_c (qe_0 hs hd0 (fun p z => z.2 (hl0 p z.1)) (fun _ _ => rfl) (P1 := fun v => ∃ i, i < 1 ∧ s = v) ⟨0, by omega, rfl⟩ (fun j hj => (hf j hj).1)) (fun v => Iff.rfl) (fun v => ⟨fun z => absurd z id, fun ⟨i, a, b, _⟩ => by omega⟩)
    have hm0 : qx_m tm0 1 = 113 := by
      unfold qx_m qx_s
      simp only [ht0' 0 (by omega), ht0' 1 (by omega), ht0' 2 (by omega), ht0' 3 (by omega), ht0' 4 (by omega), ht0' 5 (by omega), ht0' 6 (by omega)]
      decide
    refine loop_m (σ := Nat × Nat × (Nat → Int32) × (Nat → Int32) × (Nat → Int32) × (Nat → Int32) × (Nat → Int32)) (fun n z => wX_goByQueue_52 post (nI s) n (nI z.1) (nI z.2.1) f_present f_heapSize f_top f_bottom a_fromOf a_toOf a_weightOf a_found a_kept z.2.2.1 z.2.2.2.1 z.2.2.2.2.1 z.2.2.2.2.2.1 z.2.2.2.2.2.2 a_price a_heap a_heapPlace a_group a_badGroup a_cameBy a_table a_table2 a_byCount) (fun z => qx_I A fr to c s (fun _ => False) z.1 z.2.1 z.2.2.1 z.2.2.2.1 z.2.2.2.2.1 z.2.2.2.2.2.1 z.2.2.2.2.2.2 ∧ ∀ p, p < 7 → 400 * (qx_m z.2.2.2.2.1 z.2.1 : Int) - 45200 ≤ (z.2.2.1 p).toInt) (fun z => qx_m z.2.2.2.2.1 z.2.1) ?_ (0, 1, d0, l0, tm0, upd a_queue 0 (nI s), upd qd0 s 1) ⟨hinit, fun p hp => ?_⟩
    · intro n z hI ih
      obtain ⟨first, size, d, l, tm, qu, qd⟩ := z
      obtain ⟨hI, hb⟩ := hI
      have hI : qx_I A fr to c s (fun _ => False) first size d l tm qu qd := hI
      have hb : ∀ p, p < 7 → 400 * (qx_m tm size : Int) - 45200 ≤ (d p).toInt := hb
      obtain ⟨hf8, hs7⟩ := qx_sz hI
      refine pk_le size 0 (fun hz => ?_) (fun hz => ?_)
      · obtain rfl : size = 0 := by omega
        refine xs_writeFrom hs fun f hf1 hf2 => h d l tm qu qd f (fun t ht => ?_) hf2
        rw [hf1 t ht]; exact qx_fin hG hw hs hI ht
      · obtain ⟨size, rfl⟩ : ∃ m, size = m + 1 := ⟨size - 1, by omega⟩
        obtain ⟨u, hu, _, equ, hJ⟩ := qx_pop hw hf hI
        have cf : (nI first).toNatClampNeg = first := nI_clamp (by omega)
        have cu : (nI u).toNatClampNeg = u := nI_clamp (by omega)
        refine And.intro (vp_in_nI hf8 (by decide)) (nm_r (e' := nI u) (by rw [cf]; exact equ) (nm_r (e' := nI ((first + 1) % 8)) (by rw [nI_1]; exact pk_andN (by omega) 3 (by decide)) (nm_r (pk_m1 size) (And.intro (vp_in_nI hu (by decide)) (nm_r (e' := upd qd u 0) (up_i rfl (by omega) nb_b0) ?_)))))
        have hM : qx_m tm (size + 1) = qx_m tm size + 1 := by unfold qx_m; omega
        refine loop_0 (σ := Nat × (Nat → Int32) × (Nat → Int32) × (Nat → Int32) × (Nat → Int32) × (Nat → Int32)) (fun n' k z => wX_goByQueue_85 post (wX_goByQueue_52 post (nI s) n) (nI s) (nI ((first + 1) % 8)) (nI u) n' (nI z.1) (nI k) f_present f_heapSize f_top f_bottom a_fromOf a_toOf a_weightOf a_found a_kept z.2.1 z.2.2.1 z.2.2.2.1 z.2.2.2.2.1 z.2.2.2.2.2 a_price a_heap a_heapPlace a_group a_badGroup a_cameBy a_table a_table2 a_byCount) (fun k z => qx_I A fr to c s (fun j => fr j = u ∧ k ≤ j) ((first + 1) % 8) z.1 z.2.1 z.2.2.1 z.2.2.2.1 z.2.2.2.2.1 z.2.2.2.2.2 ∧ (∀ p, p < 7 → 400 * (qx_m tm (size + 1) : Int) - 45200 - 20 * k ≤ (z.2.1 p).toInt) ∧ qx_m z.2.2.2.1 z.1 ≤ qx_m tm size) 20 (size, d, l, tm, qu, upd qd u 0) ⟨hJ, fun p hp => by have := hb p hp; show 400 * (qx_m tm (size + 1) : Int) - 45200 - 20 * ((0 : Nat) : Int) ≤ (d p).toInt; omega, Nat.le_refl _⟩ ?_ ?_
        · intro n' z hI'
          obtain ⟨size', d', l', tm', qu', qd'⟩ := z
          obtain ⟨g1, g2, g3⟩ := hI'
          have g3' : qx_m tm' size' ≤ qx_m tm size := g3
          have g2' : ∀ p, p < 7 → 400 * (qx_m tm (size + 1) : Int) - 45200 - 20 * 20 ≤ (d' p).toInt := g2
          refine br_t (nI_le (Nat.le_refl 20) (by decide)) (ih ((first + 1) % 8, size', d', l', tm', qu', qd') ⟨qx_done g1, fun p hp => ?_⟩ ?_)
          · have := g2' p hp
            show 400 * (qx_m tm' size' : Int) - 45200 ≤ (d' p).toInt
            omega
          · show qx_m tm' size' < qx_m tm (size + 1)
            omega
        · intro n' k z hk hI' ih'
          obtain ⟨size', d', l', tm', qu', qd'⟩ := z
          obtain ⟨g1, g2, g3⟩ := hI'
          have g1 : qx_I A fr to c s (fun j => fr j = u ∧ k ≤ j) ((first + 1) % 8) size' d' l' tm' qu' qd' := g1
          have g2 : ∀ p, p < 7 → 400 * (qx_m tm (size + 1) : Int) - 45200 - 20 * k ≤ (d' p).toInt := g2
          have g3 : qx_m tm' size' ≤ qx_m tm size := g3
          have hft := hf k hk
          have hck := xg_c hg hk
          obtain ⟨_, hs7'⟩ := qx_sz g1
          have cv : (nI (to k)).toNatClampNeg = to k := nI_clamp (by omega)
          have same : (A k → fr k = u → l' u = 0 → l' (to k) = 0 → 1048576 ≤ (d' u).toInt ∨ (d' (to k)).toInt ≤ (d' u).toInt + c k) → ∀ x5 : Int32, x5 = nI k + 1 → wX_goByQueue_85 post (wX_goByQueue_52 post (nI s) n) (nI s) (nI ((first + 1) % 8)) (nI u) n' (nI size') x5 f_present f_heapSize f_top f_bottom a_fromOf a_toOf a_weightOf a_found a_kept d' l' tm' qu' qd' a_price a_heap a_heapPlace a_group a_badGroup a_cameBy a_table a_table2 a_byCount := by
            intro hn
            exact nm_r (nI_1 k) (ih' (size', d', l', tm', qu', qd') ⟨qx_no hw hf hk g1 hn, fun p hp => by have := g2 p hp; show 400 * (qx_m tm (size + 1) : Int) - 45200 - 20 * ((k + 1 : Nat) : Int) ≤ (d' p).toInt; omega, g3⟩)
          show wX_goByQueue_85 post (wX_goByQueue_52 post (nI s) n) (nI s) (nI ((first + 1) % 8)) (nI u) (n' + 1) (nI size') (nI k) f_present f_heapSize f_top f_bottom a_fromOf a_toOf a_weightOf a_found a_kept d' l' tm' qu' qd' a_price a_heap a_heapPlace a_group a_badGroup a_cameBy a_table a_table2 a_byCount
          refine br_f (nI_ge hk (by decide)) (And.intro (vp_in_nI hk (by decide)) (nm_r (xg_t hg hk) ?_))
          refine xs_has hg hk (fun hA => br_f (by decide) ?_) (fun hA => br_t rfl (same fun z => absurd z hA))
          refine And.intro (vp_in_nI hk (by decide)) ?_
          refine pk_eq (fr k) u (fun efu => ?_) (fun efu => same fun _ z => absurd z efu) (xg_f hg hk) rfl
          refine And.intro (vp_in_nI hu (by decide)) ?_
          rw [cu, cv]
          refine br_c (fun hlu => ?_) (fun hlu => same fun _ _ z => absurd z hlu)
          refine And.intro (vp_in_nI hft.2 (by decide)) ?_
          refine br_c (fun hlv => ?_) (fun hlv => same fun _ _ _ z => absurd z hlv)
          refine xs_relax hg hk (fun p hp => ⟨by have := g2 p hp; omega, qx_ub g1 p hp⟩) (fun c1 c2 x hx => ?_) (fun hn => br_t rfl (same fun _ _ _ _ => by rw [efu] at hn; exact hn))
          rw [efu] at c1 c2 hx
          have hlow' : ∀ p, p < 7 → 400 * (qx_m tm (size + 1) : Int) - 45200 - 20 * ((k + 1 : Nat) : Int) ≤ (upd d' (to k) x p).toInt := by
            intro p hp
            by_cases e : p = to k
            · have := g2 u hu
              rw [e, tb_us, hx]; omega
            · have := g2 p hp
              rw [tb_un e]; omega
          refine br_f (by decide) (And.intro (vp_in_nI hft.2 (by decide)) ?_)
          refine br_c (fun hqv => ?_) (fun hqv => nm_r (nI_1 k) (ih' (size', upd d' (to k) x, l', tm', qu', qd') ⟨qx_a hG hs hf hk g1 hA efu hlv c1 c2 hx hqv, hlow', g3⟩))
          obtain ⟨T, hT8, eT, hT7⟩ := qx_t g1 hft.2
          have hT := hT7 hlv
          have eidx : (nI ((first + 1) % 8) + nI size') &&& 7 = nI (((first + 1) % 8 + size') % 8) := by rw [nI_add]; exact pk_andN (by omega) 3 (by decide)
          refine And.intro (pk_in (((first + 1) % 8 + size') % 8) 8 (by omega) eidx (by decide)) (nm_r (e' := upd qu' (((first + 1) % 8 + size') % 8) (nI (to k))) (up_i eidx (by omega) (nb_by _ (by omega))) (nm_r (nI_1 size') (And.intro (vp_in_nI hft.2 (by decide)) (nm_r (e' := upd qd' (to k) 1) (by rw [nb_b1]) ?_))))
          refine xs_countTime hg hft.2 hT8 eT fun l'' hl'' => ?_
          refine nm_r (nI_1 k) (ih' (size' + 1, upd d' (to k) x, l'', upd tm' (to k) (nI (T + 1)), upd qu' (((first + 1) % 8 + size') % 8) (nI (to k)), upd qd' (to k) 1) ⟨qx_b hG hs hf hk g1 hA efu hlv c1 c2 hx hqv (by omega) eT hl'', hlow', ?_⟩)
          have := qx_mb (size := size') hft.2 hT eT
          show qx_m (upd tm' (to k) (nI (T + 1))) (size' + 1) ≤ qx_m tm size
          omega
    · show 400 * (qx_m tm0 1 : Int) - 45200 ≤ (d0 p).toInt
      rw [hm0, hd0 p hp]
      by_cases e : p = s
      · rw [if_pos e]; decide
      · rw [if_neg e]; decide
  · intro n i z hi hz ih
    obtain ⟨tm0, qd0⟩ := z
    have hz1 : ∀ v, v < i → tm0 v = 0 := hz.1
    have hz2 : ∀ v, v < i → qd0 v = 0 := hz.2
    refine br_f (nI_ge hi (by decide)) (And.intro (vp_in_nI hi (by decide)) (nm_r (e' := upd tm0 i 0) (up_i rfl (by omega) (by rw [vp_nar_byte]; decide)) (And.intro (vp_in_nI hi (by decide)) (nm_r (e' := upd qd0 i 0) (up_i rfl (by omega) nb_b0) (nm_r (nI_1 i) (ih (upd tm0 i 0, upd qd0 i 0) ⟨fun v hv => ?_, fun v hv => ?_⟩))))))
    · show upd tm0 i 0 v = 0
      by_cases e : v = i
      · rw [e, pk_us]
      · rw [pk_un e]; exact hz1 v (by omega)
    · show upd qd0 i 0 v = 0
      by_cases e : v = i
      · rw [e, pk_us]
      · rw [pk_un e]; exact hz2 v (by omega)
end QW
end
section
/-! engine 2: groups and prices -/
def gp_M (G : Nat → Nat → Int → Prop) (a b : Nat) : Prop := wk_R G a b ∧ wk_R G b a
/-- m is the least point of p's group -/
def gp_L (G : Nat → Nat → Int → Prop) (p m : Nat) : Prop := m ≤ p ∧ gp_M G p m ∧ ∀ q, q < m → ¬ gp_M G p q
section GP
variable {G : Nat → Nat → Int → Prop}
theorem gp_s {a b : Nat} (h : gp_M G a b) : gp_M G b a := ⟨h.2, h.1⟩
theorem gp_t {a b c : Nat} (h : gp_M G a b) (h' : gp_M G b c) : gp_M G a c := ⟨rc_t h.1 h'.1, rc_t h'.2 h.2⟩
theorem gp_eq {p q m m' : Nat} (h : gp_L G p m) (h' : gp_L G q m') : m = m' ↔ gp_M G p q := by
  refine ⟨fun e => ?_, fun e => ?_⟩
  · subst e; exact gp_t h.2.1 (gp_s h'.2.1)
  · have h1 : ¬ m < m' := fun z => h'.2.2 m z (gp_t (gp_s e) h.2.1)
    have h2 : ¬ m' < m := fun z => h.2.2 m' z (gp_t e h'.2.1)
    omega
end GP
section GQ
variable {A : Nat → Prop} {fr to : Nat → Nat} {c : Nat → Int}
/-- inside arcs lead there and back -/
theorem gi_rev {B : Nat → Prop} (hB : ∀ k, k < 20 → B k → A k ∧ gp_M (ga_G A fr to c) (fr k) (to k)) : ∀ (n a b : Nat) (w : Int), wk_W (ga_G B fr to c) n a b w → gp_M (ga_G A fr to c) a b := by
  intro n
  induction n with
  | zero => intro a b w h; obtain ⟨rfl, _⟩ := h; exact ⟨rc_0 a, rc_0 a⟩
  | succ n ih =>
    intro a b w h
    obtain ⟨d, w1, w2, h1, ⟨k, hk, hb, rfl, rfl, rfl⟩, rfl⟩ := h
    exact gp_t (ih _ _ _ h1) (hB k hk hb).2
theorem ga_mono {B : Nat → Prop} (hB : ∀ k, k < 20 → B k → A k) : ∀ a b w, ga_G B fr to c a b w → ga_G A fr to c a b w := by
  intro a b w ⟨k, hk, hb, e⟩
  exact ⟨k, hk, hB k hk hb, e⟩
theorem rc_mono {G G' : Nat → Nat → Int → Prop} (hG : ∀ a b w, G a b w → G' a b w) {a b : Nat} (h : wk_R G a b) : wk_R G' a b := by
  obtain ⟨n, w, h⟩ := h
  exact ⟨n, w, wk_mono hG _ _ _ _ h⟩
theorem gi_nl (hG : ∀ a b w, ga_G A fr to c a b w → a < 7 ∧ b < 7) {B : Nat → Prop} (hB : ∀ k, k < 20 → B k → A k ∧ gp_M (ga_G A fr to c) (fr k) (to k)) {D0 : Nat → Int} (h0 : bf_I B fr to c (fun a => a < 7) 7 0 D0) : ∀ q, q < 7 → ¬ wk_L (ga_G A fr to c) q q → ∀ n a w, a < 7 → wk_W (ga_G B fr to c) n a q w → D0 q ≤ w := by
  intro q hq hl n a w ha hW
  have hm := ga_mono (fr := fr) (to := to) (c := c) (fun k hk hb => (hB k hk hb).1)
  have hl' : ¬ wk_L (ga_G B fr to c) a q := by
    intro ⟨d, n', w', r1, h1, hneg, ⟨n2, w2, h2⟩⟩
    have g := gi_rev hB _ _ _ _ h2
    exact hl ⟨d, n', w', g.2, wk_mono hm _ _ _ _ h1, hneg, g.1⟩
  obtain ⟨n', w', h6, _, hW', hle⟩ := wk_sn (fun a b w g => hG a b w (hm a b w g)) ha hl' hW
  have := h0.1 n' a q w' (by omega) ha hW'
  omega
theorem bf_0a {D : Nat → Int} (hD : ∀ p, p < 7 → D p = 0) : bf_I A fr to c (fun a => a < 7) 0 0 D := by
  refine ⟨?_, fun j n a w hj => absurd hj (Nat.not_lt_zero j), ?_⟩
  · intro n a b w hn ha hW
    obtain rfl : n = 0 := by omega
    obtain ⟨rfl, rfl⟩ := hW
    rw [hD a ha]
    omega
  · intro b hb hlt
    rw [hD b hb]
    exact ⟨0, b, by omega, hb, wk_0 b⟩
theorem bf_le0 {r k : Nat} {D : Nat → Int} (h : bf_I A fr to c (fun a => a < 7) r k D) {b : Nat} (hb : b < 7) : D b ≤ 0 := h.1 0 b b 0 (by omega) hb (wk_0 b)
theorem gi_bad {B : Nat → Prop} (hB : ∀ k, k < 20 → (B k ↔ A k ∧ gp_M (ga_G A fr to c) (fr k) (to k))) (hft : ∀ k, k < 20 → fr k < 7 ∧ to k < 7) {D0 D : Nat → Int} {M : Nat → Prop} (h0 : bf_I B fr to c (fun a => a < 7) 7 0 D0) (h : lp_I B fr to c (fun a => a < 7) (fun q => wk_L (ga_G A fr to c) q q) D0 20 D M) (hM : ∀ p q, p < 7 → q < 7 → gp_M (ga_G A fr to c) p q → M p → M q) {p : Nat} (hp : p < 7) : M p ↔ wk_L (ga_G A fr to c) p p := by
  refine ⟨h.2.2.2.2 p hp, fun hl => Classical.byContradiction fun hn => ?_⟩
  refine pt_lo (D := D0) ?_ hl
  intro a b w ⟨j, hj, hA, e1, e2, e3⟩ ra rb
  subst e1 e2 e3
  have g : ga_G A fr to c (fr j) (to j) (c j) := ga_i hj hA
  have m1 : gp_M (ga_G A fr to c) (fr j) p := ⟨rc_h g rb, ra⟩
  have m2 : gp_M (ga_G A fr to c) (to j) p := ⟨rb, rc_s ra g⟩
  have hBj := (hB j hj).mpr ⟨hA, gp_t m1 (gp_s m2)⟩
  have hf := hft j hj
  have := bf_le0 h0 hf.1
  rcases h.2.2.1 j hj hBj (fun z => hn (hM _ _ hf.1 hp m1 z)) (fun z => hn (hM _ _ hf.2 hp m2 z)) with z | z
  · omega
  · exact z
/-- the good arcs have no ring below 0, and their prices hold -/
theorem gg_pr (hG : ∀ a b w, ga_G A fr to c a b w → a < 7 ∧ b < 7) {B : Nat → Prop} (hB : ∀ k, k < 20 → (B k ↔ A k ∧ ¬ wk_L (ga_G A fr to c) (fr k) (fr k) ∧ ¬ wk_L (ga_G A fr to c) (to k) (to k))) {D : Nat → Int} (h : bf_I B fr to c (fun a => a < 7) 7 0 D) {k : Nat} (hk : k < 20) (hb : B k) : D (to k) ≤ D (fr k) + c k := by
  have hm := ga_mono (fr := fr) (to := to) (c := c) (fun k hk hb => ((hB k hk).mp hb).1)
  have hG' := fun a b w g => hG a b w (hm a b w g)
  have g : ga_G B fr to c (fr k) (to k) (c k) := ga_i hk hb
  have h7 := hG' _ _ _ g
  have hle := bf_le0 h h7.1
  obtain ⟨n, a, _, ha, hW⟩ := h.2.2 (fr k) h7.1 (by omega)
  have hl : ¬ wk_L (ga_G B fr to c) a (fr k) := by
    intro ⟨d, n', w', r1, h1, hneg, r2⟩
    match n', h1 with
    | 0, h1 => have := h1.2; omega
    | n' + 1, h1 =>
      obtain ⟨e, w1, w2, hx, ⟨j, hj, hbj, e1, e2, e3⟩, ew⟩ := h1
      subst e2
      have hW1 : wk_W (ga_G B fr to c) (n' + 1) (to j) (to j) w' := ⟨e, w1, w2, hx, ⟨j, hj, hbj, e1, rfl, e3⟩, ew⟩
      exact ((hB j hj).mp hbj).2.2 ⟨to j, n' + 1, w', rc_0 _, wk_mono hm _ _ _ _ hW1, hneg, rc_0 _⟩
  obtain ⟨n', w', h6, _, hW', hle'⟩ := wk_sn hG' ha hl hW
  have := h.1 (n' + 1) a (to k) (w' + c k) (by omega) ha (wk_s hW' g)
  omega
end GQ
theorem nb_by' {p : Nat} (hp : p < 128) : vp_nar .byte (nI p) = nI p := by
  rw [vp_nar_byte]
  exact (by decide +kernel : ∀ p, p < 128 → (nI p).toInt8.toInt32 = nI p) p hp
section GX
variable {f_present f_heapSize f_top f_bottom : Int32} {a_fromOf a_toOf a_weightOf a_found a_kept a_dist a_isLow a_times a_queue a_queued a_price a_heap a_heapPlace a_group a_badGroup a_cameBy a_table a_table2 a_byCount : Nat → Int32} {A : Nat → Prop} {fr to : Nat → Nat} {c : Nat → Int}
/-- groups and bad groups as the component holds them -/
def gd_I (G : Nat → Nat → Int → Prop) (gr bad : Nat → Int32) : Prop := ∀ p, p < 7 → ∃ m, m < 7 ∧ gr p = nI m ∧ (bad m ≠ 0 ↔ wk_L G p p)
theorem xs_sp1 (hg : xg_I f_present a_fromOf a_toOf a_weightOf A fr to c) {post : Int32 → Prop} {p : Nat} (hp : p < 7) (h : ∀ r, (∀ i, bt r i = true ↔ i < 7 ∧ wk_R (ga_G A fr to c) p i) → post r) : wpX_spread post (f_present, f_heapSize, f_top, f_bottom, a_fromOf, a_toOf, a_weightOf, a_found, a_kept, a_dist, a_isLow, a_times, a_queue, a_queued, a_price, a_heap, a_heapPlace, a_group, a_badGroup, a_cameBy, a_table, a_table2, a_byCount) ((1 : Int32) <<< (nI p &&& 31)) := by
  refine xs_spread hg (fun i hi => by rw [(bs_i (by omega) i).mp hi]; exact hp) fun r hr => h r fun i => ?_
  rw [hr i]
  refine ⟨fun ⟨a, q, hq, b⟩ => ⟨a, ?_⟩, fun ⟨a, b⟩ => ⟨a, p, (bs_i (by omega) p).mpr rfl, b⟩⟩
  rw [(bs_i (by omega) q).mp hq] at b; exact b
theorem xs_isGood {G : Nat → Nat → Int → Prop} (hd : gd_I G a_group a_badGroup) {post : Int32 → Prop} {p : Nat} (hp : p < 7) (h1 : ¬ wk_L G p p → post 1) (h0 : wk_L G p p → post 0) : wpX_isGood post (f_present, f_heapSize, f_top, f_bottom, a_fromOf, a_toOf, a_weightOf, a_found, a_kept, a_dist, a_isLow, a_times, a_queue, a_queued, a_price, a_heap, a_heapPlace, a_group, a_badGroup, a_cameBy, a_table, a_table2, a_byCount) (nI p) := by
  unfold wpX_isGood
  obtain ⟨m, hm, e, hb⟩ := hd p hp
  have e' : a_group (nI p).toNatClampNeg = nI m := by rw [nI_clamp (by omega)]; exact e
  refine And.intro (vp_in_nI hp (by decide)) ?_
  rw [e', nI_clamp (by omega)]
  exact And.intro (vp_in_nI hm (by decide)) (br_c (fun z => h1 fun l => hb.mpr l z) (fun z => h0 (hb.mp z)))
/-- the groups alone -/
theorem xs_groups (hg : xg_I f_present a_fromOf a_toOf a_weightOf A fr to c) {post : SX → Prop} (h : ∀ (gr : Nat → Int32) (g : Nat → Nat), (∀ p, p < 7 → gr p = nI (g p)) → (∀ p, p < 7 → gp_L (ga_G A fr to c) p (g p)) → ∃ n138 : Nat, wX_findGroups_138 post f_present f_heapSize f_top f_bottom n138 0 a_fromOf a_toOf a_weightOf a_found a_kept a_dist a_isLow a_times a_queue a_queued a_price a_heap a_heapPlace gr a_badGroup a_cameBy a_table a_table2 a_byCount) (h0 : ∀ p, p < 7 → a_group p = nI p) : ∃ n38 : Nat, wX_findGroups_38 post f_present f_heapSize f_top f_bottom n38 0 a_fromOf a_toOf a_weightOf a_found a_kept a_dist a_isLow a_times a_queue a_queued a_price a_heap a_heapPlace a_group a_badGroup a_cameBy a_table a_table2 a_byCount := by
  refine loop_0 (fun n i gr => wX_findGroups_38 post f_present f_heapSize f_top f_bottom n (nI i) a_fromOf a_toOf a_weightOf a_found a_kept a_dist a_isLow a_times a_queue a_queued a_price a_heap a_heapPlace gr a_badGroup a_cameBy a_table a_table2 a_byCount) (fun i gr => ∃ g : Nat → Nat, (∀ p, p < 7 → gr p = nI (g p)) ∧ (∀ p, p < i → gp_L (ga_G A fr to c) p (g p)) ∧ (∀ p, i ≤ p → g p = p)) 7 a_group ⟨fun p => p, h0, fun p hp => absurd hp (Nat.not_lt_zero p), fun p _ => rfl⟩ ?_ ?_
  · intro n gr ⟨g, h1, h2, _⟩
    exact br_t (nI_le (Nat.le_refl 7) (by decide)) (h gr g h1 h2)
  · intro n p gr hp ⟨g, h1, h2, h3⟩ ih
    have cp : (nI p).toNatClampNeg = p := nI_clamp (by omega)
    refine br_f (nI_ge hp (by decide)) ?_
    refine xs_sp1 hg hp fun r hr => ?_
    have key := pk_loop (fun n' q gr => wX_findGroups_54 post (wX_findGroups_38 post f_present f_heapSize f_top f_bottom n) (nI p) r f_present f_heapSize f_top f_bottom n' (nI q) a_fromOf a_toOf a_weightOf a_found a_kept a_dist a_isLow a_times a_queue a_queued a_price a_heap a_heapPlace gr a_badGroup a_cameBy a_table a_table2 a_byCount) (fun q gr => ∃ g : Nat → Nat, (∀ p, p < 7 → gr p = nI (g p)) ∧ (∀ p', p' < p → gp_L (ga_G A fr to c) p' (g p')) ∧ (∀ p', p + 1 ≤ p' → g p' = p') ∧ ((g p = p ∧ ∀ q', q' < q → ¬ gp_M (ga_G A fr to c) p q') ∨ (g p < q ∧ gp_M (ga_G A fr to c) p (g p) ∧ ∀ q', q' < g p → ¬ gp_M (ga_G A fr to c) p q'))) p 0 gr (by omega) ⟨g, h1, h2, fun p' hp' => h3 p' (by omega), Or.inl ⟨h3 p (by omega), fun q' hq' => absurd hq' (Nat.not_lt_zero q')⟩⟩ ?_ ?_
    · exact key
    · intro n' gr' ⟨g', k1, k2, k3, k4⟩
      refine br_t (nI_le (Nat.le_refl p) (by omega)) (nm_r (nI_1 p) (ih gr' ⟨g', k1, ?_, k3⟩))
      intro p' hp'
      by_cases e : p' = p
      · subst e
        rcases k4 with ⟨e1, e2⟩ | ⟨e1, e2, e3⟩
        · rw [e1]; exact ⟨Nat.le_refl _, ⟨rc_0 _, rc_0 _⟩, e2⟩
        · exact ⟨by omega, e2, e3⟩
      · exact k2 p' (by omega)
    · intro n' q gr' hq ⟨g', k1, k2, k3, k4⟩ ih'
      have cq : (nI q).toNatClampNeg = q := nI_clamp (by omega)
      have hgp7 : g' p < 7 := by
        rcases k4 with ⟨e1, _⟩ | ⟨e1, _⟩ <;> omega
      have same : ¬ (gp_M (ga_G A fr to c) p q ∧ g' p = p) → ∀ gr2 : Nat → Int32, gr2 = upd gr' (nI p).toNatClampNeg (vp_nar .byte (gr' (nI p).toNatClampNeg)) → ∀ x3 : Int32, x3 = nI q + 1 → wX_findGroups_54 post (wX_findGroups_38 post f_present f_heapSize f_top f_bottom n) (nI p) r f_present f_heapSize f_top f_bottom n' x3 a_fromOf a_toOf a_weightOf a_found a_kept a_dist a_isLow a_times a_queue a_queued a_price a_heap a_heapPlace gr2 a_badGroup a_cameBy a_table a_table2 a_byCount := by
        intro hn
        refine nm_r (e' := gr') ?_ (nm_r (nI_1 q) (ih' gr' ⟨g', k1, k2, k3, ?_⟩))
        · rw [cp, k1 p hp, nb_by' (by omega), ← k1 p hp, up_self]
        · rcases k4 with ⟨e1, e2⟩ | ⟨e1, e2, e3⟩
          · refine Or.inl ⟨e1, fun q' hq' => ?_⟩
            by_cases e : q' = q
            · subst e; exact fun z => hn ⟨z, e1⟩
            · exact e2 q' (by omega)
          · exact Or.inr ⟨by omega, e2, e3⟩
      have no : ¬ gp_M (ga_G A fr to c) p q → wX_findGroups_85 post (wX_findGroups_38 post f_present f_heapSize f_top f_bottom n) (wX_findGroups_54 post (wX_findGroups_38 post f_present f_heapSize f_top f_bottom n) (nI p) r f_present f_heapSize f_top f_bottom n') (nI p) r (nI q) f_present f_heapSize f_top f_bottom a_fromOf a_toOf a_weightOf a_found a_kept a_dist a_isLow a_times a_queue a_queued a_price a_heap a_heapPlace gr' a_badGroup a_cameBy a_table a_table2 a_byCount := fun hn =>
        br_t rfl (And.intro (vp_in_nI hp (by decide)) (And.intro (vp_in_nI hp (by decide)) (same fun z => hn z.1)))
      refine br_f (nI_ge hq (by omega)) (bs_br q (fun hb => no fun z => hb ((hr q).mpr ⟨by omega, z.1⟩)) (fun hb => ?_) rfl (by omega))
      refine xs_sp1 hg (by omega) fun r2 hr2 => ?_
      refine bs_br p (fun hb2 => no fun z => hb2 ((hr2 p).mpr ⟨hp, z.2⟩)) (fun hb2 => ?_) rfl (by omega)
      have hM : gp_M (ga_G A fr to c) p q := ⟨((hr q).mp hb).2, ((hr2 p).mp hb2).2⟩
      refine br_f (by decide) (And.intro (vp_in_nI hp (by decide)) ?_)
      refine pk_eq (g' p) p (fun e => ?_) (fun e => ?_) (by rw [cp]; exact k1 p hp) rfl
      · have hno : ∀ q', q' < q → ¬ gp_M (ga_G A fr to c) p q' := by
          rcases k4 with ⟨_, e2⟩ | ⟨e1, _⟩
          · exact e2
          · omega
        have hLq := k2 q hq
        have egq : g' q = q := by
          have : ¬ g' q < q := fun z => hno _ z (gp_t hM hLq.2.1)
          have := hLq.1
          omega
        refine And.intro (vp_in_nI (by omega) (by decide)) (And.intro (vp_in_nI hp (by decide)) (nm_r (e' := upd gr' p (nI q)) ?_ (nm_r (nI_1 q) (ih' _ ⟨fun j => if j = p then q else g' j, ?_, ?_, ?_, ?_⟩))))
        · refine up_i rfl (by omega) ?_
          rw [cq, k1 q (by omega), egq]; exact nb_by' (by omega)
        · intro j hj
          show upd gr' p (nI q) j = nI (if j = p then q else g' j)
          by_cases ej : j = p
          · rw [if_pos ej, ej, pk_us]
          · rw [if_neg ej, pk_un ej]; exact k1 j hj
        · intro j hj
          show gp_L _ j (if j = p then q else g' j)
          rw [if_neg (by omega)]; exact k2 j hj
        · intro j hj
          show (if j = p then q else g' j) = j
          rw [if_neg (by omega)]; exact k3 j hj
        · refine Or.inr ?_
          show (if p = p then q else g' p) < q + 1 ∧ gp_M _ p (if p = p then q else g' p) ∧ ∀ q', q' < (if p = p then q else g' p) → _
          rw [if_pos rfl]
          exact ⟨by omega, hM, hno⟩
      · exact And.intro (vp_in_nI hp (by decide)) (And.intro (vp_in_nI hp (by decide)) (same fun z => e z.2))
end GX
end
section
/-! engine 2: bad groups and prices over the component's arrays -/
section PX
variable {f_present f_heapSize f_top f_bottom : Int32} {a_fromOf a_toOf a_weightOf a_found a_kept a_dist a_isLow a_times a_queue a_queued a_price a_heap a_heapPlace a_group a_badGroup a_cameBy a_table a_table2 a_byCount : Nat → Int32} {A : Nat → Prop} {fr to : Nat → Nat} {c : Nat → Int}
theorem xs_g190 (hg : xg_I f_present a_fromOf a_toOf a_weightOf A fr to c) {post : SX → Prop} {J138 J146 : Int32 → (Nat → Int32) → (Nat → Int32) → (Nat → Int32) → (Nat → Int32) → (Nat → Int32) → (Nat → Int32) → (Nat → Int32) → (Nat → Int32) → (Nat → Int32) → (Nat → Int32) → (Nat → Int32) → (Nat → Int32) → (Nat → Int32) → (Nat → Int32) → (Nat → Int32) → (Nat → Int32) → (Nat → Int32) → (Nat → Int32) → (Nat → Int32) → Prop} {g : Nat → Nat} {k r : Nat} (hk : k < 20) (hr : r ≤ 7) (hgr : ∀ p, p < 7 → a_group p = nI (g p) ∧ g p < 7) (hp : ∀ p, p < 7 → -1000000 ≤ (a_price p).toInt ∧ (a_price p).toInt ≤ 0)
    (hno : (a_price (to k)).toInt ≤ (a_price (fr k)).toInt + c k → J146 (nI (k + 1)) a_fromOf a_toOf a_weightOf a_found a_kept a_dist a_isLow a_times a_queue a_queued a_price a_heap a_heapPlace a_group a_badGroup a_cameBy a_table a_table2 a_byCount)
    (hyes : (a_price (fr k)).toInt + c k < (a_price (to k)).toInt → ∀ (x : Int32) (bd : Nat → Int32), x.toInt = (a_price (fr k)).toInt + c k → (∀ m, bd m ≠ 0 ↔ a_badGroup m ≠ 0 ∨ (r = 7 ∧ m = g (to k))) → J146 (nI (k + 1)) a_fromOf a_toOf a_weightOf a_found a_kept a_dist a_isLow a_times a_queue a_queued (upd a_price (to k) x) a_heap a_heapPlace a_group bd a_cameBy a_table a_table2 a_byCount) : wX_findGroups_190 post J138 J146 (nI r) (nI k) 1 f_present f_heapSize f_top f_bottom a_fromOf a_toOf a_weightOf a_found a_kept a_dist a_isLow a_times a_queue a_queued a_price a_heap a_heapPlace a_group a_badGroup a_cameBy a_table a_table2 a_byCount := by
  have hf := xg_f7 hg hk
  have ht := xg_t7 hg hk
  have hc := xg_c hg hk
  have hw := xg_w hg hk
  have cf : (nI (fr k)).toNatClampNeg = fr k := nI_clamp (by omega)
  have ct : (nI (to k)).toNatClampNeg = to k := nI_clamp (by omega)
  have h0 := hp _ hf
  have hsum : (a_price (fr k) + a_weightOf (nI k).toNatClampNeg).toInt = (a_price (fr k)).toInt + c k := ia_add rfl hw (by omega) (by omega)
  have ik := vp_in_nI hk (show 20 < 2 ^ 31 by decide)
  have if7 := vp_in_nI hf (show 7 < 2 ^ 31 by decide)
  have it7 := vp_in_nI ht (show 7 < 2 ^ 31 by decide)
  have eg := hgr _ ht
  have ig7 := vp_in_nI eg.2 (show 7 < 2 ^ 31 by decide)
  have cg : (nI (g (to k))).toNatClampNeg = g (to k) := nI_clamp (by omega)
  unfold wX_findGroups_190
  rw [xg_f hg hk, xg_t hg hk, cf, ct, eg.1, cg]
  refine br_f (by decide) (And.intro ik (And.intro if7 (And.intro ik (And.intro ik (And.intro it7 ?_)))))
  refine ib_le (a_price (to k)).toInt ((a_price (fr k)).toInt + c k) (fun z => nm_r (nI_1 k) (hno z)) (fun z => ?_) rfl hsum
  have key := hyes z (a_price (fr k) + a_weightOf (nI k).toNatClampNeg)
  refine And.intro ik (And.intro ik (And.intro if7 (And.intro ik (And.intro it7 (nm_e (And.intro ik (And.intro it7 (And.intro ik (And.intro it7 (And.intro ig7 ?_))))))))))
  refine br_c (fun hb => pk_eq r 7 (fun e => ?_) (fun e => ?_)) (fun hb => ?_)
  · refine And.intro ig7 (nm_r (e' := upd a_badGroup (g (to k)) 1) (by rw [nb_b1]) (nm_r (nI_1 k) (key _ hsum fun m => ?_)))
    by_cases em : m = g (to k)
    · rw [em, pk_us]; exact ⟨fun _ => Or.inr ⟨e, rfl⟩, fun _ => by decide⟩
    · rw [pk_un em]; exact ⟨Or.inl, fun y => y.elim id (fun y => absurd y.2 em)⟩
  · refine And.intro ig7 (nm_r (e' := upd a_badGroup (g (to k)) 0) (by rw [nb_b0]) (nm_r (nI_1 k) (key _ hsum fun m => ?_)))
    by_cases em : m = g (to k)
    · rw [em, pk_us]; exact ⟨fun y => absurd rfl y, fun y => y.elim (fun y => absurd hb y) (fun y => absurd y.1 e)⟩
    · rw [pk_un em]; exact ⟨Or.inl, fun y => y.elim id (fun y => absurd y.2 em)⟩
  · refine And.intro ig7 (nm_r (e' := upd a_badGroup (g (to k)) 1) (by rw [nb_b1]) (nm_r (nI_1 k) (key _ hsum fun m => ?_)))
    by_cases em : m = g (to k)
    · rw [em, pk_us]; exact ⟨fun _ => Or.inl hb, fun _ => by decide⟩
    · rw [pk_un em]; exact ⟨Or.inl, fun y => y.elim id (fun y => absurd y.2 em)⟩
/-- one arc of a round over the inside arcs -/
theorem xs_g146 (hg : xg_I f_present a_fromOf a_toOf a_weightOf A fr to c) {post : SX → Prop} {J138 : Int32 → (Nat → Int32) → (Nat → Int32) → (Nat → Int32) → (Nat → Int32) → (Nat → Int32) → (Nat → Int32) → (Nat → Int32) → (Nat → Int32) → (Nat → Int32) → (Nat → Int32) → (Nat → Int32) → (Nat → Int32) → (Nat → Int32) → (Nat → Int32) → (Nat → Int32) → (Nat → Int32) → (Nat → Int32) → (Nat → Int32) → (Nat → Int32) → Prop} {g : Nat → Nat} {k r n : Nat} (hk : k < 20) (hr : r ≤ 7) (hgr : ∀ p, p < 7 → a_group p = nI (g p) ∧ g p < 7) (hp : ∀ p, p < 7 → -1000000 ≤ (a_price p).toInt ∧ (a_price p).toInt ≤ 0)
    (hno : (A k ∧ g (fr k) = g (to k) → (a_price (to k)).toInt ≤ (a_price (fr k)).toInt + c k) → wX_findGroups_146 post J138 (nI r) f_present f_heapSize f_top f_bottom n (nI (k + 1)) a_fromOf a_toOf a_weightOf a_found a_kept a_dist a_isLow a_times a_queue a_queued a_price a_heap a_heapPlace a_group a_badGroup a_cameBy a_table a_table2 a_byCount)
    (hyes : A k ∧ g (fr k) = g (to k) → (a_price (fr k)).toInt + c k < (a_price (to k)).toInt → ∀ (x : Int32) (bd : Nat → Int32), x.toInt = (a_price (fr k)).toInt + c k → (∀ m, bd m ≠ 0 ↔ a_badGroup m ≠ 0 ∨ (r = 7 ∧ m = g (to k))) → wX_findGroups_146 post J138 (nI r) f_present f_heapSize f_top f_bottom n (nI (k + 1)) a_fromOf a_toOf a_weightOf a_found a_kept a_dist a_isLow a_times a_queue a_queued (upd a_price (to k) x) a_heap a_heapPlace a_group bd a_cameBy a_table a_table2 a_byCount) : wX_findGroups_146 post J138 (nI r) f_present f_heapSize f_top f_bottom (n + 1) (nI k) a_fromOf a_toOf a_weightOf a_found a_kept a_dist a_isLow a_times a_queue a_queued a_price a_heap a_heapPlace a_group a_badGroup a_cameBy a_table a_table2 a_byCount := by
  have hf := xg_f7 hg hk
  have ht := xg_t7 hg hk
  have cf : (nI (fr k)).toNatClampNeg = fr k := nI_clamp (by omega)
  have ct : (nI (to k)).toNatClampNeg = to k := nI_clamp (by omega)
  have ik := vp_in_nI hk (show 20 < 2 ^ 31 by decide)
  have gf := hgr _ hf
  have gt := hgr _ ht
  refine br_f (nI_ge hk (by decide)) ?_
  refine xs_has hg hk (fun hA => br_f (by decide) ?_) (fun hA => br_t rfl (br_t rfl (nm_r (nI_1 k) (hno fun z => absurd z.1 hA))))
  refine And.intro ik (And.intro ?_ (And.intro ik (And.intro ?_ ?_)))
  · rw [xg_f hg hk]; exact vp_in_nI hf (by decide)
  · rw [xg_t hg hk]; exact vp_in_nI ht (by decide)
  · refine pk_eq (g (fr k)) (g (to k)) (fun e => ?_) (fun e => br_t rfl (nm_r (nI_1 k) (hno fun z => absurd z.2 e))) (by rw [xg_f hg hk, cf]; exact gf.1) (by rw [xg_t hg hk, ct]; exact gt.1)
    exact xs_g190 hg hk hr hgr hp (fun z => hno fun _ => z) (fun z x bd hx hb => hyes ⟨hA, e⟩ z x bd hx hb)
theorem xs_findGroups (hg : xg_I f_present a_fromOf a_toOf a_weightOf A fr to c) {post : SX → Prop} (h : ∀ pr gr bd : Nat → Int32, gd_I (ga_G A fr to c) gr bd → post (f_present, f_heapSize, f_top, f_bottom, a_fromOf, a_toOf, a_weightOf, a_found, a_kept, a_dist, a_isLow, a_times, a_queue, a_queued, pr, a_heap, a_heapPlace, gr, bd, a_cameBy, a_table, a_table2, a_byCount)) : wpX_findGroups post (f_present, f_heapSize, f_top, f_bottom, a_fromOf, a_toOf, a_weightOf, a_found, a_kept, a_dist, a_isLow, a_times, a_queue, a_queued, a_price, a_heap, a_heapPlace, a_group, a_badGroup, a_cameBy, a_table, a_table2, a_byCount) := by
  have hG := xg_7 hg
  have hw := xg_20 hg
  have hft : ∀ k, k < 20 → fr k < 7 ∧ to k < 7 := fun k hk => ⟨xg_f7 hg hk, xg_t7 hg hk⟩
  unfold wpX_findGroups
  refine loop_0 (σ := (Nat → Int32) × (Nat → Int32) × (Nat → Int32)) (fun n i z => wX_findGroups_2 post f_present f_heapSize f_top f_bottom n (nI i) a_fromOf a_toOf a_weightOf a_found a_kept a_dist a_isLow a_times a_queue a_queued z.1 a_heap a_heapPlace z.2.1 z.2.2 a_cameBy a_table a_table2 a_byCount) (fun i z => (∀ p, p < i → z.1 p = 0) ∧ (∀ p, p < i → z.2.1 p = nI p) ∧ (∀ p, p < i → z.2.2 p = 0)) 7 (a_price, a_group, a_badGroup) ⟨fun p hp => absurd hp (Nat.not_lt_zero p), fun p hp => absurd hp (Nat.not_lt_zero p), fun p hp => absurd hp (Nat.not_lt_zero p)⟩ ?_ ?_
  · intro n z hz
    obtain ⟨pr0, gr0, bd0⟩ := z
    obtain ⟨hp0, hg0, hb0⟩ := hz
    have hp0 : ∀ p, p < 7 → pr0 p = 0 := hp0
    have hg0 : ∀ p, p < 7 → gr0 p = nI p := hg0
    have hb0 : ∀ p, p < 7 → bd0 p = 0 := hb0
    refine br_t (nI_le (Nat.le_refl 7) (by decide)) ?_
    refine xs_groups hg (fun gr g hgr1 hgr2 => ?_) hg0
    have hgr : ∀ p, p < 7 → gr p = nI (g p) ∧ g p < 7 := fun p hp => ⟨hgr1 p hp, by have := (hgr2 p hp).1; omega⟩
    have hBM : ∀ k, k < 20 → (A k ∧ g (fr k) = g (to k) ↔ A k ∧ gp_M (ga_G A fr to c) (fr k) (to k)) := fun k hk => by
      rw [gp_eq (hgr2 _ (hft k hk).1) (hgr2 _ (hft k hk).2)]
    have hmono := ga_mono (A := A) (B := fun k => A k ∧ g (fr k) = g (to k)) (fr := fr) (to := to) (c := c) (fun k _ hb => hb.1)
    have hw' := fun a b w gg => hw a b w (hmono a b w gg)
    refine loop_0 (σ := (Nat → Int32) × (Nat → Int32)) (fun n i z => wX_findGroups_138 post f_present f_heapSize f_top f_bottom n (nI i) a_fromOf a_toOf a_weightOf a_found a_kept a_dist a_isLow a_times a_queue a_queued z.1 a_heap a_heapPlace gr z.2 a_cameBy a_table a_table2 a_byCount) (fun i z => (i ≤ 7 → bf_I (fun k => A k ∧ g (fr k) = g (to k)) fr to c (fun a => a < 7) i 0 (fun p => (z.1 p).toInt) ∧ ∀ p, p < 7 → z.2 p = 0) ∧ (i = 8 → ∀ p, p < 7 → (z.2 (g p) ≠ 0 ↔ wk_L (ga_G A fr to c) p p))) 8 (pr0, bd0) ⟨fun _ => ⟨bf_0a (fun p hp => by show (pr0 p).toInt = 0; rw [hp0 p hp]; decide), hb0⟩, fun z => by omega⟩ ?_ ?_
    · intro n z hz
      refine br_t (nI_lt (a := 7) (b := 8) (by omega) (by decide)) (h z.1 gr z.2 fun p hp => ⟨g p, (hgr p hp).2, (hgr p hp).1, hz.2 rfl p hp⟩)
    · intro n i z hi hz ih
      obtain ⟨pr, bd⟩ := z
      obtain ⟨h0, hb⟩ := hz.1 (by omega)
      have h0 : bf_I (fun k => A k ∧ g (fr k) = g (to k)) fr to c (fun a => a < 7) i 0 (fun p => (pr p).toInt) := h0
      have hb : ∀ p, p < 7 → bd p = 0 := hb
      refine br_f (nI_nlt (a := 7) (b := i) (by omega) (by decide)) ?_
      by_cases h7 : i = 7
      · subst h7
        refine loop_0 (σ := (Nat → Int32) × (Nat → Int32)) (fun n' k z => wX_findGroups_146 post (wX_findGroups_138 post f_present f_heapSize f_top f_bottom n) (nI 7) f_present f_heapSize f_top f_bottom n' (nI k) a_fromOf a_toOf a_weightOf a_found a_kept a_dist a_isLow a_times a_queue a_queued z.1 a_heap a_heapPlace gr z.2 a_cameBy a_table a_table2 a_byCount) (fun k z => lp_I (fun k => A k ∧ g (fr k) = g (to k)) fr to c (fun a => a < 7) (fun q => wk_L (ga_G A fr to c) q q) (fun p => (pr p).toInt) k (fun p => (z.1 p).toInt) (fun q => z.2 (g q) ≠ 0)) 20 (pr, bd) (lp_0 h0 fun q hq z => z (hb _ (hgr q hq).2)) ?_ ?_
        · intro n' z hz'
          refine br_t (nI_le (Nat.le_refl 20) (by decide)) (nm_r (nI_1 7) (ih z ⟨fun z => by omega, fun _ p hp => ?_⟩))
          refine gi_bad hBM hft h0 hz' (fun p q hp hq hm hz => ?_) hp
          have : g p = g q := (gp_eq (hgr2 p hp) (hgr2 q hq)).mpr hm
          rw [← this]; exact hz
        · intro n' k z hk hz' ih'
          obtain ⟨pr', bd'⟩ := z
          have hz' : lp_I (fun k => A k ∧ g (fr k) = g (to k)) fr to c (fun a => a < 7) (fun q => wk_L (ga_G A fr to c) q q) (fun p => (pr p).toInt) k (fun p => (pr' p).toInt) (fun q => bd' (g q) ≠ 0) := hz'
          have hr1 : ∀ p, p < 7 → -1000000 ≤ (pr' p).toInt ∧ (pr' p).toInt ≤ 0 := fun p hp => by
            have e1 := lp_rg hw' hz' (by omega) hp
            have e2 := hz'.2.1 p hp
            have e3 := bf_le0 h0 hp
            have e2' : (pr' p).toInt ≤ (pr p).toInt := e2
            have e3' : (pr p).toInt ≤ 0 := e3
            have e1' : -4000 ≤ (pr' p).toInt := e1
            omega
          refine xs_g146 hg hk (by omega) hgr hr1 (fun hn => ih' (pr', bd') (lp_no hk (hft k hk).1 (hft k hk).2 hz' fun hb => Or.inr (hn hb))) (fun hB hlt x bd2 hx hbd => ih' (_, bd2) ?_)
          have hF := (hr1 _ (hft k hk).1).2
          refine lp_yes hk (hft k hk).1 (hft k hk).2 (gi_nl hG (fun k hk hb => (hBM k hk).mp hb) h0) hz' hB (by show (pr' (fr k)).toInt < 1048576; omega) hlt (by show (upd pr' (to k) x (to k)).toInt = _; rw [tb_us]; exact hx) (fun j hj => by show (upd pr' (to k) x j).toInt = _; rw [tb_un hj]) ?_ ?_ ?_
          · intro q hq; exact (hbd (g q)).mpr (Or.inl hq)
          · exact (hbd _).mpr (Or.inr ⟨rfl, rfl⟩)
          · intro hL q hq hm
            rcases (hbd (g q)).mp hm with e | ⟨_, e⟩
            · exact Or.inl e
            · have hm2 := (gp_eq (hgr2 q hq) (hgr2 _ (hft k hk).2)).mp e
              exact Or.inr (lo_l hm2.1 (lo_r hL hm2.2))
      · refine loop_0 (σ := (Nat → Int32) × (Nat → Int32)) (fun n' k z => wX_findGroups_146 post (wX_findGroups_138 post f_present f_heapSize f_top f_bottom n) (nI i) f_present f_heapSize f_top f_bottom n' (nI k) a_fromOf a_toOf a_weightOf a_found a_kept a_dist a_isLow a_times a_queue a_queued z.1 a_heap a_heapPlace gr z.2 a_cameBy a_table a_table2 a_byCount) (fun k z => bf_I (fun k => A k ∧ g (fr k) = g (to k)) fr to c (fun a => a < 7) i k (fun p => (z.1 p).toInt) ∧ ∀ p, p < 7 → z.2 p = 0) 20 (pr, bd) ⟨h0, hb⟩ ?_ ?_
        · intro n' z hz'
          exact br_t (nI_le (Nat.le_refl 20) (by decide)) (nm_r (nI_1 i) (ih z ⟨fun _ => ⟨bf_rd hz'.1, hz'.2⟩, fun z => by omega⟩))
        · intro n' k z hk hz' ih'
          obtain ⟨pr', bd'⟩ := z
          obtain ⟨h1, hb1⟩ := hz'
          have h1 : bf_I (fun k => A k ∧ g (fr k) = g (to k)) fr to c (fun a => a < 7) i k (fun p => (pr' p).toInt) := h1
          have hb1 : ∀ p, p < 7 → bd' p = 0 := hb1
          have hr1 : ∀ p, p < 7 → -1000000 ≤ (pr' p).toInt ∧ (pr' p).toInt ≤ 0 := fun p hp => by
            have e1 := bf_rg hw' h1 (by omega) (by omega) hp
            have e3 := bf_le0 h1 hp
            have e1' : -4000 ≤ (pr' p).toInt := e1
            exact ⟨by omega, e3⟩
          refine xs_g146 hg hk (by omega) hgr hr1 (fun hn => ih' (pr', bd') ⟨bf_no hk (bf_F hw' _ (by omega)) h1 fun hb => Or.inr (hn hb), hb1⟩) (fun hB hlt x bd2 hx hbd => ih' (_, bd2) ⟨?_, ?_⟩)
          · have hF := (hr1 _ (hft k hk).1).2
            exact bf_yes hk (hft k hk).1 h1 hB (by show (pr' (fr k)).toInt < 1048576; omega) hlt (by show (upd pr' (to k) x (to k)).toInt = _; rw [tb_us]; exact hx) (fun j hj => by show (upd pr' (to k) x j).toInt = _; rw [tb_un hj])
          · intro p hp
            refine Classical.byContradiction fun hne => ?_
            rcases (hbd p).mp hne with e | ⟨e, _⟩
            · exact e (hb1 p hp)
            · exact h7 e
  · intro n i z hi hz ih
    obtain ⟨pr0, gr0, bd0⟩ := z
    obtain ⟨hp0, hg0, hb0⟩ := hz
    have hp0 : ∀ p, p < i → pr0 p = 0 := hp0
    have hg0 : ∀ p, p < i → gr0 p = nI p := hg0
    have hb0 : ∀ p, p < i → bd0 p = 0 := hb0
    have ii := vp_in_nI hi (show 7 < 2 ^ 31 by decide)
    refine br_f (nI_ge hi (by decide)) (And.intro ii (nm_r (up_i rfl (by omega) (nb_by i (by omega))) (And.intro ii (nm_r (up_i rfl (by omega) nb_b0) (And.intro ii (nm_r (up_i rfl (by omega) rfl) (nm_r (nI_1 i) (ih (upd pr0 i 0, upd gr0 i (nI i), upd bd0 i 0) ⟨fun p hp => ?_, fun p hp => ?_, fun p hp => ?_⟩))))))))
    · show upd pr0 i 0 p = 0
      by_cases e : p = i
      · rw [e, pk_us]
      · rw [pk_un e]; exact hp0 p (by omega)
    · show upd gr0 i (nI i) p = nI p
      by_cases e : p = i
      · rw [e, pk_us]
      · rw [pk_un e]; exact hg0 p (by omega)
    · show upd bd0 i 0 p = 0
      by_cases e : p = i
      · rw [e, pk_us]
      · rw [pk_un e]; exact hb0 p (by omega)
theorem xs_p76 (hg : xg_I f_present a_fromOf a_toOf a_weightOf A fr to c) {post : SX → Prop} {J23 J31 : Int32 → (Nat → Int32) → (Nat → Int32) → (Nat → Int32) → (Nat → Int32) → (Nat → Int32) → (Nat → Int32) → (Nat → Int32) → (Nat → Int32) → (Nat → Int32) → (Nat → Int32) → (Nat → Int32) → (Nat → Int32) → (Nat → Int32) → (Nat → Int32) → (Nat → Int32) → (Nat → Int32) → (Nat → Int32) → (Nat → Int32) → (Nat → Int32) → Prop} {x1 : Int32} {k : Nat} (hk : k < 20) (hp : ∀ p, p < 7 → -1000000 ≤ (a_price p).toInt ∧ (a_price p).toInt ≤ 0)
    (hno : (a_price (to k)).toInt ≤ (a_price (fr k)).toInt + c k → J31 (nI (k + 1)) a_fromOf a_toOf a_weightOf a_found a_kept a_dist a_isLow a_times a_queue a_queued a_price a_heap a_heapPlace a_group a_badGroup a_cameBy a_table a_table2 a_byCount)
    (hyes : (a_price (fr k)).toInt + c k < (a_price (to k)).toInt → ∀ x : Int32, x.toInt = (a_price (fr k)).toInt + c k → J31 (nI (k + 1)) a_fromOf a_toOf a_weightOf a_found a_kept a_dist a_isLow a_times a_queue a_queued (upd a_price (to k) x) a_heap a_heapPlace a_group a_badGroup a_cameBy a_table a_table2 a_byCount) : wX_findPrices_76 post J23 J31 x1 (nI k) 1 f_present f_heapSize f_top f_bottom a_fromOf a_toOf a_weightOf a_found a_kept a_dist a_isLow a_times a_queue a_queued a_price a_heap a_heapPlace a_group a_badGroup a_cameBy a_table a_table2 a_byCount := by
  have hf := xg_f7 hg hk
  have ht := xg_t7 hg hk
  have hc := xg_c hg hk
  have hw := xg_w hg hk
  have cf : (nI (fr k)).toNatClampNeg = fr k := nI_clamp (by omega)
  have ct : (nI (to k)).toNatClampNeg = to k := nI_clamp (by omega)
  have h0 := hp _ hf
  have hsum : (a_price (fr k) + a_weightOf (nI k).toNatClampNeg).toInt = (a_price (fr k)).toInt + c k := ia_add rfl hw (by omega) (by omega)
  have ik := vp_in_nI hk (show 20 < 2 ^ 31 by decide)
  have if7 := vp_in_nI hf (show 7 < 2 ^ 31 by decide)
  have it7 := vp_in_nI ht (show 7 < 2 ^ 31 by decide)
  unfold wX_findPrices_76
  rw [xg_f hg hk, xg_t hg hk, cf, ct]
  refine br_f (by decide) (And.intro ik (And.intro if7 (And.intro ik (And.intro ik (And.intro it7 ?_)))))
  refine ib_le (a_price (to k)).toInt ((a_price (fr k)).toInt + c k) (fun z => nm_r (nI_1 k) (hno z)) (fun z => ?_) rfl hsum
  exact And.intro ik (And.intro ik (And.intro if7 (And.intro ik (And.intro it7 (nm_e (nm_r (nI_1 k) (hyes z _ hsum)))))))
/-- prices of the good points -/
def pr_I (A : Nat → Prop) (fr to : Nat → Nat) (c : Nat → Int) (pr : Nat → Int) : Prop := (∀ p, p < 7 → -4000 ≤ pr p ∧ pr p ≤ 0) ∧ ∀ k, k < 20 → A k → ¬ wk_L (ga_G A fr to c) (fr k) (fr k) → ¬ wk_L (ga_G A fr to c) (to k) (to k) → pr (to k) ≤ pr (fr k) + c k
theorem xs_findPrices (hg : xg_I f_present a_fromOf a_toOf a_weightOf A fr to c) (hd : gd_I (ga_G A fr to c) a_group a_badGroup) {post : SX → Prop} (h : ∀ pr : Nat → Int32, pr_I A fr to c (fun p => (pr p).toInt) → post (f_present, f_heapSize, f_top, f_bottom, a_fromOf, a_toOf, a_weightOf, a_found, a_kept, a_dist, a_isLow, a_times, a_queue, a_queued, pr, a_heap, a_heapPlace, a_group, a_badGroup, a_cameBy, a_table, a_table2, a_byCount)) : wpX_findPrices post (f_present, f_heapSize, f_top, f_bottom, a_fromOf, a_toOf, a_weightOf, a_found, a_kept, a_dist, a_isLow, a_times, a_queue, a_queued, a_price, a_heap, a_heapPlace, a_group, a_badGroup, a_cameBy, a_table, a_table2, a_byCount) := by
  have hG := xg_7 hg
  have hw := xg_20 hg
  have hft : ∀ k, k < 20 → fr k < 7 ∧ to k < 7 := fun k hk => ⟨xg_f7 hg hk, xg_t7 hg hk⟩
  have hmono := ga_mono (A := A) (B := fun k => A k ∧ ¬ wk_L (ga_G A fr to c) (fr k) (fr k) ∧ ¬ wk_L (ga_G A fr to c) (to k) (to k)) (fr := fr) (to := to) (c := c) (fun k _ hb => hb.1)
  have hw' := fun a b w gg => hw a b w (hmono a b w gg)
  unfold wpX_findPrices
  refine loop_0 (fun n i z => wX_findPrices_2 post f_present f_heapSize f_top f_bottom n (nI i) a_fromOf a_toOf a_weightOf a_found a_kept a_dist a_isLow a_times a_queue a_queued z a_heap a_heapPlace a_group a_badGroup a_cameBy a_table a_table2 a_byCount) (fun i z => ∀ p, p < i → z p = 0) 7 a_price (fun p hp => absurd hp (Nat.not_lt_zero p)) ?_ ?_
  · intro n pr0 hp0
    refine br_t (nI_le (Nat.le_refl 7) (by decide)) ?_
    refine loop_0 (fun n i z => wX_findPrices_23 post f_present f_heapSize f_top f_bottom n (nI i) a_fromOf a_toOf a_weightOf a_found a_kept a_dist a_isLow a_times a_queue a_queued z a_heap a_heapPlace a_group a_badGroup a_cameBy a_table a_table2 a_byCount) (fun i z => bf_I (fun k => A k ∧ ¬ wk_L (ga_G A fr to c) (fr k) (fr k) ∧ ¬ wk_L (ga_G A fr to c) (to k) (to k)) fr to c (fun a => a < 7) i 0 (fun p => (z p).toInt)) 7 pr0 (bf_0a (fun p hp => by show (pr0 p).toInt = 0; rw [hp0 p hp]; decide)) ?_ ?_
    · intro n pr hI
      refine br_t (nI_le (Nat.le_refl 7) (by decide)) (h pr ⟨fun p hp => ⟨bf_rg hw' hI (by omega) (by omega) hp, bf_le0 hI hp⟩, fun k hk hA n1 n2 => gg_pr hG (fun k hk => Iff.rfl) hI hk ⟨hA, n1, n2⟩⟩)
    · intro n i pr hi hI ih
      refine br_f (nI_ge hi (by decide)) ?_
      refine loop_0 (fun n' k z => wX_findPrices_31 post (wX_findPrices_23 post f_present f_heapSize f_top f_bottom n) (nI i) f_present f_heapSize f_top f_bottom n' (nI k) a_fromOf a_toOf a_weightOf a_found a_kept a_dist a_isLow a_times a_queue a_queued z a_heap a_heapPlace a_group a_badGroup a_cameBy a_table a_table2 a_byCount) (fun k z => bf_I (fun k => A k ∧ ¬ wk_L (ga_G A fr to c) (fr k) (fr k) ∧ ¬ wk_L (ga_G A fr to c) (to k) (to k)) fr to c (fun a => a < 7) i k (fun p => (z p).toInt)) 20 pr hI ?_ ?_
      · intro n' pr' hI'
        exact br_t (nI_le (Nat.le_refl 20) (by decide)) (nm_r (nI_1 i) (ih pr' (bf_rd hI')))
      · intro n' k pr' hk hI' ih'
        have ik := vp_in_nI hk (show 20 < 2 ^ 31 by decide)
        have hr1 : ∀ p, p < 7 → -1000000 ≤ (pr' p).toInt ∧ (pr' p).toInt ≤ 0 := fun p hp => by
          have e1 := bf_rg hw' hI' (by omega) (by omega) hp
          have e3 := bf_le0 hI' hp
          have e1' : -4000 ≤ (pr' p).toInt := e1
          exact ⟨by omega, e3⟩
        have no : ¬ (A k ∧ ¬ wk_L (ga_G A fr to c) (fr k) (fr k) ∧ ¬ wk_L (ga_G A fr to c) (to k) (to k)) → wX_findPrices_75 post (wX_findPrices_23 post f_present f_heapSize f_top f_bottom n) (wX_findPrices_31 post (wX_findPrices_23 post f_present f_heapSize f_top f_bottom n) (nI i) f_present f_heapSize f_top f_bottom n') (nI i) (nI k) f_present f_heapSize f_top f_bottom a_fromOf a_toOf a_weightOf a_found a_kept a_dist a_isLow a_times a_queue a_queued pr' a_heap a_heapPlace a_group a_badGroup a_cameBy a_table a_table2 a_byCount := fun hn =>
          br_t rfl (nm_r (nI_1 k) (ih' pr' (bf_no hk (bf_F hw' _ (by omega)) hI' fun hb => absurd hb hn)))
        refine br_f (nI_ge hk (by decide)) ?_
        refine xs_has hg hk (fun hA => br_f (by decide) (And.intro ik ?_)) (fun hA => br_t rfl (no fun z => hA z.1))
        rw [xg_f hg hk, xg_t hg hk]
        refine xs_isGood hd (hft k hk).1 (fun g1 => br_f (by decide) (And.intro ik ?_)) (fun g1 => br_t rfl (no fun z => z.2.1 g1))
        refine xs_isGood hd (hft k hk).2 (fun g2 => br_f (by decide) ?_) (fun g2 => br_t rfl (no fun z => z.2.2 g2))
        refine xs_p76 hg hk hr1 (fun hle => ih' pr' (bf_no hk (bf_F hw' _ (by omega)) hI' fun hb => Or.inr hle)) (fun hlt x hx => ih' _ ?_)
        have hF := (hr1 _ (hft k hk).1).2
        exact bf_yes hk (hft k hk).1 hI' ⟨hA, g1, g2⟩ (by show (pr' (fr k)).toInt < 1048576; omega) hlt (by show (upd pr' (to k) x (to k)).toInt = _; rw [tb_us]; exact hx) (fun j hj => by show (upd pr' (to k) x j).toInt = _; rw [tb_un hj])
  · intro n i pr0 hi hp0 ih
    refine br_f (nI_ge hi (by decide)) (And.intro (vp_in_nI hi (by decide)) (nm_r (up_i rfl (by omega) rfl) (nm_r (nI_1 i) (ih _ fun p hp => ?_))))
    by_cases e : p = i
    · rw [e, pk_us]
    · rw [pk_un e]; exact hp0 p (by omega)
end PX
end
section
/-! the heap as a set with places (its order never matters for the answers) -/
def hp_I (H P : Nat → Int32) (m : Nat) : Prop := (∀ i, i < m → ∃ p, p < 7 ∧ H i = nI p ∧ P p = nI i) ∧ (∀ p, p < 7 → P p = -1 ∨ ∃ i, i < m ∧ P p = nI i ∧ H i = nI p)
theorem ni_m1 {i : Nat} (h : i < 2 ^ 31) : nI i ≠ -1 := by
  intro e
  have := nI_pos (n := i) h
  rw [e] at this
  exact this (by decide)
theorem hp_7 {H P : Nat → Int32} {m : Nat} (h : hp_I H P m) : m ≤ 7 := by
  refine Classical.byContradiction fun hn => ?_
  obtain ⟨i, j, hij, hj, e⟩ := ph_pig 7 (fun i => (H i).toNatClampNeg) (fun i hi => by
    obtain ⟨p, hp, e, _⟩ := h.1 i (by omega)
    show (H i).toNatClampNeg < 7
    rw [e, nI_clamp (by omega)]; exact hp)
  obtain ⟨p, hp, e1, e2⟩ := h.1 i (by omega)
  obtain ⟨q, hq, e3, e4⟩ := h.1 j (by omega)
  have e : (H i).toNatClampNeg = (H j).toNatClampNeg := e
  rw [e1, e3, nI_clamp (by omega), nI_clamp (by omega)] at e
  subst e
  have := (nI_eq (by omega) (by omega)).mp (e2.symm.trans e4)
  omega
theorem hp_sw {H P H' P' : Nat → Int32} {m i j p q : Nat} (h : hp_I H P m) (hm : m < 2 ^ 31) (hi : i < m) (hj : j < m) (hij : i ≠ j) (hp : p < 7) (hq : q < 7) (ei : H i = nI p) (ej : H j = nI q) (eH : ∀ x, x < m → H' x = if x = i then nI q else if x = j then nI p else H x) (eP : ∀ x, x < 7 → P' x = if x = q then nI i else if x = p then nI j else P x) : hp_I H' P' m := by
  obtain ⟨h1, h2⟩ := h
  have pi : P p = nI i := by
    obtain ⟨p', hp', e1, e2⟩ := h1 i hi
    have := (nI_eq (by omega) (by omega)).mp (ei.symm.trans e1)
    subst this; exact e2
  have pj : P q = nI j := by
    obtain ⟨p', hp', e1, e2⟩ := h1 j hj
    have := (nI_eq (by omega) (by omega)).mp (ej.symm.trans e1)
    subst this; exact e2
  have hpq : p ≠ q := by
    intro e; subst e
    have := (nI_eq (by omega) (by omega)).mp (pi.symm.trans pj)
    exact hij this
  refine ⟨fun x hx => ?_, fun x hx => ?_⟩
  · rw [eH x hx]
    by_cases e1 : x = i
    · rw [if_pos e1]; exact ⟨q, hq, rfl, by rw [eP q hq, if_pos rfl, e1]⟩
    · rw [if_neg e1]
      by_cases e2 : x = j
      · rw [if_pos e2]; exact ⟨p, hp, rfl, by rw [eP p hp, if_neg hpq, if_pos rfl, e2]⟩
      · rw [if_neg e2]
        obtain ⟨y, hy, g1, g2⟩ := h1 x hx
        refine ⟨y, hy, g1, ?_⟩
        have n1 : y ≠ q := fun z => by subst z; exact e2 ((nI_eq (by omega) (by omega)).mp (g2.symm.trans pj))
        have n2 : y ≠ p := fun z => by subst z; exact e1 ((nI_eq (by omega) (by omega)).mp (g2.symm.trans pi))
        rw [eP y hy, if_neg n1, if_neg n2]; exact g2
  · rw [eP x hx]
    by_cases e1 : x = q
    · rw [if_pos e1]; exact Or.inr ⟨i, hi, rfl, by rw [eH i hi, if_pos rfl, e1]⟩
    · rw [if_neg e1]
      by_cases e2 : x = p
      · rw [if_pos e2]; exact Or.inr ⟨j, hj, rfl, by rw [eH j hj, if_neg (Ne.symm hij), if_pos rfl, e2]⟩
      · rw [if_neg e2]
        refine (h2 x hx).imp id fun ⟨k, hk, g1, g2⟩ => ⟨k, hk, g1, ?_⟩
        have n1 : k ≠ i := fun z => by subst z; exact e2 ((nI_eq (by omega) (by omega)).mp (g2.symm.trans ei))
        have n2 : k ≠ j := fun z => by subst z; exact e1 ((nI_eq (by omega) (by omega)).mp (g2.symm.trans ej))
        rw [eH k hk, if_neg n1, if_neg n2]; exact g2
theorem hp_dv {i : Nat} (hi : 0 < i) (h : i < 2 ^ 31) : (nI i - 1) / 2 = nI ((i - 1) / 2) := by
  obtain ⟨k, rfl⟩ : ∃ k, i = k + 1 := ⟨i - 1, by omega⟩
  rw [nI_pred]
  exact pk_div (by omega) (by decide) (by decide)
section HX
variable {f_present f_heapSize f_top f_bottom : Int32} {a_fromOf a_toOf a_weightOf a_found a_kept a_dist a_isLow a_times a_queue a_queued a_price a_heap a_heapPlace a_group a_badGroup a_cameBy a_table a_table2 a_byCount : Nat → Int32}
theorem xs_setPlace {post : SX → Prop} {i p : Nat} (hi : i < 8) (hp : p < 7) (h : post (f_present, f_heapSize, f_top, f_bottom, a_fromOf, a_toOf, a_weightOf, a_found, a_kept, a_dist, a_isLow, a_times, a_queue, a_queued, a_price, upd a_heap i (nI p), upd a_heapPlace p (nI i), a_group, a_badGroup, a_cameBy, a_table, a_table2, a_byCount)) : wpX_setPlace post (f_present, f_heapSize, f_top, f_bottom, a_fromOf, a_toOf, a_weightOf, a_found, a_kept, a_dist, a_isLow, a_times, a_queue, a_queued, a_price, a_heap, a_heapPlace, a_group, a_badGroup, a_cameBy, a_table, a_table2, a_byCount) (nI i) (nI p) := by
  unfold wpX_setPlace
  exact And.intro (vp_in_nI hi (by decide)) (nm_r (up_i rfl (by omega) (nb_by p (by omega))) (And.intro (vp_in_nI hp (by decide)) (nm_r (up_i rfl (by omega) (nb_by i (by omega))) h)))
theorem xs_rise {post : SX → Prop} {i m : Nat} (hI : hp_I a_heap a_heapPlace m) (hi : i < m) (h : ∀ H P : Nat → Int32, hp_I H P m → (∀ x, x < 7 → (P x = -1 ↔ a_heapPlace x = -1)) → post (f_present, f_heapSize, f_top, f_bottom, a_fromOf, a_toOf, a_weightOf, a_found, a_kept, a_dist, a_isLow, a_times, a_queue, a_queued, a_price, H, P, a_group, a_badGroup, a_cameBy, a_table, a_table2, a_byCount)) : wpX_rise post (f_present, f_heapSize, f_top, f_bottom, a_fromOf, a_toOf, a_weightOf, a_found, a_kept, a_dist, a_isLow, a_times, a_queue, a_queued, a_price, a_heap, a_heapPlace, a_group, a_badGroup, a_cameBy, a_table, a_table2, a_byCount) (nI i) := by
  have hm7 := hp_7 hI
  unfold wpX_rise
  obtain ⟨p, hp, ep, epl⟩ := hI.1 i hi
  have ci : (nI i).toNatClampNeg = i := nI_clamp (by omega)
  refine And.intro (vp_in_nI (by omega) (by decide)) (nm_r (e' := nI p) (by rw [ci]; exact ep) ?_)
  have hloop := loop_m (σ := Nat × (Nat → Int32) × (Nat → Int32)) (fun n z => wX_rise_9 post (nI p) n (nI z.1) f_present f_heapSize f_top f_bottom a_fromOf a_toOf a_weightOf a_found a_kept a_dist a_isLow a_times a_queue a_queued a_price z.2.1 z.2.2 a_group a_badGroup a_cameBy a_table a_table2 a_byCount) (fun z => z.1 < m ∧ hp_I (upd z.2.1 z.1 (nI p)) (upd z.2.2 p (nI z.1)) m ∧ (∀ x, x < 7 → (upd z.2.2 p (nI z.1) x = -1 ↔ a_heapPlace x = -1))) (fun z => z.1) ?_ (i, a_heap, a_heapPlace) ?_
  · exact hloop
  · intro n z hz ih
    obtain ⟨i, H, P⟩ := z
    obtain ⟨hi, hV, hx⟩ := hz
    have hi : i < m := hi
    have hV : hp_I (upd H i (nI p)) (upd P p (nI i)) m := hV
    have hx : ∀ x, x < 7 → (upd P p (nI i) x = -1 ↔ a_heapPlace x = -1) := hx
    have fin : wX_rise_61 post (nI i) (nI p) f_present f_heapSize f_top f_bottom a_fromOf a_toOf a_weightOf a_found a_kept a_dist a_isLow a_times a_queue a_queued a_price H P a_group a_badGroup a_cameBy a_table a_table2 a_byCount := xs_setPlace (by omega) hp (h _ _ hV hx)
    show wX_rise_9 post (nI p) (n + 1) (nI i) f_present f_heapSize f_top f_bottom a_fromOf a_toOf a_weightOf a_found a_kept a_dist a_isLow a_times a_queue a_queued a_price H P a_group a_badGroup a_cameBy a_table a_table2 a_byCount
    refine pk_le i 0 (fun _ => fin) (fun hpos => ?_)
    have ed := hp_dv hpos (by omega)
    have cd : (nI ((i - 1) / 2)).toNatClampNeg = (i - 1) / 2 := nI_clamp (by omega)
    obtain ⟨q, hq, eq1, eq2⟩ := hV.1 ((i - 1) / 2) (by omega)
    rw [pk_un (by omega)] at eq1
    show ¬ (2 : Int32) = 0 ∧ _
    rw [ed, cd, eq1]
    refine And.intro (by decide) (And.intro (vp_in_nI (by omega) (by decide)) (And.intro (vp_in_nI hq (by decide)) (And.intro (vp_in_nI hp (by decide)) (br_c (fun _ => fin) (fun _ => ?_)))))
    refine And.intro (by decide) (And.intro (vp_in_nI (by omega) (by decide)) ?_)
    refine xs_setPlace (by omega) hq ?_
    have hpq : p ≠ q := by
      intro e; subst e
      rw [pk_us] at eq2
      have := (nI_eq (by omega) (by omega)).mp eq2
      omega
    refine And.intro (by decide) (nm_e (ih ((i - 1) / 2, upd H i (nI q), upd P q (nI i)) ⟨by show (i - 1) / 2 < m; omega, ?_, ?_⟩ (by show (i - 1) / 2 < i; omega)))
    · refine hp_sw hV (by omega) hi (j := (i - 1) / 2) (by omega) (by omega) hp hq pk_us (by rw [pk_un (by omega)]; exact eq1) (fun x _ => ?_) (fun x _ => ?_)
      · show upd (upd H i (nI q)) ((i - 1) / 2) (nI p) x = _
        by_cases e1 : x = (i - 1) / 2
        · rw [if_neg (by omega), if_pos e1, e1, pk_us]
        · rw [pk_un e1, if_neg e1]
          by_cases e2 : x = i
          · rw [if_pos e2, e2, pk_us]
          · rw [if_neg e2, pk_un e2, pk_un e2]
      · show upd (upd P q (nI i)) p (nI ((i - 1) / 2)) x = _
        by_cases e1 : x = p
        · rw [if_neg (by omega), if_pos e1, e1, pk_us]
        · rw [pk_un e1, if_neg e1]
          by_cases e2 : x = q
          · rw [if_pos e2, e2, pk_us]
          · rw [if_neg e2, pk_un e2, pk_un e1]
    · intro x hx7
      show upd (upd P q (nI i)) p (nI ((i - 1) / 2)) x = -1 ↔ _
      by_cases e1 : x = p
      · have := mt (hx x hx7).mpr (by rw [e1, pk_us]; exact ni_m1 (by omega))
        rw [e1, pk_us]; rw [e1] at this
        exact ⟨fun z => absurd z (ni_m1 (by omega)), fun z => absurd z this⟩
      · rw [pk_un e1]
        by_cases e2 : x = q
        · have := mt (hx x hx7).mpr (by rw [e2, eq2]; exact ni_m1 (by omega))
          rw [e2, pk_us]; rw [e2] at this
          exact ⟨fun z => absurd z (ni_m1 (by omega)), fun z => absurd z this⟩
        · rw [pk_un e2, ← hx x hx7, pk_un e1]
  · refine ⟨hi, ?_, ?_⟩
    · show hp_I (upd a_heap i (nI p)) (upd a_heapPlace p (nI i)) m
      rw [← ep, up_self, ← epl, up_self]; exact hI
    · intro x hx7
      show upd a_heapPlace p (nI i) x = -1 ↔ _
      rw [← epl, up_self]
theorem xs_takeNearest {post : Int32 → SX → Prop} {m : Nat} (hI : hp_I a_heap a_heapPlace (m + 1)) (hs : f_heapSize = nI (m + 1)) (h : ∀ (u : Nat) (H P : Nat → Int32), u < 7 → a_heapPlace u ≠ -1 → hp_I H P m → (∀ x, x < 7 → (P x = -1 ↔ a_heapPlace x = -1 ∨ x = u)) → post (nI u) (f_present, nI m, f_top, f_bottom, a_fromOf, a_toOf, a_weightOf, a_found, a_kept, a_dist, a_isLow, a_times, a_queue, a_queued, a_price, H, P, a_group, a_badGroup, a_cameBy, a_table, a_table2, a_byCount)) : wpX_takeNearest post (f_present, f_heapSize, f_top, f_bottom, a_fromOf, a_toOf, a_weightOf, a_found, a_kept, a_dist, a_isLow, a_times, a_queue, a_queued, a_price, a_heap, a_heapPlace, a_group, a_badGroup, a_cameBy, a_table, a_table2, a_byCount) := by
  have hm7 := hp_7 hI
  obtain ⟨u, hu, eu, eup⟩ := hI.1 0 (by omega)
  obtain ⟨p, hp, ep, epp⟩ := hI.1 m (by omega)
  have cm : (nI m).toNatClampNeg = m := nI_clamp (by omega)
  have cu : (nI u).toNatClampNeg = u := nI_clamp (by omega)
  have hune : a_heapPlace u ≠ -1 := by rw [eup]; exact ni_m1 (by omega)
  unfold wpX_takeNearest
  refine nm_r eu (nm_r (e' := nI m) (by rw [hs, nI_pred]) (And.intro (vp_in_nI (by omega) (by decide)) (nm_r (e' := nI p) (by rw [cm]; exact ep) ?_)))
  refine pk_le m 0 (fun hm0 => ?_) (fun hmpos => ?_)
  · obtain rfl : m = 0 := by omega
    refine ⟨1, br_t rfl (br_t (by decide) (And.intro (vp_in_nI hu (by decide)) (nm_r (e' := upd a_heapPlace u (-1)) (up_i rfl (by omega) nb_m1') (h u a_heap (upd a_heapPlace u (-1)) hu hune ⟨fun i hi => absurd hi (Nat.not_lt_zero i), fun x hx => Or.inl ?_⟩ ?_))))⟩
    · by_cases e : x = u
      · rw [e, pk_us]
      · rw [pk_un e]
        rcases hI.2 x hx with z | ⟨i, hi, z1, z2⟩
        · exact z
        · obtain rfl : i = 0 := by omega
          exact absurd ((nI_eq (by omega) (by omega)).mp (z2.symm.trans eu)) e
    · intro x hx
      by_cases e : x = u
      · rw [e, pk_us]; exact ⟨fun _ => Or.inr rfl, fun _ => rfl⟩
      · rw [pk_un e]; exact ⟨Or.inl, fun z => z.elim id (fun z => absurd z e)⟩
  · have hup : u ≠ p := by
      intro e; subst e
      have := (nI_eq (by omega) (by omega)).mp (eup.symm.trans epp)
      omega
    have hloop := loop_m (σ := Nat × Int32 × (Nat → Int32) × (Nat → Int32)) (fun n z => wX_takeNearest_43 post (nI u) (nI p) n (nI z.1) z.2.1 f_present (nI m) f_top f_bottom a_fromOf a_toOf a_weightOf a_found a_kept a_dist a_isLow a_times a_queue a_queued a_price z.2.2.1 z.2.2.2 a_group a_badGroup a_cameBy a_table a_table2 a_byCount) (fun z => z.1 < m ∧ hp_I (upd z.2.2.1 z.1 (nI p)) (upd (upd z.2.2.2 p (nI z.1)) u (-1)) m ∧ (∀ x, x < 7 → (upd (upd z.2.2.2 p (nI z.1)) u (-1) x = -1 ↔ a_heapPlace x = -1 ∨ x = u))) (fun z => if z.2.1 = 0 then 0 else 1 + (8 - z.1)) ?_ (0, 1, a_heap, a_heapPlace) ?_
    · exact hloop
    · intro n z hz ih
      obtain ⟨i, going, H, P⟩ := z
      obtain ⟨hi, hV, hx⟩ := hz
      have hi : i < m := hi
      have hV : hp_I (upd H i (nI p)) (upd (upd P p (nI i)) u (-1)) m := hV
      have hx : ∀ x, x < 7 → (upd (upd P p (nI i)) u (-1) x = -1 ↔ a_heapPlace x = -1 ∨ x = u) := hx
      have fin : wX_takeNearest_168 post (nI u) (nI p) (nI i) f_present (nI m) f_top f_bottom a_fromOf a_toOf a_weightOf a_found a_kept a_dist a_isLow a_times a_queue a_queued a_price H P a_group a_badGroup a_cameBy a_table a_table2 a_byCount := by
        refine br_f (nI_nle hmpos (by omega)) ?_
        refine xs_setPlace (by omega) hp (And.intro (vp_in_nI hu (by decide)) (nm_r (e' := upd (upd P p (nI i)) u (-1)) (up_i rfl (by omega) nb_m1') (h u _ _ hu hune hV hx)))
      have e1 : 2 * nI i + 1 = nI (2 * i + 1) := by
        show nI 2 * nI i + 1 = _
        rw [pk_mul, nI_1]
      show wX_takeNearest_43 post (nI u) (nI p) (n + 1) (nI i) going f_present (nI m) f_top f_bottom a_fromOf a_toOf a_weightOf a_found a_kept a_dist a_isLow a_times a_queue a_queued a_price H P a_group a_badGroup a_cameBy a_table a_table2 a_byCount
      refine br_c (fun hz => fin) (fun hgo => ?_)
      have hgo' : ¬ going = 0 := hgo
      rw [e1]
      refine pk_le m (2 * i + 1) (fun _ => fin) (fun hlt => ?_)
      refine nm_e ?_
      rw [nI_1]
      have step : ∀ cc, i < cc → cc < m → ∀ z0 z1 : Int32, z1 + z0 = nI cc → wX_takeNearest_114 post (wX_takeNearest_43 post (nI u) (nI p) n) (nI u) (nI p) (nI i) z0 z1 f_present (nI m) f_top f_bottom a_fromOf a_toOf a_weightOf a_found a_kept a_dist a_isLow a_times a_queue a_queued a_price H P a_group a_badGroup a_cameBy a_table a_table2 a_byCount := by
        intro cc h1 h2 z0 z1 hz
        obtain ⟨q, hq, eq1, eq2⟩ := hV.1 cc h2
        rw [pk_un (by omega)] at eq1
        have cc' : (nI cc).toNatClampNeg = cc := nI_clamp (by omega)
        refine nm_r hz (And.intro (vp_in_nI (by omega) (by decide)) ?_)
        rw [cc', eq1]
        refine And.intro (vp_in_nI hq (by decide)) (And.intro (vp_in_nI hp (by decide)) (br_c (fun _ => ?_) (fun _ => ?_)))
        · refine br_t rfl (ih (i, 0, H, P) ⟨hi, hV, hx⟩ ?_)
          show (if (0 : Int32) = 0 then 0 else 1 + (8 - i)) < (if going = 0 then 0 else 1 + (8 - i))
          rw [if_pos rfl, if_neg hgo']; omega
        · have huq : u ≠ q := by
            intro e; subst e
            rw [pk_us] at eq2
            exact ni_m1 (by omega) eq2.symm
          have hpq : p ≠ q := by
            intro e; subst e
            rw [pk_un (Ne.symm hup), pk_us] at eq2
            have := (nI_eq (by omega) (by omega)).mp eq2
            omega
          refine br_f (by decide) (And.intro (vp_in_nI (by omega) (by decide)) ?_)
          show wpX_setPlace _ _ (nI i) (H (nI cc).toNatClampNeg)
          rw [cc', eq1]
          refine xs_setPlace (by omega) hq (ih (cc, 1, upd H i (nI q), upd P q (nI i)) ⟨h2, ?_, ?_⟩ ?_)
          · refine hp_sw hV (by omega) hi h2 (by omega) hp hq pk_us (by rw [pk_un (by omega)]; exact eq1) (fun x _ => ?_) (fun x _ => ?_)
            · show upd (upd H i (nI q)) cc (nI p) x = _
              by_cases e1 : x = cc
              · rw [if_neg (by omega), if_pos e1, e1, pk_us]
              · rw [pk_un e1, if_neg e1]
                by_cases e2 : x = i
                · rw [if_pos e2, e2, pk_us]
                · rw [if_neg e2, pk_un e2, pk_un e2]
            · show upd (upd (upd P q (nI i)) p (nI cc)) u (-1) x = _
              by_cases e0 : x = u
              · rw [if_neg (by omega), if_neg (by omega), e0, pk_us, pk_us]
              · rw [pk_un e0, pk_un e0]
                by_cases e1 : x = p
                · rw [if_neg (by omega), if_pos e1, e1, pk_us]
                · rw [pk_un e1, if_neg e1]
                  by_cases e2 : x = q
                  · rw [if_pos e2, e2, pk_us]
                  · rw [if_neg e2, pk_un e2, pk_un e1]
          · intro x hx7
            show upd (upd (upd P q (nI i)) p (nI cc)) u (-1) x = -1 ↔ _
            by_cases e0 : x = u
            · rw [e0, pk_us]; exact ⟨fun _ => Or.inr rfl, fun _ => rfl⟩
            · have hx' := hx x hx7
              rw [pk_un e0] at hx' ⊢
              by_cases e1 : x = p
              · rw [e1, pk_us] at hx' ⊢
                exact ⟨fun z => absurd z (ni_m1 (by omega)), fun z => absurd (hx'.mpr z) (ni_m1 (by omega))⟩
              · rw [pk_un e1] at hx' ⊢
                by_cases e2 : x = q
                · rw [pk_un (Ne.symm huq), pk_un (Ne.symm hpq)] at eq2
                  rw [e2, eq2] at hx'
                  rw [e2, pk_us]
                  exact ⟨fun z => absurd z (ni_m1 (by omega)), fun z => absurd (hx'.mpr z) (ni_m1 (by omega))⟩
                · rw [pk_un e2]; exact hx'
          · show (if (1 : Int32) = 0 then 0 else 1 + (8 - cc)) < (if going = 0 then 0 else 1 + (8 - i))
            rw [if_neg (by decide), if_neg hgo']; omega
      have lef : wX_takeNearest_113 post (wX_takeNearest_43 post (nI u) (nI p) n) (nI u) (nI p) (nI i) (nI (2 * i + 1)) f_present (nI m) f_top f_bottom a_fromOf a_toOf a_weightOf a_found a_kept a_dist a_isLow a_times a_queue a_queued a_price H P a_group a_badGroup a_cameBy a_table a_table2 a_byCount := step (2 * i + 1) (by omega) hlt 0 (nI (2 * i + 1)) (by rw [Int32.add_zero])
      refine pk_le m (2 * i + 1 + 1) (fun _ => lef) (fun hlt2 => ?_)
      obtain ⟨q1, hq1, eq1, _⟩ := hV.1 (2 * i + 1) hlt
      obtain ⟨q2, hq2, eq2, _⟩ := hV.1 (2 * i + 1 + 1) hlt2
      rw [pk_un (by omega)] at eq1 eq2
      have c1 : (nI (2 * i + 1)).toNatClampNeg = 2 * i + 1 := nI_clamp (by omega)
      have c2 : (nI (2 * i + 1 + 1)).toNatClampNeg = 2 * i + 1 + 1 := nI_clamp (by omega)
      rw [c1, c2, eq1, eq2]
      refine And.intro (vp_in_nI (by omega) (by decide)) (And.intro (vp_in_nI hq2 (by decide)) (And.intro (vp_in_nI (by omega) (by decide)) (And.intro (vp_in_nI hq1 (by decide)) (br_c (fun _ => lef) (fun _ => ?_)))))
      exact step (2 * i + 1 + 1) (by omega) hlt2 1 (nI (2 * i + 1)) (nI_1 _)
    · refine ⟨hmpos, ?_, ?_⟩
      · show hp_I (upd a_heap 0 (nI p)) (upd (upd a_heapPlace p (nI 0)) u (-1)) m
        refine ⟨fun i hi => ?_, fun x hx => ?_⟩
        · by_cases e : i = 0
          · subst e
            rw [pk_us]; exact ⟨p, hp, rfl, by rw [pk_un (Ne.symm hup), pk_us]⟩
          · rw [pk_un e]
            obtain ⟨x, hx, g1, g2⟩ := hI.1 i (by omega)
            have n1 : x ≠ u := fun z => by subst z; exact e ((nI_eq (by omega) (by omega)).mp (g2.symm.trans eup))
            have n2 : x ≠ p := fun z => by subst z; have := (nI_eq (by omega) (by omega)).mp (g2.symm.trans epp); omega
            exact ⟨x, hx, g1, by rw [pk_un n1, pk_un n2]; exact g2⟩
        · by_cases e0 : x = u
          · rw [e0, pk_us]; exact Or.inl rfl
          · rw [pk_un e0]
            by_cases e1 : x = p
            · rw [e1, pk_us]; exact Or.inr ⟨0, hmpos, rfl, pk_us⟩
            · rw [pk_un e1]
              refine (hI.2 x hx).imp id fun ⟨i, hi, g1, g2⟩ => ⟨i, ?_, g1, ?_⟩
              · have : i ≠ m := fun z => by subst z; exact e1 ((nI_eq (by omega) (by omega)).mp (g2.symm.trans ep))
                omega
              · have : i ≠ 0 := fun z => by subst z; exact e0 ((nI_eq (by omega) (by omega)).mp (g2.symm.trans eu))
                rw [pk_un this]; exact g2
      · intro x hx7
        show upd (upd a_heapPlace p (nI 0)) u (-1) x = -1 ↔ _
        by_cases e0 : x = u
        · rw [e0, pk_us]; exact ⟨fun _ => Or.inr rfl, fun _ => rfl⟩
        · rw [pk_un e0]
          by_cases e1 : x = p
          · rw [e1, pk_us]
            refine ⟨fun z => absurd z (ni_m1 (by omega)), fun z => z.elim (fun z => ?_) (fun z => absurd z.symm hup)⟩
            rw [epp] at z; exact absurd z (ni_m1 (by omega))
          · rw [pk_un e1]; exact ⟨Or.inl, fun z => z.elim id (fun z => absurd z e0)⟩
theorem xs_nearer {post : SX → Prop} {u v m : Nat} {w : Int32} (hu : u < 7) (hv : v < 7) (hI : hp_I a_heap a_heapPlace m) (hs : f_heapSize = nI m) (hb : -20 ≤ w.toInt ∧ w.toInt ≤ 20) (hdu : 0 ≤ (a_dist u).toInt ∧ (a_dist u).toInt ≤ 1048576) (hpu : -4000 ≤ (a_price u).toInt ∧ (a_price u).toInt ≤ 0) (hpv : -4000 ≤ (a_price v).toInt ∧ (a_price v).toInt ≤ 0)
    (hno : (a_dist v).toInt ≤ (a_dist u).toInt + w.toInt + (a_price u).toInt - (a_price v).toInt → post (f_present, f_heapSize, f_top, f_bottom, a_fromOf, a_toOf, a_weightOf, a_found, a_kept, a_dist, a_isLow, a_times, a_queue, a_queued, a_price, a_heap, a_heapPlace, a_group, a_badGroup, a_cameBy, a_table, a_table2, a_byCount))
    (hyes : (a_dist u).toInt + w.toInt + (a_price u).toInt - (a_price v).toInt < (a_dist v).toInt → ∀ (x : Int32) (H P : Nat → Int32) (m' : Nat), x.toInt = (a_dist u).toInt + w.toInt + (a_price u).toInt - (a_price v).toInt → m' ≤ m + 1 → hp_I H P m' → (∀ y, y < 7 → (P y = -1 ↔ a_heapPlace y = -1 ∧ y ≠ v)) → post (f_present, nI m', f_top, f_bottom, a_fromOf, a_toOf, a_weightOf, a_found, a_kept, upd a_dist v x, a_isLow, a_times, a_queue, a_queued, a_price, H, P, a_group, a_badGroup, a_cameBy, a_table, a_table2, a_byCount)) : wpX_nearer post (f_present, f_heapSize, f_top, f_bottom, a_fromOf, a_toOf, a_weightOf, a_found, a_kept, a_dist, a_isLow, a_times, a_queue, a_queued, a_price, a_heap, a_heapPlace, a_group, a_badGroup, a_cameBy, a_table, a_table2, a_byCount) (nI u) (nI v) w := by
  have hm7 := hp_7 hI
  have cu : (nI u).toNatClampNeg = u := nI_clamp (by omega)
  have cv : (nI v).toNatClampNeg = v := nI_clamp (by omega)
  have iu := vp_in_nI hu (show 7 < 2 ^ 31 by decide)
  have iv := vp_in_nI hv (show 7 < 2 ^ 31 by decide)
  unfold wpX_nearer
  rw [cu, cv]
  have s1 : (a_dist u + w).toInt = (a_dist u).toInt + w.toInt := ia_add rfl rfl (by omega) (by omega)
  have s2 : (a_dist u + w + a_price u).toInt = (a_dist u).toInt + w.toInt + (a_price u).toInt := ia_add s1 rfl (by omega) (by omega)
  have s3 : (a_dist u + w + a_price u - a_price v).toInt = (a_dist u).toInt + w.toInt + (a_price u).toInt - (a_price v).toInt := ia_sub s2 rfl (by omega) (by omega)
  refine And.intro iu (And.intro iu (And.intro iv (nm_e (And.intro iv ?_))))
  refine ib_le (a_dist v).toInt ((a_dist u).toInt + w.toInt + (a_price u).toInt - (a_price v).toInt) hno (fun hlt => ?_) rfl s3
  have key := hyes hlt (a_dist u + w + a_price u - a_price v)
  refine And.intro iv (nm_e (And.intro iv ?_))
  rcases hI.2 v hv with z | ⟨i, hi, z1, z2⟩
  · rw [z]
    refine br_f (by decide) ?_
    rw [hs]
    refine xs_setPlace (by omega) hv (nm_r (nI_1 m) ?_)
    refine And.intro iv ?_
    rw [cv, pk_us]
    have hnew : hp_I (upd a_heap m (nI v)) (upd a_heapPlace v (nI m)) (m + 1) := by
      refine ⟨fun i hi => ?_, fun x hx => ?_⟩
      · by_cases e : i = m
        · rw [e, pk_us]; exact ⟨v, hv, rfl, pk_us⟩
        · rw [pk_un e]
          obtain ⟨x, hx, g1, g2⟩ := hI.1 i (by omega)
          have : x ≠ v := fun e => by rw [e, z] at g2; exact ni_m1 (by omega) g2.symm
          exact ⟨x, hx, g1, by rw [pk_un this]; exact g2⟩
      · by_cases e : x = v
        · rw [e, pk_us]; exact Or.inr ⟨m, by omega, rfl, pk_us⟩
        · rw [pk_un e]
          refine (hI.2 x hx).imp id fun ⟨i, hi, g1, g2⟩ => ⟨i, by omega, g1, ?_⟩
          rw [pk_un (by omega)]; exact g2
    refine xs_rise hnew (by omega) fun H P hHP hx => key H P (m + 1) s3 (by omega) hHP fun y hy => ?_
    rw [hx y hy]
    by_cases e : y = v
    · rw [e, pk_us]; exact ⟨fun z => absurd z (ni_m1 (by omega)), fun z => absurd rfl z.2⟩
    · rw [pk_un e]; exact ⟨fun z => ⟨z, e⟩, fun z => z.1⟩
  · have hz1 : a_heapPlace v = nI i := z1
    refine br_t (by rw [hz1]; exact nI_pos' (by omega)) (And.intro iv ?_)
    show wpX_rise _ _ (a_heapPlace (nI v).toNatClampNeg)
    rw [cv, hz1]
    refine xs_rise hI hi fun H P hHP hx => ?_
    have := key H P m s3 (by omega) hHP fun y hy => by
      rw [hx y hy]
      refine ⟨fun z => ⟨z, fun e => ?_⟩, fun z => z.1⟩
      rw [e, hz1] at z; exact ni_m1 (by omega) z
    rw [← hs] at this
    exact this
end HX
end
section
/-! engine 2: nearest first, with prices -/
def dj_I (A : Nat → Prop) (fr to : Nat → Nat) (c : Nat → Int) (s : Nat) (pr : Nat → Int) (ex : Nat → Prop) (D : Nat → Int) (In : Nat → Prop) : Prop :=
  (∀ b, b < 7 → 0 ≤ D b ∧ D b ≤ 1048576) ∧ (∀ b, b < 7 → D b < 1048576 → ∃ n, wk_W (ga_G A fr to c) n s b (D b + pr b - pr s)) ∧ D s ≤ 0 ∧
  (∀ j, j < 20 → A j → ¬ ex j → ¬ wk_L (ga_G A fr to c) (fr j) (fr j) → ¬ wk_L (ga_G A fr to c) (to j) (to j) → ¬ In (fr j) → D (fr j) < 1048576 → D (to j) ≤ D (fr j) + c j + pr (fr j) - pr (to j)) ∧
  (∀ p, p < 7 → In p → ¬ wk_L (ga_G A fr to c) p p ∧ D p < 1048576)
section DJ
variable {A : Nat → Prop} {fr to : Nat → Nat} {c : Nat → Int} {s : Nat} {pr : Nat → Int}
theorem dj_pop {u : Nat} {D : Nat → Int} {In In' : Nat → Prop} (h : dj_I A fr to c s pr (fun _ => False) D In) (hi : ∀ p, p < 7 → (In' p ↔ In p ∧ p ≠ u)) (hf : ∀ j, j < 20 → fr j < 7 ∧ to j < 7) : dj_I A fr to c s pr (fun j => fr j = u ∧ 0 ≤ j) D In' := by
  obtain ⟨h1, h2, h3, h4, h5⟩ := h
  refine ⟨h1, h2, h3, ?_, fun p hp hx => h5 p hp ((hi p hp).mp hx).1⟩
  intro j hj hA hx n1 n2 n3 hlt
  refine h4 j hj hA id n1 n2 (fun z => n3 ((hi _ (hf j hj).1).mpr ⟨z, fun e => hx ⟨e, by omega⟩⟩)) hlt
theorem dj_done {u : Nat} {D : Nat → Int} {In : Nat → Prop} (h : dj_I A fr to c s pr (fun j => fr j = u ∧ 20 ≤ j) D In) : dj_I A fr to c s pr (fun _ => False) D In := by
  obtain ⟨h1, h2, h3, h4, h5⟩ := h
  exact ⟨h1, h2, h3, fun j hj hA _ => h4 j hj hA (by omega), h5⟩
theorem dj_no {u k : Nat} {D : Nat → Int} {In : Nat → Prop} (hk : k < 20) (h : dj_I A fr to c s pr (fun j => fr j = u ∧ k ≤ j) D In) (hn : A k → fr k = u → ¬ wk_L (ga_G A fr to c) (to k) (to k) → D (to k) ≤ D u + c k + pr u - pr (to k)) : dj_I A fr to c s pr (fun j => fr j = u ∧ k + 1 ≤ j) D In := by
  obtain ⟨h1, h2, h3, h4, h5⟩ := h
  refine ⟨h1, h2, h3, ?_, h5⟩
  intro j hj hA hx n1 n2 n3 hlt
  by_cases e : j = k ∧ fr j = u
  · obtain ⟨rfl, rfl⟩ := e
    exact hn hA rfl n2
  · exact h4 j hj hA (by omega) n1 n2 n3 hlt
theorem dj_yes {u k : Nat} {D D' : Nat → Int} {In In' : Nat → Prop} (hf : ∀ j, j < 20 → fr j < 7 ∧ to j < 7) (hk : k < 20) (h : dj_I A fr to c s pr (fun j => fr j = u ∧ k ≤ j) D In) (hA : A k) (hu : fr k = u) (hgv : ¬ wk_L (ga_G A fr to c) (to k) (to k)) (hF : D u < 1048576) (hlt : D u + c k + pr u - pr (to k) < D (to k)) (h0 : 0 ≤ D u + c k + pr u - pr (to k)) (e1 : D' (to k) = D u + c k + pr u - pr (to k)) (e2 : ∀ j, j ≠ to k → D' j = D j) (hi : ∀ p, p < 7 → (In' p ↔ In p ∨ p = to k)) : dj_I A fr to c s pr (fun j => fr j = u ∧ k + 1 ≤ j) D' In' := by
  obtain ⟨h1, h2, h3, h4, h5⟩ := h
  have htk := (hf k hk).2
  have hfu : u < 7 := hu ▸ (hf k hk).1
  have hle : ∀ j, D' j ≤ D j := by
    intro j
    by_cases e : j = to k
    · rw [e, e1]; omega
    · rw [e2 j e]; omega
  have g : ga_G A fr to c u (to k) (c k) := by rw [← hu]; exact ga_i hk hA
  refine ⟨?_, ?_, ?_, ?_, ?_⟩
  · intro b hb
    by_cases e : b = to k
    · have := h1 (to k) htk
      rw [e, e1]; omega
    · rw [e2 b e]; exact h1 b hb
  · intro b hb hlt'
    by_cases e : b = to k
    · obtain ⟨n, hW⟩ := h2 u hfu hF
      rw [e, e1]
      exact ⟨n + 1, wk_e (wk_s hW g) (by omega)⟩
    · rw [e2 b e] at hlt' ⊢; exact h2 b hb hlt'
  · have := hle s; omega
  · intro j hj hAj hx n1 n2 n3 hlt'
    have hne : fr j ≠ to k := fun e => n3 ((hi _ (hf j hj).1).mpr (Or.inr e))
    have hni : ¬ In (fr j) := fun z => n3 ((hi _ (hf j hj).1).mpr (Or.inl z))
    rw [e2 _ hne] at hlt' ⊢
    by_cases e : j = k
    · subst e; rw [e1, hu]; omega
    · have := h4 j hj hAj (by omega) n1 n2 hni hlt'
      have := hle (to j)
      omega
  · intro p hp hx
    rcases (hi p hp).mp hx with z | z
    · have := h5 p hp z
      have := hle p
      exact ⟨(h5 p hp z).1, by omega⟩
    · have := h1 (to k) htk
      rw [z, e1]; exact ⟨hgv, by omega⟩
theorem dj_low {t : Nat} : (∃ q, (wk_R (ga_G A fr to c) s q ∧ wk_L (ga_G A fr to c) q q) ∧ wk_R (ga_G A fr to c) q t) ↔ wk_L (ga_G A fr to c) s t := by
  refine ⟨fun ⟨q, ⟨h1, h2⟩, h3⟩ => lo_l h1 (lo_r h2 h3), fun ⟨d, n, w, r1, hW, hneg, r2⟩ => ⟨d, ⟨r1, ⟨d, n, w, rc_0 d, hW, hneg, rc_0 d⟩⟩, r2⟩⟩
theorem dj_fin (hG : ∀ a b w, ga_G A fr to c a b w → a < 7 ∧ b < 7) (hw : ∀ a b w, ga_G A fr to c a b w → -20 ≤ w ∧ w ≤ 20) (hs : s < 7) (hpr : ∀ p, p < 7 → -4000 ≤ pr p ∧ pr p ≤ 0) {D : Nat → Int} {In : Nat → Prop} (h : dj_I A fr to c s pr (fun _ => False) D In) (hIn : ∀ p, p < 7 → ¬ In p) {t : Nat} (ht : t < 7) (hl : ¬ wk_L (ga_G A fr to c) s t) : fd_F (ga_G A fr to c) s t (if D t < 1048576 then D t - pr s + pr t else 1048576) := by
  obtain ⟨h1, h2, h3, h4, h5⟩ := h
  have hps := hpr s hs
  have near : ∀ n a w, n ≤ 6 → wk_W (ga_G A fr to c) n s a w → wk_R (ga_G A fr to c) a t → D a ≤ w + pr s - pr a := by
    intro n
    induction n with
    | zero => intro a w _ hW _; obtain ⟨rfl, rfl⟩ := hW; omega
    | succ n ih =>
      intro a w hn hW hr
      have hrs := rc_w hW
      obtain ⟨d, w1, w2, hW1, g, rfl⟩ := hW
      have e1 := ih d w1 (by omega) hW1 (rc_h g hr)
      have e2 := wk_le (C := 20) (fun a b w g => (hw a b w g).2) _ _ _ _ hW1
      have hd7 := (hG _ _ _ g)
      have hpd := hpr d hd7.1
      have gd : ¬ wk_L (ga_G A fr to c) d d := fun z => hl (lo_l (rc_w hW1) (lo_r z (rc_h g hr)))
      have gb : ¬ wk_L (ga_G A fr to c) a a := fun z => hl (lo_l hrs (lo_r z hr))
      obtain ⟨j, hj, hA, rfl, rfl, rfl⟩ := g
      have := h4 j hj hA id gd gb (hIn _ hd7.1) (by omega)
      omega
  refine Or.inr ?_
  by_cases hr : wk_R (ga_G A fr to c) s t
  · have hn := fun n w n6 hW => near n t w n6 hW (rc_0 t)
    obtain ⟨n, w', n6, hW⟩ := rc_6 hG hs hr
    have e1 := hn n w' n6 hW
    have e2 := wk_le (C := 20) (fun a b w g => (hw a b w g).2) _ _ _ _ hW
    have hpt := hpr t ht
    have hlt : D t < 1048576 := by omega
    rw [if_pos hlt]
    obtain ⟨n', hW'⟩ := h2 t ht hlt
    refine Or.inr ⟨hl, fd_D6 hG hs hl ⟨n', wk_e hW' (by omega)⟩ fun n w n6 hW => ?_⟩
    have := hn n w n6 hW
    omega
  · refine Or.inl ⟨hl, hr, ?_⟩
    rw [if_neg fun hlt => ?_]
    obtain ⟨n, hW⟩ := h2 t ht hlt
    exact hr (rc_w hW)
end DJ
section DX
variable {f_present f_heapSize f_top f_bottom : Int32} {a_fromOf a_toOf a_weightOf a_found a_kept a_dist a_isLow a_times a_queue a_queued a_price a_heap a_heapPlace a_group a_badGroup a_cameBy a_table a_table2 a_byCount : Nat → Int32} {A : Nat → Prop} {fr to : Nat → Nat} {c : Nat → Int}
theorem xs_goLoop (hg : xg_I f_present a_fromOf a_toOf a_weightOf A fr to c) (hd : gd_I (ga_G A fr to c) a_group a_badGroup) (hpr : pr_I A fr to c (fun p => (a_price p).toInt)) {post : SX → Prop} {s m0 : Nat} (hs : s < 7) (hinit : dj_I A fr to c s (fun p => (a_price p).toInt) (fun _ => False) (fun p => (a_dist p).toInt) (fun p => a_heapPlace p ≠ -1)) (hhp : hp_I a_heap a_heapPlace m0) (hlow : ∀ p, p < 7 → (a_isLow p ≠ 0 ↔ wk_L (ga_G A fr to c) s p))
    (h : ∀ (hz : Int32) (d H P f : Nat → Int32), (∀ t, t < 7 → fd_F (ga_G A fr to c) s t (f (s * 7 + t)).toInt) → (∀ i, (i < s * 7 ∨ s * 7 + 7 ≤ i) → f i = a_found i) → post (f_present, hz, f_top, f_bottom, a_fromOf, a_toOf, a_weightOf, f, a_kept, d, a_isLow, a_times, a_queue, a_queued, a_price, H, P, a_group, a_badGroup, a_cameBy, a_table, a_table2, a_byCount)) : ∃ n97 : Nat, wX_goWithPrices_97 post (nI s) n97 f_present (nI m0) f_top f_bottom a_fromOf a_toOf a_weightOf a_found a_kept a_dist a_isLow a_times a_queue a_queued a_price a_heap a_heapPlace a_group a_badGroup a_cameBy a_table a_table2 a_byCount := by
  have hG := xg_7 hg
  have hw := xg_20 hg
  have hf : ∀ j, j < 20 → fr j < 7 ∧ to j < 7 := fun j hj => ⟨xg_f7 hg hj, xg_t7 hg hj⟩
  refine loop_m (σ := Nat × (Nat → Int32) × (Nat → Int32) × (Nat → Int32)) (fun n z => wX_goWithPrices_97 post (nI s) n f_present (nI z.1) f_top f_bottom a_fromOf a_toOf a_weightOf a_found a_kept z.2.1 a_isLow a_times a_queue a_queued a_price z.2.2.1 z.2.2.2 a_group a_badGroup a_cameBy a_table a_table2 a_byCount) (fun z => dj_I A fr to c s (fun p => (a_price p).toInt) (fun _ => False) (fun p => (z.2.1 p).toInt) (fun p => z.2.2.2 p ≠ -1) ∧ hp_I z.2.2.1 z.2.2.2 z.1) (fun z => 8 * qx_s (fun p => (z.2.1 p).toInt.toNat) + z.1) ?_ (m0, a_dist, a_heap, a_heapPlace) ⟨hinit, hhp⟩
  intro n z hz ih
  obtain ⟨m, d, H, P⟩ := z
  obtain ⟨hI, hH⟩ := hz
  have hI : dj_I A fr to c s (fun p => (a_price p).toInt) (fun _ => False) (fun p => (d p).toInt) (fun p => P p ≠ -1) := hI
  have hH : hp_I H P m := hH
  have hm7 := hp_7 hH
  show wX_goWithPrices_97 post (nI s) (n + 1) f_present (nI m) f_top f_bottom a_fromOf a_toOf a_weightOf a_found a_kept d a_isLow a_times a_queue a_queued a_price H P a_group a_badGroup a_cameBy a_table a_table2 a_byCount
  refine pk_le m 0 (fun hm0 => ?_) (fun hmpos => ?_)
  · obtain rfl : m = 0 := by omega
    have hIn : ∀ p, p < 7 → ¬ (P p ≠ -1) := fun p hp z => by
      rcases hH.2 p hp with y | ⟨i, hi, _⟩
      · exact z y
      · omega
    refine loop_0 (fun n i z => wX_goWithPrices_187 post (nI s) f_present (nI 0) f_top f_bottom n (nI i) a_fromOf a_toOf a_weightOf a_found a_kept z a_isLow a_times a_queue a_queued a_price H P a_group a_badGroup a_cameBy a_table a_table2 a_byCount) (fun i z => (∀ p, p < i → (z p).toInt = if (d p).toInt < 1048576 then (d p).toInt - (a_price s).toInt + (a_price p).toInt else 1048576) ∧ (∀ p, i ≤ p → z p = d p)) 7 d ⟨fun p hp => absurd hp (Nat.not_lt_zero p), fun p _ => rfl⟩ ?_ ?_
    · intro n z hz
      refine br_t (nI_le (Nat.le_refl 7) (by decide)) ?_
      refine xs_writeFrom hs fun f hf1 hf2 => h _ z H P f (fun t ht => ?_) hf2
      rw [hf1 t ht]
      by_cases e : a_isLow t = 0
      · rw [if_pos e, hz.1 t ht]
        exact dj_fin hG hw hs hpr.1 hI hIn ht fun z => (hlow t ht).mpr z e
      · rw [if_neg e]
        exact Or.inl ⟨(hlow t ht).mp e, by decide⟩
    · intro n i z hi hz ih'
      have ci : (nI i).toNatClampNeg = i := nI_clamp (by omega)
      have cs : (nI s).toNatClampNeg = s := nI_clamp (by omega)
      have ii := vp_in_nI hi (show 7 < 2 ^ 31 by decide)
      have hzi := hz.2 i (Nat.le_refl i)
      have hr := hI.1 i hi
      have hr : 0 ≤ (d i).toInt ∧ (d i).toInt ≤ 1048576 := hr
      have hps := hpr.1 s hs
      have hps : -4000 ≤ (a_price s).toInt ∧ (a_price s).toInt ≤ 0 := hps
      have hpi := hpr.1 i hi
      have hpi : -4000 ≤ (a_price i).toInt ∧ (a_price i).toInt ≤ 0 := hpi
      have key : ∀ x : Int32, x.toInt = (if (d i).toInt < 1048576 then (d i).toInt - (a_price s).toInt + (a_price i).toInt else 1048576) → (∀ p, p < i + 1 → (upd z i x p).toInt = if (d p).toInt < 1048576 then (d p).toInt - (a_price s).toInt + (a_price p).toInt else 1048576) ∧ (∀ p, i + 1 ≤ p → upd z i x p = d p) := by
        intro x hx
        refine ⟨fun p hp => ?_, fun p hp => ?_⟩
        · by_cases e : p = i
          · rw [e, tb_us]; exact hx
          · rw [tb_un e]; exact hz.1 p (by omega)
        · rw [pk_un (by omega)]; exact hz.2 p (by omega)
      refine br_f (nI_ge hi (by decide)) (And.intro ii ?_)
      rw [ci, cs, hzi]
      refine ib_le 1048576 (d i).toInt (fun hle => ?_) (fun hlt => ?_)
      · exact And.intro ii (nm_e (nm_r (nI_1 i) (ih' _ (key 1048576 (by rw [if_neg (by omega)]; decide)))))
      · have s1 : (d i - a_price s).toInt = (d i).toInt - (a_price s).toInt := ia_sub rfl rfl (by omega) (by omega)
        have s2 : (d i - a_price s + a_price i).toInt = (d i).toInt - (a_price s).toInt + (a_price i).toInt := ia_add s1 rfl (by omega) (by omega)
        exact And.intro ii (And.intro (vp_in_nI hs (by decide)) (And.intro ii (And.intro ii (nm_e (nm_r (nI_1 i) (ih' _ (key _ (by rw [if_pos hlt]; exact s2))))))))
  · obtain ⟨m, rfl⟩ : ∃ k, m = k + 1 := ⟨m - 1, by omega⟩
    refine xs_takeNearest hH rfl fun u H1 P1 hu hune hH1 hP1 => ?_
    have hgu := hI.2.2.2.2 u hu hune
    have hJ : dj_I A fr to c s (fun p => (a_price p).toInt) (fun j => fr j = u ∧ 0 ≤ j) (fun p => (d p).toInt) (fun p => P1 p ≠ -1) := dj_pop hI (fun p hp => by
      show P1 p ≠ -1 ↔ P p ≠ -1 ∧ p ≠ u
      exact ⟨fun z => ⟨fun y => z ((hP1 p hp).mpr (Or.inl y)), fun y => z ((hP1 p hp).mpr (Or.inr y))⟩, fun z y => ((hP1 p hp).mp y).elim z.1 z.2⟩) hf
    refine loop_0 (σ := Nat × (Nat → Int32) × (Nat → Int32) × (Nat → Int32)) (fun n' k z => wX_goWithPrices_113 post (wX_goWithPrices_97 post (nI s) n) (nI s) (nI u) n' (nI k) f_present (nI z.1) f_top f_bottom a_fromOf a_toOf a_weightOf a_found a_kept z.2.1 a_isLow a_times a_queue a_queued a_price z.2.2.1 z.2.2.2 a_group a_badGroup a_cameBy a_table a_table2 a_byCount) (fun k z => dj_I A fr to c s (fun p => (a_price p).toInt) (fun j => fr j = u ∧ k ≤ j) (fun p => (z.2.1 p).toInt) (fun p => z.2.2.2 p ≠ -1) ∧ hp_I z.2.2.1 z.2.2.2 z.1 ∧ (z.2.1 u).toInt < 1048576 ∧ 8 * qx_s (fun p => (z.2.1 p).toInt.toNat) + z.1 ≤ 8 * qx_s (fun p => (d p).toInt.toNat) + m) 20 (m, d, H1, P1) ⟨hJ, hH1, hgu.2, Nat.le_refl _⟩ ?_ ?_
    · intro n' z hz
      obtain ⟨g1, g2, g3, g4⟩ := hz
      exact br_t (nI_le (Nat.le_refl 20) (by decide)) (ih z ⟨dj_done g1, g2⟩ (by show 8 * qx_s (fun p => (z.2.1 p).toInt.toNat) + z.1 < 8 * qx_s (fun p => (d p).toInt.toNat) + (m + 1); omega))
    · intro n' k z hk hz ih'
      obtain ⟨m', d', H', P'⟩ := z
      obtain ⟨g1, g2, g3, g4⟩ := hz
      have g1 : dj_I A fr to c s (fun p => (a_price p).toInt) (fun j => fr j = u ∧ k ≤ j) (fun p => (d' p).toInt) (fun p => P' p ≠ -1) := g1
      have g2 : hp_I H' P' m' := g2
      have g3 : (d' u).toInt < 1048576 := g3
      have g4 : 8 * qx_s (fun p => (d' p).toInt.toNat) + m' ≤ 8 * qx_s (fun p => (d p).toInt.toNat) + m := g4
      have hft := hf k hk
      have ik := vp_in_nI hk (show 20 < 2 ^ 31 by decide)
      have same : (A k → fr k = u → ¬ wk_L (ga_G A fr to c) (to k) (to k) → (d' (to k)).toInt ≤ (d' u).toInt + c k + (a_price u).toInt - (a_price (to k)).toInt) → wX_goWithPrices_113 post (wX_goWithPrices_97 post (nI s) n) (nI s) (nI u) n' (nI (k + 1)) f_present (nI m') f_top f_bottom a_fromOf a_toOf a_weightOf a_found a_kept d' a_isLow a_times a_queue a_queued a_price H' P' a_group a_badGroup a_cameBy a_table a_table2 a_byCount := fun hn =>
        ih' (m', d', H', P') ⟨dj_no hk g1 hn, g2, g3, g4⟩
      show wX_goWithPrices_113 post (wX_goWithPrices_97 post (nI s) n) (nI s) (nI u) (n' + 1) (nI k) f_present (nI m') f_top f_bottom a_fromOf a_toOf a_weightOf a_found a_kept d' a_isLow a_times a_queue a_queued a_price H' P' a_group a_badGroup a_cameBy a_table a_table2 a_byCount
      refine br_f (nI_ge hk (by decide)) ?_
      refine xs_has hg hk (fun hA => br_f (by decide) (And.intro ik ?_)) (fun hA => br_t rfl (nm_r (nI_1 k) (same fun z => absurd z hA)))
      rw [xg_f hg hk, xg_t hg hk]
      refine pk_eq (fr k) u (fun efu => And.intro ik ?_) (fun efu => nm_r (nI_1 k) (same fun _ z => absurd z efu))
      refine xs_isGood hd hft.2 (fun gv => br_f (by decide) (And.intro ik (And.intro ik ?_))) (fun gv => br_t rfl (nm_r (nI_1 k) (same fun _ _ z => absurd gv z)))
      have hwk := xg_w hg hk
      have hck := xg_c hg hk
      have hpu := hpr.1 u hu
      have hpv := hpr.1 (to k) hft.2
      have hdu := g1.1 u hu
      have hdv := g1.1 (to k) hft.2
      have hdu : 0 ≤ (d' u).toInt ∧ (d' u).toInt ≤ 1048576 := hdu
      have hdv : 0 ≤ (d' (to k)).toInt ∧ (d' (to k)).toInt ≤ 1048576 := hdv
      have hred := hpr.2 k hk hA (by rw [efu]; exact hgu.1) gv
      rw [efu] at hred
      have hred : (a_price (to k)).toInt ≤ (a_price u).toInt + c k := hred
      refine xs_nearer hu hft.2 g2 rfl (by rw [hwk]; exact hck) hdu hpu hpv (fun hle => nm_r (nI_1 k) (same fun _ _ _ => by rw [hwk] at hle; exact hle)) (fun hlt x H2 P2 m2 hx hm2 hH2 hP2 => nm_r (nI_1 k) (ih' (m2, upd d' (to k) x, H2, P2) ⟨?_, hH2, ?_, ?_⟩))
      · rw [hwk] at hlt hx
        refine dj_yes hf hk g1 hA efu gv g3 hlt (by show 0 ≤ (d' u).toInt + c k + (a_price u).toInt - (a_price (to k)).toInt; omega) (by show (upd d' (to k) x (to k)).toInt = _; rw [tb_us]; exact hx) (fun j hj => by show (upd d' (to k) x j).toInt = _; rw [tb_un hj]) fun p hp => ?_
        show P2 p ≠ -1 ↔ P' p ≠ -1 ∨ p = to k
        rw [ne_eq, hP2 p hp]
        by_cases e : p = to k
        · exact ⟨fun _ => Or.inr e, fun _ z => z.2 e⟩
        · exact ⟨fun z => Or.inl fun y => z ⟨y, e⟩, fun z y => z.elim (fun z => z y.1) e⟩
      · rw [hwk] at hlt hx
        show (upd d' (to k) x u).toInt < 1048576
        by_cases e : u = to k
        · have e' : upd d' (to k) x u = x := by rw [e, pk_us]
          rw [e', hx]; omega
        · rw [tb_un e]; exact g3
      · rw [hwk] at hlt hx
        have hq := qx_s1 (g := fun p => (d' p).toInt.toNat) (g' := fun p => (upd d' (to k) x p).toInt.toNat) hft.2 (fun j => by
          by_cases e : j = to k
          · show (upd d' (to k) x j).toInt.toNat ≤ (d' j).toInt.toNat
            rw [e, tb_us, hx]; omega
          · show (upd d' (to k) x j).toInt.toNat ≤ (d' j).toInt.toNat
            rw [tb_un e]; omega) (by
          show (upd d' (to k) x (to k)).toInt.toNat + 1 ≤ (d' (to k)).toInt.toNat
          rw [tb_us, hx]; omega)
        show 8 * qx_s (fun p => (upd d' (to k) x p).toInt.toNat) + m2 ≤ 8 * qx_s (fun p => (d p).toInt.toNat) + m
        omega
theorem xs_goWithPrices (hg : xg_I f_present a_fromOf a_toOf a_weightOf A fr to c) (hd : gd_I (ga_G A fr to c) a_group a_badGroup) (hpr : pr_I A fr to c (fun p => (a_price p).toInt)) {post : SX → Prop} {s : Nat} (hs : s < 7)
    (h : ∀ (hz : Int32) (d l H P f : Nat → Int32), (∀ t, t < 7 → fd_F (ga_G A fr to c) s t (f (s * 7 + t)).toInt) → (∀ i, (i < s * 7 ∨ s * 7 + 7 ≤ i) → f i = a_found i) → post (f_present, hz, f_top, f_bottom, a_fromOf, a_toOf, a_weightOf, f, a_kept, d, l, a_times, a_queue, a_queued, a_price, H, P, a_group, a_badGroup, a_cameBy, a_table, a_table2, a_byCount)) : wpX_goWithPrices post (f_present, f_heapSize, f_top, f_bottom, a_fromOf, a_toOf, a_weightOf, a_found, a_kept, a_dist, a_isLow, a_times, a_queue, a_queued, a_price, a_heap, a_heapPlace, a_group, a_badGroup, a_cameBy, a_table, a_table2, a_byCount) (nI s) := by
  have hG := xg_7 hg
  have hf : ∀ j, j < 20 → fr j < 7 ∧ to j < 7 := fun j hj => ⟨xg_f7 hg hj, xg_t7 hg hj⟩
  unfold wpX_goWithPrices
  refine xs_startFrom hs fun d0 l0 hd0 hl0 => ?_
  refine xs_sp1 hg hs fun r hr => ?_
  refine loop_0 (σ := Int32 × (Nat → Int32)) (fun n i z => wX_goWithPrices_18 post (nI s) r f_present f_heapSize f_top f_bottom n z.1 (nI i) a_fromOf a_toOf a_weightOf a_found a_kept d0 l0 a_times a_queue a_queued a_price a_heap z.2 a_group a_badGroup a_cameBy a_table a_table2 a_byCount) (fun i z => (∀ q, bt z.1 q = true ↔ q < i ∧ wk_R (ga_G A fr to c) s q ∧ wk_L (ga_G A fr to c) q q) ∧ (∀ p, p < i → z.2 p = -1)) 7 (0, a_heapPlace) ⟨fun q => ⟨fun z => by rw [b_0] at z; exact absurd z (by decide), fun z => absurd z.1 (Nat.not_lt_zero q)⟩, fun p hp => absurd hp (Nat.not_lt_zero p)⟩ ?_ ?_
  · intro n z hz
    obtain ⟨bad, P0⟩ := z
    obtain ⟨hb, hP0⟩ := hz
    have hb : ∀ q, bt bad q = true ↔ q < 7 ∧ wk_R (ga_G A fr to c) s q ∧ wk_L (ga_G A fr to c) q q := hb
    have hP0 : ∀ p, p < 7 → P0 p = -1 := hP0
    refine br_t (nI_le (Nat.le_refl 7) (by decide)) ?_
    refine xs_lowerFrom hg (fun i hi => ((hb i).mp hi).1) fun l hl => ?_
    have hlow : ∀ p, p < 7 → (l p ≠ 0 ↔ wk_L (ga_G A fr to c) s p) := by
      intro p hp
      rw [hl p hp, ← dj_low]
      refine ⟨fun z => z.elim (fun z => absurd (hl0 p hp) z) fun ⟨q, hq, hr⟩ => ⟨q, ((hb q).mp hq).2, hr⟩, fun ⟨q, hq, hr⟩ => Or.inr ⟨q, (hb q).mpr ⟨rc_b hG hq.1 hs, hq⟩, hr⟩⟩
    have hsum : ∀ p, p < 7 → 0 ≤ (d0 p).toInt ∧ (d0 p).toInt ≤ 1048576 := by
      intro p hp
      rw [hd0 p hp]
      by_cases e : p = s
      · rw [if_pos e]; omega
      · rw [if_neg e]; omega
    have base : ∀ P : Nat → Int32, (wk_L (ga_G A fr to c) s s ∨ P s ≠ -1) → (∀ p, p < 7 → P p ≠ -1 → p = s ∧ ¬ wk_L (ga_G A fr to c) s s) → dj_I A fr to c s (fun p => (a_price p).toInt) (fun _ => False) (fun p => (d0 p).toInt) (fun p => P p ≠ -1) := by
      intro P hPs hPo
      have hds : (d0 s).toInt = 0 := by rw [hd0 s hs, if_pos rfl]
      have hdo : ∀ p, p < 7 → (d0 p).toInt < 1048576 → p = s := by
        intro p hp hlt
        refine Classical.byContradiction fun e => ?_
        rw [hd0 p hp, if_neg e] at hlt
        omega
      refine ⟨hsum, ?_, by show (d0 s).toInt ≤ 0; omega, ?_, ?_⟩
      · intro b hb hlt
        have hlt : (d0 b).toInt < 1048576 := hlt
        obtain rfl := hdo b hb hlt
        refine ⟨0, wk_e (wk_0 b) ?_⟩
        show (0 : Int) = (d0 b).toInt + (a_price b).toInt - (a_price b).toInt
        omega
      · intro j hj hA _ n1 n2 n3 hlt
        have e := hdo _ (hf j hj).1 hlt
        rw [e] at n1 n3
        exact absurd (hPs.resolve_left n1) n3
      · intro p hp hx
        obtain ⟨e, hn⟩ := hPo p hp hx
        subst e
        exact ⟨hn, by show (d0 p).toInt < 1048576; omega⟩
    refine xs_isGood hd hs (fun gs => br_f (by decide) ?_) (fun gs => br_t rfl ?_)
    · refine xs_setPlace (i := 0) (by omega) hs ?_
      refine xs_goLoop hg hd hpr (m0 := 1) hs (base _ (Or.inr (by rw [pk_us]; decide)) fun p hp hx => ?_) ⟨fun i hi => ?_, fun p hp => ?_⟩ hlow fun hz d H P f h1 h2 => h hz d l H P f h1 h2
      · by_cases e : p = s
        · exact ⟨e, gs⟩
        · rw [pk_un e] at hx; exact absurd (hP0 p hp) hx
      · obtain rfl : i = 0 := by omega
        exact ⟨s, hs, pk_us, pk_us⟩
      · by_cases e : p = s
        · rw [e]; exact Or.inr ⟨0, by omega, pk_us, pk_us⟩
        · rw [pk_un e]; exact Or.inl (hP0 p hp)
    · exact xs_goLoop hg hd hpr (m0 := 0) hs (base _ (Or.inl gs) fun p hp hx => absurd (hP0 p hp) hx) ⟨fun i hi => absurd hi (Nat.not_lt_zero i), fun p hp => Or.inl (hP0 p hp)⟩ hlow fun hz d H P f h1 h2 => h hz d l H P f h1 h2
  · intro n i z hi hz ih
    obtain ⟨bad, P0⟩ := z
    obtain ⟨hb, hP0⟩ := hz
    have hb : ∀ q, bt bad q = true ↔ q < i ∧ wk_R (ga_G A fr to c) s q ∧ wk_L (ga_G A fr to c) q q := hb
    have hP0 : ∀ p, p < i → P0 p = -1 := hP0
    have hP1 : ∀ p, p < i + 1 → upd P0 i (-1) p = -1 := by
      intro p hp
      by_cases e : p = i
      · rw [e, pk_us]
      · rw [pk_un e]; exact hP0 p (by omega)
    have no : ¬ (wk_R (ga_G A fr to c) s i ∧ wk_L (ga_G A fr to c) i i) → wX_goWithPrices_51 post (wX_goWithPrices_18 post (nI s) r f_present f_heapSize f_top f_bottom n) (nI s) r (nI i) bad f_present f_heapSize f_top f_bottom a_fromOf a_toOf a_weightOf a_found a_kept d0 l0 a_times a_queue a_queued a_price a_heap P0 a_group a_badGroup a_cameBy a_table a_table2 a_byCount := by
      intro hn
      refine nm_r (bs_or0 bad) (And.intro (vp_in_nI hi (by decide)) (nm_r (up_i rfl (by omega) nb_m1') (nm_r (nI_1 i) (ih (bad, upd P0 i (-1)) ⟨fun q => ?_, hP1⟩))))
      show bt bad q = true ↔ _
      rw [hb q]
      refine ⟨fun z => ⟨by omega, z.2⟩, fun z => ⟨?_, z.2⟩⟩
      have : q ≠ i := fun e => hn (e ▸ z.2)
      omega
    show wX_goWithPrices_18 post (nI s) r f_present f_heapSize f_top f_bottom (n + 1) bad (nI i) a_fromOf a_toOf a_weightOf a_found a_kept d0 l0 a_times a_queue a_queued a_price a_heap P0 a_group a_badGroup a_cameBy a_table a_table2 a_byCount
    refine br_f (nI_ge hi (by decide)) (bs_br i (fun hz => no fun z => hz ((hr i).mpr ⟨hi, z.1⟩)) (fun hz => ?_))
    refine xs_isGood hd hi (fun gi => br_f (by decide) (no fun z => gi z.2)) (fun gi => br_t rfl ?_)
    refine nm_e (And.intro (vp_in_nI hi (by decide)) (nm_r (up_i rfl (by omega) nb_m1') (nm_r (nI_1 i) (ih (_, upd P0 i (-1)) ⟨fun q => ?_, hP1⟩))))
    show bt (bad ||| ((1 : Int32) <<< (nI i &&& 31))) q = true ↔ _
    by_cases hq : q < 32
    · rw [bs_or (p := i) (by omega) rfl hq, hb q]
      constructor
      · intro z
        rcases z with z | z
        · exact ⟨by omega, z.2⟩
        · subst z; exact ⟨by omega, ((hr q).mp hz).2, gi⟩
      · intro z
        by_cases e : q = i
        · exact Or.inr e
        · exact Or.inl ⟨by omega, z.2⟩
    · rw [b_big (by omega)]
      exact ⟨fun z => absurd z (by decide), fun z => by omega⟩
end DX
end
section
/-! solve, whatever the engine -/
section SO
variable {f_present f_heapSize f_top f_bottom : Int32} {a_fromOf a_toOf a_weightOf a_found a_kept a_dist a_isLow a_times a_queue a_queued a_price a_heap a_heapPlace a_group a_badGroup a_cameBy a_table a_table2 a_byCount : Nat → Int32} {A : Nat → Prop} {fr to : Nat → Nat} {c : Nat → Int}
theorem so_row {G : Nat → Nat → Int → Prop} {f f' : Nat → Int32} {i : Nat} (h : ∀ s t, s < i → t < 7 → fd_F G s t (f (s * 7 + t)).toInt) (h1 : ∀ t, t < 7 → fd_F G i t (f' (i * 7 + t)).toInt) (h2 : ∀ j, (j < i * 7 ∨ i * 7 + 7 ≤ j) → f' j = f j) : ∀ s t, s < i + 1 → t < 7 → fd_F G s t (f' (s * 7 + t)).toInt := by
  intro s t hs ht
  by_cases e : s = i
  · subst e; exact h1 t ht
  · rw [h2 _ (Or.inl (by omega))]; exact h s t (by omega) ht
theorem xs_solve (hg : xg_I f_present a_fromOf a_toOf a_weightOf A fr to c) {post : SX → Prop} {e : Nat} (he : e < 5) (h : ∀ (hz : Int32) (f d l tm qu qd pr H P gr bd T T2 : Nat → Int32), (∀ a b, a < 7 → b < 7 → fd_F (ga_G A fr to c) a b (f (a * 7 + b)).toInt) → post (f_present, hz, f_top, f_bottom, a_fromOf, a_toOf, a_weightOf, f, a_kept, d, l, tm, qu, qd, pr, H, P, gr, bd, a_cameBy, T, T2, a_byCount)) : wpX_solve post (f_present, f_heapSize, f_top, f_bottom, a_fromOf, a_toOf, a_weightOf, a_found, a_kept, a_dist, a_isLow, a_times, a_queue, a_queued, a_price, a_heap, a_heapPlace, a_group, a_badGroup, a_cameBy, a_table, a_table2, a_byCount) (nI e) := by
  unfold wpX_solve
  refine pk_eq e 3 (fun _ => xs_overMiddles hg fun T f hf => h _ f _ _ _ _ _ _ _ _ _ _ T _ hf) (fun n3 => ?_)
  refine pk_eq e 4 (fun _ => xs_doubling hg fun T T2 f hf => h _ f _ _ _ _ _ _ _ _ _ _ T T2 hf) (fun n4 => ?_)
  refine pk_eq e 2 (fun e2 => ?_) (fun n2 => ?_)
  · subst e2
    refine xs_findGroups hg fun pr0 gr bd hgd => ?_
    refine xs_findPrices hg hgd fun pr hpr => ?_
    refine loop_0 (σ := Int32 × (Nat → Int32) × (Nat → Int32) × (Nat → Int32) × (Nat → Int32) × (Nat → Int32)) (fun n i z => wX_solve_35 post (nI 2) n (nI i) f_present z.1 f_top f_bottom a_fromOf a_toOf a_weightOf z.2.2.2.2.2 a_kept z.2.1 z.2.2.1 a_times a_queue a_queued pr z.2.2.2.1 z.2.2.2.2.1 gr bd a_cameBy a_table a_table2 a_byCount) (fun i z => ∀ s t, s < i → t < 7 → fd_F (ga_G A fr to c) s t (z.2.2.2.2.2 (s * 7 + t)).toInt) 7 (f_heapSize, a_dist, a_isLow, a_heap, a_heapPlace, a_found) (fun s t hs => absurd hs (Nat.not_lt_zero s)) ?_ ?_
    · intro n z hz
      exact br_t (nI_le (Nat.le_refl 7) (by decide)) (h _ _ _ _ _ _ _ _ _ _ _ _ _ _ (fun a b ha hb => hz a b ha hb))
    · intro n i z hi hz ih
      refine br_f (nI_ge hi (by decide)) (br_f (by decide) (br_f (by decide) ?_))
      exact xs_goWithPrices hg hgd hpr hi fun hz' d l H P f h1 h2 => nm_r (nI_1 i) (ih (hz', d, l, H, P, f) (so_row hz h1 h2))
  · have e01 : e = 0 ∨ e = 1 := by omega
    rcases e01 with rfl | rfl
    · refine loop_0 (σ := (Nat → Int32) × (Nat → Int32) × (Nat → Int32)) (fun n i z => wX_solve_35 post (nI 0) n (nI i) f_present f_heapSize f_top f_bottom a_fromOf a_toOf a_weightOf z.2.2 a_kept z.1 z.2.1 a_times a_queue a_queued a_price a_heap a_heapPlace a_group a_badGroup a_cameBy a_table a_table2 a_byCount) (fun i z => ∀ s t, s < i → t < 7 → fd_F (ga_G A fr to c) s t (z.2.2 (s * 7 + t)).toInt) 7 (a_dist, a_isLow, a_found) (fun s t hs => absurd hs (Nat.not_lt_zero s)) ?_ ?_
      · intro n z hz
        exact br_t (nI_le (Nat.le_refl 7) (by decide)) (h _ _ _ _ _ _ _ _ _ _ _ _ _ _ (fun a b ha hb => hz a b ha hb))
      · intro n i z hi hz ih
        refine br_f (nI_ge hi (by decide)) (br_t rfl ?_)
        exact xs_goByRounds hg hi fun d l f h1 h2 => nm_r (nI_1 i) (ih (d, l, f) (so_row hz h1 h2))
    · refine loop_0 (σ := (Nat → Int32) × (Nat → Int32) × (Nat → Int32) × (Nat → Int32) × (Nat → Int32) × (Nat → Int32)) (fun n i z => wX_solve_35 post (nI 1) n (nI i) f_present f_heapSize f_top f_bottom a_fromOf a_toOf a_weightOf z.2.2.2.2.2 a_kept z.1 z.2.1 z.2.2.1 z.2.2.2.1 z.2.2.2.2.1 a_price a_heap a_heapPlace a_group a_badGroup a_cameBy a_table a_table2 a_byCount) (fun i z => ∀ s t, s < i → t < 7 → fd_F (ga_G A fr to c) s t (z.2.2.2.2.2 (s * 7 + t)).toInt) 7 (a_dist, a_isLow, a_times, a_queue, a_queued, a_found) (fun s t hs => absurd hs (Nat.not_lt_zero s)) ?_ ?_
      · intro n z hz
        exact br_t (nI_le (Nat.le_refl 7) (by decide)) (h _ _ _ _ _ _ _ _ _ _ _ _ _ _ (fun a b ha hb => hz a b ha hb))
      · intro n i z hi hz ih
        refine br_f (nI_ge hi (by decide)) (br_f (by decide) (br_t rfl ?_))
        exact xs_goByQueue hg hi fun d l tm qu qd f h1 h2 => nm_r (nI_1 i) (ih (d, l, tm, qu, qd, f) (so_row hz h1 h2))
end SO
end
section
/-! least weights of walks with just n arcs, pure -/
def mn_I (W : Int → Prop) (N x : Int) : Prop := (x = N ∧ ∀ w, ¬ W w) ∨ (x ≠ N ∧ W x ∧ ∀ w, W w → x ≤ w)
theorem mn_c {W W' : Int → Prop} {N x : Int} (h : mn_I W N x) (e : ∀ w, W w ↔ W' w) : mn_I W' N x := by
  rcases h with ⟨h1, h2⟩ | ⟨h0, h1, h2⟩
  · exact Or.inl ⟨h1, fun w z => h2 w ((e w).mpr z)⟩
  · exact Or.inr ⟨h0, (e x).mp h1, fun w z => h2 w ((e w).mpr z)⟩
theorem mn_u {W : Int → Prop} {N x y : Int} (h : mn_I W N x) (h' : mn_I W N y) : x = y := by
  rcases h with ⟨h1, h2⟩ | ⟨h0, h1, h2⟩
  · rcases h' with ⟨k1, k2⟩ | ⟨k0, k1, k2⟩
    · omega
    · exact absurd k1 (h2 _)
  · rcases h' with ⟨k1, k2⟩ | ⟨k0, k1, k2⟩
    · exact absurd h1 (k2 _)
    · have := h2 _ k1
      have := k2 _ h1
      omega
/-- one more set of weights, whose least is x -/
theorem mn_add {W W' : Int → Prop} {N x y y' : Int} (h : mn_I W N y) (hx : W' x) (hx' : ∀ w, W' w → x ≤ w) (hN : x ≠ N) (hy : (y = N ∧ y' = x) ∨ (y ≠ N ∧ x < y ∧ y' = x) ∨ (y ≠ N ∧ y ≤ x ∧ y' = y)) : mn_I (fun w => W w ∨ W' w) N y' := by
  rcases h with ⟨h1, h2⟩ | ⟨h0, h1, h2⟩
  · rcases hy with ⟨_, e⟩ | ⟨e, _⟩ | ⟨e, _⟩
    · subst e; exact Or.inr ⟨hN, Or.inr hx, fun w z => z.elim (fun z => absurd z (h2 w)) (hx' w)⟩
    · exact absurd h1 e
    · exact absurd h1 e
  · rcases hy with ⟨e, _⟩ | ⟨_, hlt, e⟩ | ⟨_, hle, e⟩
    · exact absurd e h0
    · subst e
      refine Or.inr ⟨hN, Or.inr hx, fun w z => z.elim (fun z => ?_) (hx' w)⟩
      have := h2 w z; omega
    · subst e
      refine Or.inr ⟨h0, Or.inl h1, fun w z => z.elim (h2 w) fun z => ?_⟩
      have := hx' w z; omega
/-- layers up to L stand, layer L + 1 by the arcs below k -/
def wl_I (A : Nat → Prop) (fr to : Nat → Nat) (c : Nat → Int) (S : Nat → Prop) (N : Int) (L k : Nat) (T : Nat → Int) : Prop :=
  (∀ n v, n ≤ L → v < 7 → mn_I (fun w => ∃ a, S a ∧ wk_W (ga_G A fr to c) n a v w) N (T (7 * n + v))) ∧
  (L < 7 → ∀ v, v < 7 → mn_I (fun w => ∃ j a w1, j < k ∧ A j ∧ to j = v ∧ S a ∧ wk_W (ga_G A fr to c) L a (fr j) w1 ∧ w = w1 + c j) N (T (7 * (L + 1) + v))) ∧
  (∀ n v, L + 1 < n → n ≤ 7 → v < 7 → T (7 * n + v) = N)
section WLI
variable {A : Nat → Prop} {fr to : Nat → Nat} {c : Nat → Int} {S : Nat → Prop} {N : Int}
theorem wl_rd {L : Nat} {T : Nat → Int} (hL : L < 7) (h : wl_I A fr to c S N L 20 T) : wl_I A fr to c S N (L + 1) 0 T := by
  obtain ⟨h1, h2, h3⟩ := h
  refine ⟨fun n v hn hv => ?_, fun h7 v hv => Or.inl ⟨h3 _ v (by omega) (by omega) hv, fun w ⟨j, _, _, hj, _⟩ => absurd hj (Nat.not_lt_zero j)⟩, fun n v hn => h3 n v (by omega)⟩
  by_cases e : n ≤ L
  · exact h1 n v e hv
  · obtain rfl : n = L + 1 := by omega
    refine mn_c (h2 hL v hv) fun w => ⟨fun ⟨j, a, w1, hj, hA, ht, hS, hW, e⟩ => ⟨a, hS, ?_⟩, fun ⟨a, hS, d, w1, w2, hW, ⟨j, hj, hA, e1, e2, e3⟩, e⟩ => ⟨j, a, w1, hj, hA, e2, hS, ?_, ?_⟩⟩
    · subst ht e; exact wk_s hW (ga_i hj hA)
    · rw [e1]; exact hW
    · rw [e3]; exact e
theorem wl_no {L k : Nat} {T : Nat → Int} (h : wl_I A fr to c S N L k T) (hn : A k → ∀ a w, S a → ¬ wk_W (ga_G A fr to c) L a (fr k) w) : wl_I A fr to c S N L (k + 1) T := by
  obtain ⟨h1, h2, h3⟩ := h
  refine ⟨h1, fun h7 v hv => mn_c (h2 h7 v hv) fun w => ⟨fun ⟨j, a, w1, hj, r⟩ => ⟨j, a, w1, by omega, r⟩, fun ⟨j, a, w1, hj, hA, ht, hS, hW, e⟩ => ?_⟩, h3⟩
  by_cases ej : j = k
  · subst ej; exact absurd hW (hn hA a w1 hS)
  · exact ⟨j, a, w1, by omega, hA, ht, hS, hW, e⟩
theorem wl_st {L k : Nat} {T T' : Nat → Int} (hL : L < 7) (hft : fr k < 7 ∧ to k < 7) (h : wl_I A fr to c S N L k T) (hA : A k) (hne : T (7 * L + fr k) ≠ N) (hN : T (7 * L + fr k) + c k ≠ N) (hy : (T (7 * (L + 1) + to k) = N ∧ T' (7 * (L + 1) + to k) = T (7 * L + fr k) + c k) ∨ (T (7 * (L + 1) + to k) ≠ N ∧ T (7 * L + fr k) + c k < T (7 * (L + 1) + to k) ∧ T' (7 * (L + 1) + to k) = T (7 * L + fr k) + c k) ∨ (T (7 * (L + 1) + to k) ≠ N ∧ T (7 * (L + 1) + to k) ≤ T (7 * L + fr k) + c k ∧ T' (7 * (L + 1) + to k) = T (7 * (L + 1) + to k))) (ho : ∀ j, j ≠ 7 * (L + 1) + to k → T' j = T j) : wl_I A fr to c S N L (k + 1) T' := by
  obtain ⟨h1, h2, h3⟩ := h
  have hm := h1 L (fr k) (Nat.le_refl L) hft.1
  obtain ⟨a0, hS0, hW0, hmin⟩ : ∃ a, S a ∧ wk_W (ga_G A fr to c) L a (fr k) (T (7 * L + fr k)) ∧ ∀ a' w, S a' → wk_W (ga_G A fr to c) L a' (fr k) w → T (7 * L + fr k) ≤ w := by
    rcases hm with ⟨e, _⟩ | ⟨_, ⟨a, hS, hW⟩, hmin⟩
    · exact absurd e hne
    · exact ⟨a, hS, hW, fun a' w hS' hW' => hmin w ⟨a', hS', hW'⟩⟩
  refine ⟨fun n v hn hv => ?_, fun h7 v hv => ?_, fun n v hn h7 hv => ?_⟩
  · rw [ho _ (by omega)]; exact h1 n v hn hv
  · by_cases e : v = to k
    · subst e
      have := mn_add (W' := fun w => ∃ a w1, S a ∧ wk_W (ga_G A fr to c) L a (fr k) w1 ∧ w = w1 + c k) (h2 h7 (to k) hv) ⟨a0, _, hS0, hW0, rfl⟩ (fun w ⟨a, w1, hS, hW, e⟩ => by have := hmin a w1 hS hW; omega) hN hy
      refine mn_c this fun w => ⟨fun z => ?_, fun ⟨j, a, w1, hj, hAj, ht, hS, hW, e⟩ => ?_⟩
      · rcases z with ⟨j, a, w1, hj, r⟩ | ⟨a, w1, hS, hW, e⟩
        · exact ⟨j, a, w1, by omega, r⟩
        · exact ⟨k, a, w1, by omega, hA, rfl, hS, hW, e⟩
      · by_cases ej : j = k
        · subst ej; exact Or.inr ⟨a, w1, hS, hW, e⟩
        · exact Or.inl ⟨j, a, w1, by omega, hAj, ht, hS, hW, e⟩
    · rw [ho _ (by omega)]
      refine mn_c (h2 h7 v hv) fun w => ⟨fun ⟨j, a, w1, hj, r⟩ => ⟨j, a, w1, by omega, r⟩, fun ⟨j, a, w1, hj, hAj, ht, hS, hW, e'⟩ => ?_⟩
      have : j ≠ k := fun z => e (by rw [← ht, z])
      exact ⟨j, a, w1, by omega, hAj, ht, hS, hW, e'⟩
  · rw [ho _ (by omega)]; exact h3 n v hn h7 hv
theorem wl_bd (hw : ∀ a b w, ga_G A fr to c a b w → -20 ≤ w ∧ w ≤ 20) {L k : Nat} {T : Nat → Int} (h : wl_I A fr to c S N L k T) {n v : Nat} (hn : n ≤ L) (h7 : n ≤ 7) (hv : v < 7) (hne : T (7 * n + v) ≠ N) : -140 ≤ T (7 * n + v) ∧ T (7 * n + v) ≤ 140 := by
  rcases h.1 n v hn hv with ⟨e, _⟩ | ⟨_, ⟨a, hS, hW⟩, _⟩
  · exact absurd e hne
  · have e1 := wk_le (C := 20) (fun a b w g => (hw a b w g).2) _ _ _ _ hW
    have e2 := wk_ge (C := 20) (fun a b w g => (hw a b w g).1) _ _ _ _ hW
    omega
end WLI
/-- the reference's shortest: layers below k -/
def sm_F (T : Nat → Int) (v : Nat) : Nat → Int
  | 0 => -3000
  | k + 1 => if T (7 * k + v) = -3000 then sm_F T v k else if sm_F T v k = -3000 then T (7 * k + v) else if sm_F T v k ≤ T (7 * k + v) then sm_F T v k else T (7 * k + v)
section SMF
variable {A : Nat → Prop} {fr to : Nat → Nat} {c : Nat → Int} {s : Nat}
theorem sm_I {T : Nat → Int} (h : wl_I A fr to c (fun a => a = s) (-3000) 7 0 T) {v : Nat} (hv : v < 7) : ∀ k, k ≤ 7 → mn_I (fun w => ∃ n, n < k ∧ wk_W (ga_G A fr to c) n s v w) (-3000) (sm_F T v k) := by
  intro k
  induction k with
  | zero => intro _; exact Or.inl ⟨rfl, fun w ⟨n, hn, _⟩ => absurd hn (Nat.not_lt_zero n)⟩
  | succ k ih =>
    intro hk
    have ihk := ih (by omega)
    have hm := h.1 k v (by omega) hv
    show mn_I _ _ (if T (7 * k + v) = -3000 then sm_F T v k else if sm_F T v k = -3000 then T (7 * k + v) else if sm_F T v k ≤ T (7 * k + v) then sm_F T v k else T (7 * k + v))
    by_cases e : T (7 * k + v) = -3000
    · rw [if_pos e]
      refine mn_c ihk fun w => ⟨fun ⟨n, hn, r⟩ => ⟨n, by omega, r⟩, fun ⟨n, hn, r⟩ => ?_⟩
      by_cases en : n = k
      · subst en
        rcases hm with ⟨_, z⟩ | ⟨z, _⟩
        · exact absurd ⟨s, rfl, r⟩ (z w)
        · exact absurd e z
      · exact ⟨n, by omega, r⟩
    · rw [if_neg e]
      rcases hm with ⟨z, _⟩ | ⟨_, ⟨a, ea, hW⟩, hmin⟩
      · exact absurd z e
      · have ea : a = s := ea
        subst ea
        have := mn_add (W' := fun w => wk_W (ga_G A fr to c) k a v w) ihk hW (fun w hw => hmin w ⟨a, rfl, hw⟩) e (y' := if sm_F T v k = -3000 then T (7 * k + v) else if sm_F T v k ≤ T (7 * k + v) then sm_F T v k else T (7 * k + v)) (by
          by_cases e1 : sm_F T v k = -3000
          · rw [if_pos e1]; exact Or.inl ⟨e1, rfl⟩
          · rw [if_neg e1]
            by_cases e2 : sm_F T v k ≤ T (7 * k + v)
            · rw [if_pos e2]; exact Or.inr (Or.inr ⟨e1, e2, rfl⟩)
            · rw [if_neg e2]; exact Or.inr (Or.inl ⟨e1, by omega, rfl⟩))
        refine mn_c this fun w => ⟨fun z => z.elim (fun ⟨n, hn, r⟩ => ⟨n, by omega, r⟩) fun r => ⟨k, by omega, r⟩, fun ⟨n, hn, r⟩ => ?_⟩
        by_cases en : n = k
        · subst en; exact Or.inr r
        · exact Or.inl ⟨n, by omega, r⟩
/-- a walk of seven arcs that weighs less than all shorter ones: a ring below 0 -/
theorem sm_low (hG : ∀ a b w, ga_G A fr to c a b w → a < 7 ∧ b < 7) (hs : s < 7) {T : Nat → Int} (h : wl_I A fr to c (fun a => a = s) (-3000) 7 0 T) {t : Nat} : (∃ v, v < 7 ∧ (T (49 + v) ≠ -3000 ∧ T (49 + v) < sm_F T v 7) ∧ wk_R (ga_G A fr to c) v t) ↔ wk_L (ga_G A fr to c) s t := by
  have h7 : ∀ v, v < 7 → mn_I (fun w => wk_W (ga_G A fr to c) 7 s v w) (-3000) (T (49 + v)) := fun v hv => mn_c (h.1 7 v (Nat.le_refl 7) hv) fun w => ⟨fun ⟨a, ea, hW⟩ => by have ea : a = s := ea; subst ea; exact hW, fun hW => ⟨s, rfl, hW⟩⟩
  constructor
  · intro ⟨v, hv, ⟨f1, f2⟩, hr⟩
    refine lo_r ?_ hr
    rcases h7 v hv with ⟨z, _⟩ | ⟨_, hW, _⟩
    · exact absurd z f1
    · obtain ⟨n', w', h6, _, hW', hle⟩ := wk_sh hG hs 7 7 _ (Nat.le_refl 7) hW
      rcases hle with hle | hle
      · rcases sm_I h hv 7 (Nat.le_refl 7) with ⟨_, z⟩ | ⟨_, _, z⟩
        · exact absurd ⟨n', by omega, hW'⟩ (z w')
        · have := z w' ⟨n', by omega, hW'⟩
          omega
      · exact hle
  · intro hl
    refine Classical.byContradiction fun hn => ?_
    refine pt_lo (D := fun v => sm_F T v 7) ?_ hl
    intro a b w g ra rb
    have hab := hG _ _ _ g
    have hsa := sm_I h hab.1 7 (Nat.le_refl 7)
    have hsb := sm_I h hab.2 7 (Nat.le_refl 7)
    obtain ⟨n0, w0, h60, hW0⟩ := rc_6 hG hs ra
    rcases hsa with ⟨_, z⟩ | ⟨_, ⟨n, hn7, hW⟩, _⟩
    · exact absurd ⟨n0, by omega, hW0⟩ (z w0)
    · have hW1 := wk_s hW g
      rcases hsb with ⟨_, z⟩ | ⟨_, _, z⟩
      · obtain ⟨n1, w1, h61, hW1'⟩ := rc_6 hG hs (rc_w hW1)
        exact absurd ⟨n1, by omega, hW1'⟩ (z w1)
      · show sm_F T b 7 ≤ sm_F T a 7 + w
        by_cases e : n + 1 < 7
        · exact z _ ⟨n + 1, e, hW1⟩
        · obtain rfl : n = 6 := by omega
          rcases h7 b hab.2 with ⟨_, y⟩ | ⟨y0, _, y⟩
          · exact absurd hW1 (y _)
          · have := y _ hW1
            by_cases hf : T (49 + b) < sm_F T b 7
            · exact absurd ⟨b, hab.2, ⟨y0, hf⟩, rb⟩ hn
            · omega
/-- the reference's way -/
def yw_F (G : Nat → Nat → Int → Prop) (s t : Nat) (x : Int) : Prop :=
  (wk_L G s t ∧ x = -4000) ∨ (¬ wk_L G s t ∧ ¬ wk_R G s t ∧ x = -3000) ∨ (¬ wk_L G s t ∧ wk_D G s t x)
theorem sm_way (hG : ∀ a b w, ga_G A fr to c a b w → a < 7 ∧ b < 7) (hs : s < 7) {T : Nat → Int} (h : wl_I A fr to c (fun a => a = s) (-3000) 7 0 T) {t : Nat} (ht : t < 7) (hl : ¬ wk_L (ga_G A fr to c) s t) : yw_F (ga_G A fr to c) s t (sm_F T t 7) := by
  refine Or.inr ?_
  rcases sm_I h ht 7 (Nat.le_refl 7) with ⟨e, z⟩ | ⟨_, ⟨n, hn, hW⟩, z⟩
  · refine Or.inl ⟨hl, fun hr => ?_, e⟩
    obtain ⟨n1, w1, h61, hW1⟩ := rc_6 hG hs hr
    exact z w1 ⟨n1, by omega, hW1⟩
  · exact Or.inr ⟨hl, fd_D6 hG hs hl ⟨n, hW⟩ fun n w h6 hW => z w ⟨n, by omega, hW⟩⟩
end SMF
theorem yw_fd {G : Nat → Nat → Int → Prop} {s t : Nat} {x y : Int} (hb : ∀ d, ¬ wk_L G s t → wk_D G s t d → -120 ≤ d ∧ d ≤ 120) (h : fd_F G s t x) (h' : yw_F G s t y) : y = if x = 1048576 then -3000 else x := by
  rcases h with ⟨l, rfl⟩ | ⟨l, r, rfl⟩ | ⟨l, d⟩
  · rcases h' with ⟨l', rfl⟩ | ⟨l', r', rfl⟩ | ⟨l', d'⟩
    · rfl
    · exact absurd l l'
    · exact absurd l l'
  · rcases h' with ⟨l', rfl⟩ | ⟨l', r', rfl⟩ | ⟨l', d'⟩
    · exact absurd l' l
    · rfl
    · exact absurd ⟨_, _, d'.1.choose_spec⟩ r
  · have := hb x l d
    rw [if_neg (by omega)]
    rcases h' with ⟨l', rfl⟩ | ⟨l', r', rfl⟩ | ⟨l', d'⟩
    · exact absurd l' l
    · exact absurd ⟨_, _, d.1.choose_spec⟩ r'
    · exact wk_Du d' d
end
section
/-! the reference's methods on walks -/
def yg_I (there froms tos weights : Nat → Int32) (A : Nat → Prop) (fr to : Nat → Nat) (c : Nat → Int) : Prop :=
  ∀ k, k < 20 → ((there k ≠ 0 ↔ A k) ∧ froms k = nI (fr k) ∧ fr k < 7 ∧ tos k = nI (to k) ∧ to k < 7 ∧ (weights k).toInt = c k ∧ -20 ≤ c k ∧ c k ≤ 20)
section YG
variable {a_there a_froms a_tos a_weights : Nat → Int32} {A : Nat → Prop} {fr to : Nat → Nat} {c : Nat → Int}
theorem yg_A (hg : yg_I a_there a_froms a_tos a_weights A fr to c) {k : Nat} (hk : k < 20) : a_there (nI k).toNatClampNeg ≠ 0 ↔ A k := by rw [nI_clamp (by omega)]; exact (hg k hk).1
theorem yg_f (hg : yg_I a_there a_froms a_tos a_weights A fr to c) {k : Nat} (hk : k < 20) : a_froms (nI k).toNatClampNeg = nI (fr k) := by rw [nI_clamp (by omega)]; exact (hg k hk).2.1
theorem yg_f7 (hg : yg_I a_there a_froms a_tos a_weights A fr to c) {k : Nat} (hk : k < 20) : fr k < 7 := (hg k hk).2.2.1
theorem yg_t (hg : yg_I a_there a_froms a_tos a_weights A fr to c) {k : Nat} (hk : k < 20) : a_tos (nI k).toNatClampNeg = nI (to k) := by rw [nI_clamp (by omega)]; exact (hg k hk).2.2.2.1
theorem yg_t7 (hg : yg_I a_there a_froms a_tos a_weights A fr to c) {k : Nat} (hk : k < 20) : to k < 7 := (hg k hk).2.2.2.2.1
theorem yg_w (hg : yg_I a_there a_froms a_tos a_weights A fr to c) {k : Nat} (hk : k < 20) : (a_weights (nI k).toNatClampNeg).toInt = c k := by rw [nI_clamp (by omega)]; exact (hg k hk).2.2.2.2.2.1
theorem yg_c (hg : yg_I a_there a_froms a_tos a_weights A fr to c) {k : Nat} (hk : k < 20) : -20 ≤ c k ∧ c k ≤ 20 := (hg k hk).2.2.2.2.2.2
theorem yg_7 (hg : yg_I a_there a_froms a_tos a_weights A fr to c) : ∀ a b w, ga_G A fr to c a b w → a < 7 ∧ b < 7 := by
  intro a b w ⟨k, hk, _, e1, e2, _⟩
  exact ⟨e1 ▸ yg_f7 hg hk, e2 ▸ yg_t7 hg hk⟩
theorem yg_20 (hg : yg_I a_there a_froms a_tos a_weights A fr to c) : ∀ a b w, ga_G A fr to c a b w → -20 ≤ w ∧ w ≤ 20 := by
  intro a b w ⟨k, hk, _, _, _, e3⟩
  exact e3 ▸ yg_c hg hk
theorem yg_br (hg : yg_I a_there a_froms a_tos a_weights A fr to c) {k : Nat} (hk : k < 20) {P Q : Prop} (f : ¬ A k → P) (g : A k → Q) : (a_there (nI k).toNatClampNeg = 0 → P) ∧ (¬ a_there (nI k).toNatClampNeg = 0 → Q) :=
  ⟨fun z => f fun a => (yg_A hg hk).mpr a z, fun z => g ((yg_A hg hk).mp z)⟩
end YG
theorem iy_d {i : Nat} (h : i < 2 ^ 31) : nI i / 20 = nI (i / 20) := pk_div h (by decide) (by decide)
theorem iy_m {i : Nat} (h : i < 2 ^ 31) : nI i - nI i / 20 * 20 = nI (i % 20) := pk_rem h (by decide) (by decide)
theorem iy_n : ¬ (20 : Int32) = 0 := by decide
section YS
variable {f_top f_bottom f_ringPoints : Int32} {a_there a_froms a_tos a_weights a_walks a_ways : Nat → Int32} {A : Nat → Prop} {fr to : Nat → Nat} {c : Nat → Int}
theorem ys_pt1 {post : Int32 → Prop} {p : Nat} (hp : p < 7) (h : post 1) : wpY_point post (f_top, f_bottom, f_ringPoints, a_there, a_froms, a_tos, a_weights, a_walks, a_ways) (nI p) := by
  unfold wpY_point
  exact br_f (nI_pos (by omega)) (br_f (nI_nlt (a := 6) (b := p) (by omega) (by decide)) h)
theorem pt_67 {v : Int32} (h : 7 ≤ v) : 6 < v := by
  rw [Int32.le_iff_toInt_le] at h
  rw [Int32.lt_iff_toInt_lt]
  have e1 : (7 : Int32).toInt = 7 := by decide
  have e2 : (6 : Int32).toInt = 6 := by decide
  omega
theorem ys_pt0 {post : Int32 → Prop} {v : Int32} (hv : v < 0 ∨ 7 ≤ v) (h : post 0) : wpY_point post (f_top, f_bottom, f_ringPoints, a_there, a_froms, a_tos, a_weights, a_walks, a_ways) v := by
  unfold wpY_point
  by_cases h0 : v < 0
  · exact br_t h0 h
  · exact br_f h0 (br_t (pt_67 (hv.resolve_left h0)) h)
theorem ys_is (hg : yg_I a_there a_froms a_tos a_weights A fr to c) {post : Int32 → Prop} {k : Nat} (hk : k < 20) (h1 : A k → post 1) (h0 : ¬ A k → post 0) : wpY_is post (f_top, f_bottom, f_ringPoints, a_there, a_froms, a_tos, a_weights, a_walks, a_ways) (nI k) := by
  unfold wpY_is
  exact br_f (nI_pos (by omega)) (br_f (nI_ge hk (by decide)) (And.intro (vp_in_nI hk (by decide)) (yg_br hg hk h0 h1)))
theorem ys_is0 {post : Int32 → Prop} {v : Int32} (hv : v < 0 ∨ 20 ≤ v) (h : post 0) : wpY_is post (f_top, f_bottom, f_ringPoints, a_there, a_froms, a_tos, a_weights, a_walks, a_ways) v := by
  unfold wpY_is
  by_cases h0 : v < 0
  · exact br_t h0 h
  · exact br_f h0 (br_t (hv.resolve_left h0) h)
theorem ys_walk (hg : yg_I a_there a_froms a_tos a_weights A fr to c) {post : SY → Prop} {s : Nat} (hs : s < 7) (h : ∀ T : Nat → Int32, wl_I A fr to c (fun a => a = s) (-3000) 7 0 (fun i => (T i).toInt) → post (f_top, f_bottom, f_ringPoints, a_there, a_froms, a_tos, a_weights, T, a_ways)) : wpY_walk post (f_top, f_bottom, f_ringPoints, a_there, a_froms, a_tos, a_weights, a_walks, a_ways) (nI s) := by
  have hw := yg_20 hg
  unfold wpY_walk
  refine loop_0 (fun n i T => wY_walk_2 post (nI s) f_top f_bottom f_ringPoints n (nI i) a_there a_froms a_tos a_weights T a_ways) (fun i T => ∀ j, j < i → (T j).toInt = if j = s then 0 else -3000) 56 a_walks (fun j hj => absurd hj (Nat.not_lt_zero j)) ?_ ?_
  · intro n T0 hT0
    refine br_t (nI_le (Nat.le_refl 56) (by decide)) ?_
    refine loop_0 (fun n i T => wY_walk_34 post f_top f_bottom f_ringPoints n (nI i) a_there a_froms a_tos a_weights T a_ways) (fun i T => wl_I A fr to c (fun a => a = s) (-3000) (i / 20) (i % 20) (fun i => (T i).toInt)) 140 T0 ⟨?_, ?_, ?_⟩ ?_ ?_
    · intro n v hn hv
      obtain rfl : n = 0 := by omega
      show mn_I _ _ (T0 (7 * 0 + v)).toInt
      rw [hT0 _ (by omega)]
      by_cases e : 7 * 0 + v = s
      · rw [if_pos e]
        refine Or.inr ⟨by decide, ⟨s, rfl, by omega, rfl⟩, fun w ⟨a, _, _, ew⟩ => by omega⟩
      · rw [if_neg e]
        refine Or.inl ⟨rfl, fun w ⟨a, ea, eb, _⟩ => e ?_⟩
        have ea : a = s := ea
        omega
    · intro _ v hv
      show mn_I _ _ (T0 (7 * (0 / 20 + 1) + v)).toInt
      rw [hT0 _ (by omega), if_neg (by omega)]
      exact Or.inl ⟨rfl, fun w ⟨j, _, _, hj, _⟩ => absurd hj (by omega)⟩
    · intro n v hn h7 hv
      show (T0 (7 * n + v)).toInt = _
      rw [hT0 _ (by omega), if_neg (by omega)]
    · intro n T hT
      exact br_t (nI_le (Nat.le_refl 140) (by decide)) (h T hT)
    · intro n i T hi hT ih
      have hk : i % 20 < 20 := Nat.mod_lt _ (by omega)
      have hL : i / 20 < 7 := by omega
      have hft : fr (i % 20) < 7 ∧ to (i % 20) < 7 := ⟨yg_f7 hg hk, yg_t7 hg hk⟩
      have hck := yg_c hg hk
      have nxt : ∀ T' : Nat → Int32, wl_I A fr to c (fun a => a = s) (-3000) (i / 20) (i % 20 + 1) (fun i => (T' i).toInt) → wl_I A fr to c (fun a => a = s) (-3000) ((i + 1) / 20) ((i + 1) % 20) (fun i => (T' i).toInt) := by
        intro T' hT'
        by_cases e : i % 20 + 1 = 20
        · have e1 : (i + 1) / 20 = i / 20 + 1 := by omega
          have e2 : (i + 1) % 20 = 0 := by omega
          rw [e1, e2]
          rw [e] at hT'
          exact wl_rd hL hT'
        · have e1 : (i + 1) / 20 = i / 20 := by omega
          have e2 : (i + 1) % 20 = i % 20 + 1 := by omega
          rw [e1, e2]
          exact hT'
      have e4 : 7 * nI (i / 20) + nI (fr (i % 20)) = nI (7 * (i / 20) + fr (i % 20)) := ix_7l _ _
      have e5 : 7 * nI (i / 20) + 7 + nI (to (i % 20)) = nI (7 * (i / 20 + 1) + to (i % 20)) := by
        show nI 7 * nI (i / 20) + nI 7 + nI (to (i % 20)) = _
        rw [pk_mul, nI_add, nI_add]
        exact congrArg nI (by omega)
      have c4 : (nI (7 * (i / 20) + fr (i % 20))).toNatClampNeg = 7 * (i / 20) + fr (i % 20) := nI_clamp (by omega)
      have c5 : (nI (7 * (i / 20 + 1) + to (i % 20))).toNatClampNeg = 7 * (i / 20 + 1) + to (i % 20) := nI_clamp (by omega)
      have i3 := vp_in_nI hk (show 20 < 2 ^ 31 by decide)
      have i4 : vp_in (nI (7 * (i / 20) + fr (i % 20))) 56 := vp_in_nI (by omega) (by decide)
      have i5 : vp_in (nI (7 * (i / 20 + 1) + to (i % 20))) 56 := vp_in_nI (by omega) (by decide)
      have same : ∀ x6 : Int32, wl_I A fr to c (fun a => a = s) (-3000) (i / 20) (i % 20 + 1) (fun i => (T i).toInt) → wY_walk_148 post (wY_walk_34 post f_top f_bottom f_ringPoints n) (nI i) (nI (7 * (i / 20 + 1) + to (i % 20))) x6 f_top f_bottom f_ringPoints a_there a_froms a_tos a_weights T a_ways := by
        intro x6 hx
        refine br_t rfl (And.intro i5 (And.intro i5 (nm_r (e' := T) ?_ (nm_r (nI_1 i) (ih T (nxt T hx))))))
        rw [c5, up_self]
      refine br_f (nI_ge hi (by decide)) (And.intro iy_n ?_)
      rw [iy_m (show i < 2 ^ 31 by omega), iy_d (show i < 2 ^ 31 by omega)]
      refine nm_e (And.intro iy_n (And.intro i3 ?_))
      rw [yg_f hg hk, yg_t hg hk, e4, e5]
      refine nm_e (And.intro iy_n (And.intro i3 (nm_e (And.intro i4 (And.intro i3 (nm_e (And.intro i3 ?_)))))))
      rw [c4, c5]
      refine yg_br hg hk (fun hA => same _ (wl_no hT fun z => absurd z hA)) (fun hA => And.intro i4 ?_)
      refine ib_eq (T (7 * (i / 20) + fr (i % 20))).toInt (-3000) (fun e => same _ (wl_no hT fun _ a w hS hW => ?_)) (fun e => And.intro i5 ?_)
      · rcases hT.1 (i / 20) (fr (i % 20)) (Nat.le_refl _) hft.1 with ⟨_, z⟩ | ⟨z, _⟩
        · exact z w ⟨a, hS, hW⟩
        · exact z e
      · have hb := wl_bd hw hT (n := i / 20) (v := fr (i % 20)) (Nat.le_refl _) (by omega) hft.1 e
        have hb : -140 ≤ (T (7 * (i / 20) + fr (i % 20))).toInt ∧ (T (7 * (i / 20) + fr (i % 20))).toInt ≤ 140 := hb
        have hx6 : (T (7 * (i / 20) + fr (i % 20)) + a_weights (nI (i % 20)).toNatClampNeg).toInt = (T (7 * (i / 20) + fr (i % 20))).toInt + c (i % 20) := ia_add rfl (yg_w hg hk) (by omega) (by omega)
        have hset : ((T (7 * (i / 20 + 1) + to (i % 20))).toInt = -3000 ∨ ((T (7 * (i / 20 + 1) + to (i % 20))).toInt ≠ -3000 ∧ (T (7 * (i / 20) + fr (i % 20))).toInt + c (i % 20) < (T (7 * (i / 20 + 1) + to (i % 20))).toInt)) → wY_walk_144 post (wY_walk_34 post f_top f_bottom f_ringPoints n) (nI i) (nI (7 * (i / 20 + 1) + to (i % 20))) (T (7 * (i / 20) + fr (i % 20)) + a_weights (nI (i % 20)).toNatClampNeg) f_top f_bottom f_ringPoints a_there a_froms a_tos a_weights T a_ways := by
          intro hc
          refine br_f (by decide) (And.intro i5 (nm_r (e' := upd T (7 * (i / 20 + 1) + to (i % 20)) (T (7 * (i / 20) + fr (i % 20)) + a_weights (nI (i % 20)).toNatClampNeg)) (by rw [c5]) (nm_r (nI_1 i) (ih _ (nxt _ (wl_st hL hft hT hA e (by show (T (7 * (i / 20) + fr (i % 20))).toInt + c (i % 20) ≠ -3000; omega) ?_ (fun j hj => tb_un hj)))))))
          rcases hc with z | ⟨z1, z2⟩
          · exact Or.inl ⟨z, tb_us.trans hx6⟩
          · exact Or.inr (Or.inl ⟨z1, z2, tb_us.trans hx6⟩)
        refine ib_eq (T (7 * (i / 20 + 1) + to (i % 20))).toInt (-3000) (fun e' => hset (Or.inl e')) (fun e' => And.intro i5 ?_)
        refine ib_le (T (7 * (i / 20 + 1) + to (i % 20))).toInt ((T (7 * (i / 20) + fr (i % 20))).toInt + c (i % 20)) (fun hle => same _ ?_) (fun hlt => hset (Or.inr ⟨e', hlt⟩)) rfl hx6
        exact wl_st hL hft hT hA e (by show (T (7 * (i / 20) + fr (i % 20))).toInt + c (i % 20) ≠ -3000; omega) (Or.inr (Or.inr ⟨e', hle, rfl⟩)) (fun j hj => rfl)
  · intro n i T hi hT ih
    have key : ∀ x : Int32, x.toInt = (if i = s then 0 else -3000) → ∀ j, j < i + 1 → (upd T i x j).toInt = if j = s then 0 else -3000 := by
      intro x hx j hj
      by_cases e : j = i
      · rw [e, tb_us]; exact hx
      · rw [tb_un e]; exact hT j (by omega)
    refine br_f (nI_ge hi (by decide)) (pk_eq i s (fun e => ?_) (fun e => ?_))
    · exact And.intro (vp_in_nI hi (by decide)) (nm_r (up_i rfl (by omega) rfl) (nm_r (nI_1 i) (ih _ (key 0 (by rw [if_pos e]; decide)))))
    · exact And.intro (vp_in_nI hi (by decide)) (nm_r (up_i rfl (by omega) rfl) (nm_r (nI_1 i) (ih _ (key (-3000) (by rw [if_neg e]; decide)))))
theorem ys_shortest {post : Int32 → Prop} {v : Nat} (hv : v < 7) (h : ∀ r : Int32, r.toInt = sm_F (fun i => (a_walks i).toInt) v 7 → post r) : wpY_shortest post (f_top, f_bottom, f_ringPoints, a_there, a_froms, a_tos, a_weights, a_walks, a_ways) (nI v) := by
  unfold wpY_shortest
  refine loop_0 (fun n k r => wY_shortest_6 post (nI v) f_top f_bottom f_ringPoints a_there a_froms a_tos a_weights a_walks a_ways n r (nI k)) (fun k r => r.toInt = sm_F (fun i => (a_walks i).toInt) v k) 7 (-3000) (show (-3000 : Int32).toInt = -3000 by decide) ?_ ?_
  · intro n r hr
    exact br_t (nI_le (Nat.le_refl 7) (by decide)) (h r hr)
  · intro n k r hk hr ih
    have e1 : 7 * nI k + nI v = nI (7 * k + v) := ix_7l _ _
    have c1 : (nI (7 * k + v)).toNatClampNeg = 7 * k + v := nI_clamp (by omega)
    have nxt : ∀ x : Int32, x.toInt = (if (a_walks (7 * k + v)).toInt = -3000 then sm_F (fun i => (a_walks i).toInt) v k else if sm_F (fun i => (a_walks i).toInt) v k = -3000 then (a_walks (7 * k + v)).toInt else if sm_F (fun i => (a_walks i).toInt) v k ≤ (a_walks (7 * k + v)).toInt then sm_F (fun i => (a_walks i).toInt) v k else (a_walks (7 * k + v)).toInt) → wY_shortest_6 post (nI v) f_top f_bottom f_ringPoints a_there a_froms a_tos a_weights a_walks a_ways n x (nI (k + 1)) := fun x hx => ih x hx
    refine br_f (nI_ge hk (by decide)) ?_
    rw [e1, c1]
    refine And.intro (vp_in_nI (by omega) (by decide)) (nm_e ?_)
    refine ib_eq (a_walks (7 * k + v)).toInt (-3000) (fun e => nm_r (nI_1 k) (nxt r ?_)) (fun e => ?_)
    · rw [if_pos e]; exact hr
    · refine ib_eq r.toInt (-3000) (fun e2 => nm_r (nI_1 k) (nxt _ ?_)) (fun e2 => ?_)
      · rw [if_neg e, if_pos (by rw [← hr]; exact e2)]
      · refine ib_le r.toInt (a_walks (7 * k + v)).toInt (fun hle => nm_r (nI_1 k) (nxt _ ?_)) (fun hlt => nm_r (nI_1 k) (nxt _ ?_))
        · rw [if_neg e, if_neg (by rw [← hr]; exact e2), if_pos (by rw [← hr]; exact hle)]; exact hr
        · rw [if_neg e, if_neg (by rw [← hr]; exact e2), if_neg (by rw [← hr]; omega)]
theorem ys_reached (hg : yg_I a_there a_froms a_tos a_weights A fr to c) {post : Int32 → Prop} {s : Nat} (hs : s < 7) (h : ∀ r, (∀ i, bt r i = true ↔ i < 7 ∧ wk_R (ga_G A fr to c) s i) → post r) : wpY_reached post (f_top, f_bottom, f_ringPoints, a_there, a_froms, a_tos, a_weights, a_walks, a_ways) (nI s) := by
  unfold wpY_reached
  refine ys_pt1 hs (br_f (by decide) (nm_e ?_))
  have hset : ∀ q, bt ((1 : Int32) <<< (nI s &&& 31)) q = true → q < 7 := fun q hq => by rw [(bs_i (by omega) q).mp hq]; exact hs
  refine loop_0 (fun n i x => wY_reached_18 post f_top f_bottom f_ringPoints a_there a_froms a_tos a_weights a_walks a_ways n x (nI i)) (fun i x => sp_I A fr to c (fun q => bt ((1 : Int32) <<< (nI s &&& 31)) q = true) (i / 20) (i % 20) (fun q => bt x q = true)) 140 ((1 : Int32) <<< (nI s &&& 31)) (sp_0 hset) ?_ ?_
  · intro n x hx
    refine br_t (nI_le (Nat.le_refl 140) (by decide)) (h x fun i => ?_)
    rw [sp_end (yg_7 hg) hset hx i]
    refine ⟨fun ⟨a, q, hq, b⟩ => ⟨a, ?_⟩, fun ⟨a, b⟩ => ⟨a, s, (bs_i (by omega) s).mpr rfl, b⟩⟩
    rw [(bs_i (by omega) q).mp hq] at b; exact b
  · intro n i x hi hx ih
    have hk : i % 20 < 20 := Nat.mod_lt _ (by omega)
    have i3 := vp_in_nI hk (show 20 < 2 ^ 31 by decide)
    have hf7 := yg_f7 hg hk
    have ht7 := yg_t7 hg hk
    have nxt : ∀ y : Int32, sp_I A fr to c (fun q => bt ((1 : Int32) <<< (nI s &&& 31)) q = true) (i / 20) (i % 20 + 1) (fun q => bt y q = true) → sp_I A fr to c (fun q => bt ((1 : Int32) <<< (nI s &&& 31)) q = true) ((i + 1) / 20) ((i + 1) % 20) (fun q => bt y q = true) := by
      intro y hy
      by_cases e : i % 20 + 1 = 20
      · have e1 : (i + 1) / 20 = i / 20 + 1 := by omega
        have e2 : (i + 1) % 20 = 0 := by omega
        rw [e1, e2]
        rw [e] at hy
        exact sp_rd hy
      · have e1 : (i + 1) / 20 = i / 20 := by omega
        have e2 : (i + 1) % 20 = i % 20 + 1 := by omega
        rw [e1, e2]
        exact hy
    refine br_f (nI_ge hi (by decide)) (And.intro iy_n ?_)
    rw [iy_m (show i < 2 ^ 31 by omega)]
    refine nm_e (And.intro i3 ?_)
    refine yg_br hg hk (fun hA => nm_r (nI_1 i) (ih x (nxt x (sp_no hx fun z => absurd z hA)))) (fun hA => And.intro i3 ?_)
    refine bs_br1 (fr (i % 20)) (fun hb => And.intro i3 (nm_e (nm_r (nI_1 i) (ih _ (nxt _ (sp_yes hk ht7 hx hA hb ?_)))))) (fun hb => nm_r (nI_1 i) (ih x (nxt x (sp_no hx fun _ => hb)))) (yg_f hg hk) (by omega)
    intro q
    by_cases hq : q < 32
    · exact bs_or (by omega) (yg_t hg hk) hq
    · rw [b_big (by omega), b_big (by omega)]
      exact ⟨fun z => absurd z (by decide), fun z => z.elim (fun z => absurd z (by decide)) (fun z => by omega)⟩
theorem ys_low (hg : yg_I a_there a_froms a_tos a_weights A fr to c) {post : Int32 → SY → Prop} {s : Nat} (hs : s < 7) (h : ∀ (r : Int32) (T : Nat → Int32), (∀ i, bt r i = true ↔ i < 7 ∧ wk_L (ga_G A fr to c) s i) → wl_I A fr to c (fun a => a = s) (-3000) 7 0 (fun i => (T i).toInt) → post r (f_top, f_bottom, f_ringPoints, a_there, a_froms, a_tos, a_weights, T, a_ways)) : wpY_low post (f_top, f_bottom, f_ringPoints, a_there, a_froms, a_tos, a_weights, a_walks, a_ways) (nI s) := by
  have hG := yg_7 hg
  unfold wpY_low
  refine ys_pt1 hs (br_f (by decide) ?_)
  refine ys_walk hg hs fun T hT => ?_
  refine loop_0 (fun n v r => wY_low_21 post f_top f_bottom f_ringPoints a_there a_froms a_tos a_weights T a_ways n r (nI v)) (fun k r => ∀ i, bt r i = true ↔ i < 7 ∧ ∃ v, v < k ∧ ((T (49 + v)).toInt ≠ -3000 ∧ (T (49 + v)).toInt < sm_F (fun i => (T i).toInt) v 7) ∧ wk_R (ga_G A fr to c) v i) 7 0 (fun i => ⟨fun z => by rw [b_0] at z; exact absurd z (by decide), fun ⟨_, v, hv, _⟩ => absurd hv (Nat.not_lt_zero v)⟩) ?_ ?_
  · intro n r hr
    refine br_t (nI_le (Nat.le_refl 7) (by decide)) (h r T (fun i => ?_) hT)
    rw [hr i, ← sm_low hG hs hT]
  · intro n v r hv hr ih
    have e1 : 49 + nI v = nI (49 + v) := nI_add 49 v
    have c1 : (nI (49 + v)).toNatClampNeg = 49 + v := nI_clamp (by omega)
    have no : ¬ ((T (49 + v)).toInt ≠ -3000 ∧ (T (49 + v)).toInt < sm_F (fun i => (T i).toInt) v 7) → wY_low_63 post (wY_low_21 post f_top f_bottom f_ringPoints a_there a_froms a_tos a_weights T a_ways n) r (nI v) f_top f_bottom f_ringPoints a_there a_froms a_tos a_weights T a_ways := by
      intro hn
      refine br_t rfl (nm_r (nI_1 v) (ih r fun i => ?_))
      rw [hr i]
      refine ⟨fun ⟨a, v', hv', b⟩ => ⟨a, v', by omega, b⟩, fun ⟨a, v', hv', b⟩ => ⟨a, v', ?_, b⟩⟩
      have : v' ≠ v := fun e => hn (e ▸ b.1)
      omega
    have i1 : vp_in (nI (49 + v)) 56 := vp_in_nI (by omega) (by decide)
    refine br_f (nI_ge hv (by decide)) ?_
    rw [e1, c1]
    refine And.intro i1 ?_
    refine ib_eq (T (49 + v)).toInt (-3000) (fun e => no fun z => z.1 e) (fun e => And.intro i1 ?_)
    refine ys_shortest hv fun r' hr' => ?_
    refine ib_le r'.toInt (T (49 + v)).toInt (fun hle => no fun z => ?_) (fun hlt => ?_)
    · have := z.2
      have hr'' : r'.toInt = sm_F (fun i => (T i).toInt) v 7 := hr'
      omega
    · refine br_f (by decide) ?_
      refine ys_reached hg hv fun r2 hr2 => nm_e (nm_r (nI_1 v) (ih _ fun i => ?_))
      rw [b_or, Bool.or_eq_true, hr i, hr2 i]
      have hr'' : r'.toInt = sm_F (fun i => (T i).toInt) v 7 := hr'
      refine ⟨fun z => z.elim (fun ⟨a, v', hv', b⟩ => ⟨a, v', by omega, b⟩) (fun ⟨a, b⟩ => ⟨a, v, by omega, ⟨e, by omega⟩, b⟩), fun ⟨a, v', hv', b⟩ => ?_⟩
      by_cases ev : v' = v
      · subst ev; exact Or.inr ⟨a, b.2⟩
      · exact Or.inl ⟨a, v', by omega, b⟩
theorem ys_way (hg : yg_I a_there a_froms a_tos a_weights A fr to c) {post : Int32 → SY → Prop} {s t : Nat} (hs : s < 7) (ht : t < 7) (h : ∀ (r : Int32) (T : Nat → Int32), yw_F (ga_G A fr to c) s t r.toInt → wl_I A fr to c (fun a => a = s) (-3000) 7 0 (fun i => (T i).toInt) → post r (f_top, f_bottom, f_ringPoints, a_there, a_froms, a_tos, a_weights, T, a_ways)) : wpY_way post (f_top, f_bottom, f_ringPoints, a_there, a_froms, a_tos, a_weights, a_walks, a_ways) (nI s) (nI t) := by
  have hG := yg_7 hg
  unfold wpY_way
  refine ys_low hg hs fun r T hr hT => ?_
  refine bs_br1 t (fun hb => h _ T (Or.inl ⟨((hr t).mp hb).2, by decide⟩) hT) (fun hb => ?_) rfl (by omega)
  refine ys_shortest ht fun r' hr' => h r' T ?_ hT
  rw [hr']
  exact sm_way hG hs hT ht fun z => hb ((hr t).mpr ⟨ht, z⟩)
end YS
end
section
/-! the relation, and the calls that change arcs -/
def re_I (present : Int32) (fromOf toOf weightOf there froms tos weights : Nat → Int32) : Prop :=
  (∀ k, bt present k = true → k < 20) ∧ ∀ k, k < 20 → ((bt present k = true ↔ there k ≠ 0) ∧ (∃ m, m < 7 ∧ fromOf k = nI m ∧ froms k = nI m) ∧ (∃ m, m < 7 ∧ toOf k = nI m ∧ tos k = nI m) ∧ weightOf k = weights k ∧ -20 ≤ (weights k).toInt ∧ (weights k).toInt ≤ 20)
/-- the relation at the head of a turn: the arcs are the same; everything else is scratch -/
def i_Rel (_ : Nat) (u : SX) (v : SY) : Prop := re_I u.1 u.2.2.2.2.1 u.2.2.2.2.2.1 u.2.2.2.2.2.2.1 v.2.2.2.1 v.2.2.2.2.1 v.2.2.2.2.2.1 v.2.2.2.2.2.2.1
theorem i_up {k : Nat} {u : SX} {v : SY} (h : i_Rel k u v) : i_Rel (k + 4) u v := h
theorem i_vc0 : wpX_init (fun u => wpY_init (fun v => i_Rel 0 u v)) := by
  refine ⟨fun k hk => ?_, fun k hk => ⟨?_, ⟨0, by omega, rfl, rfl⟩, ⟨0, by omega, rfl, rfl⟩, rfl, (show -20 ≤ (0 : Int32).toInt by decide), (show (0 : Int32).toInt ≤ 20 by decide)⟩⟩
  · have hk : bt 0 k = true := hk
    rw [b_0] at hk; exact absurd hk (by decide)
  · show bt 0 k = true ↔ (0 : Int32) ≠ 0
    rw [b_0]
    exact ⟨fun z => absurd z (by decide), fun z => absurd rfl z⟩
section RE
variable {f_present : Int32} {a_fromOf a_toOf a_weightOf a_there a_froms a_tos a_weights : Nat → Int32}
theorem re_x (h : re_I f_present a_fromOf a_toOf a_weightOf a_there a_froms a_tos a_weights) : xg_I f_present a_fromOf a_toOf a_weightOf (fun k => bt f_present k = true) (fun k => (a_fromOf k).toNatClampNeg) (fun k => (a_toOf k).toNatClampNeg) (fun k => (a_weightOf k).toInt) := by
  intro k hk
  obtain ⟨h1, ⟨m, hm, e1, _⟩, ⟨m', hm', e2, _⟩, e3, h4, h5⟩ := h.2 k hk
  have c1 : (nI m).toNatClampNeg = m := nI_clamp (by omega)
  have c2 : (nI m').toNatClampNeg = m' := nI_clamp (by omega)
  rw [← e3] at h4 h5
  refine ⟨Iff.rfl, ?_, ?_, ?_, ?_, rfl, h4, h5⟩
  · show a_fromOf k = nI (a_fromOf k).toNatClampNeg
    rw [e1, c1]
  · show (a_fromOf k).toNatClampNeg < 7
    rw [e1, c1]; exact hm
  · show a_toOf k = nI (a_toOf k).toNatClampNeg
    rw [e2, c2]
  · show (a_toOf k).toNatClampNeg < 7
    rw [e2, c2]; exact hm'
theorem re_y (h : re_I f_present a_fromOf a_toOf a_weightOf a_there a_froms a_tos a_weights) : yg_I a_there a_froms a_tos a_weights (fun k => bt f_present k = true) (fun k => (a_fromOf k).toNatClampNeg) (fun k => (a_toOf k).toNatClampNeg) (fun k => (a_weightOf k).toInt) := by
  intro k hk
  obtain ⟨h1, ⟨m, hm, e1, e1'⟩, ⟨m', hm', e2, e2'⟩, e3, h4, h5⟩ := h.2 k hk
  have c1 : (nI m).toNatClampNeg = m := nI_clamp (by omega)
  have c2 : (nI m').toNatClampNeg = m' := nI_clamp (by omega)
  rw [← e3] at h4 h5
  refine ⟨h1.symm, ?_, ?_, ?_, ?_, ?_, h4, h5⟩
  · show a_froms k = nI (a_fromOf k).toNatClampNeg
    rw [e1, c1, e1']
  · show (a_fromOf k).toNatClampNeg < 7
    rw [e1, c1]; exact hm
  · show a_tos k = nI (a_toOf k).toNatClampNeg
    rw [e2, c2, e2']
  · show (a_toOf k).toNatClampNeg < 7
    rw [e2, c2]; exact hm'
  · show (a_weights k).toInt = (a_weightOf k).toInt
    rw [e3]
theorem re_add (h : re_I f_present a_fromOf a_toOf a_weightOf a_there a_froms a_tos a_weights) {k a b : Nat} {w : Int32} (hk : k < 20) (ha : a < 7) (hb : b < 7) (hw : -20 ≤ w.toInt ∧ w.toInt ≤ 20) : re_I (f_present ||| ((1 : Int32) <<< (nI k &&& 31))) (upd a_fromOf k (nI a)) (upd a_toOf k (nI b)) (upd a_weightOf k w) (upd a_there k 1) (upd a_froms k (nI a)) (upd a_tos k (nI b)) (upd a_weights k w) := by
  have hbit : ∀ j, bt (f_present ||| ((1 : Int32) <<< (nI k &&& 31))) j = true ↔ bt f_present j = true ∨ j = k := by
    intro j
    by_cases hj : j < 32
    · exact bs_or (by omega) rfl hj
    · rw [b_big (by omega), b_big (by omega)]
      exact ⟨fun z => absurd z (by decide), fun z => z.elim (fun z => absurd z (by decide)) (fun z => by omega)⟩
  refine ⟨fun j hj => ?_, fun j hj => ?_⟩
  · rcases (hbit j).mp hj with z | z
    · exact h.1 j z
    · omega
  · rw [hbit j]
    by_cases e : j = k
    · subst e
      rw [pk_us, pk_us, pk_us, pk_us, pk_us, pk_us, pk_us]
      exact ⟨⟨fun _ => by decide, fun _ => Or.inr rfl⟩, ⟨a, ha, rfl, rfl⟩, ⟨b, hb, rfl, rfl⟩, rfl, hw⟩
    · rw [pk_un e, pk_un e, pk_un e, pk_un e, pk_un e, pk_un e, pk_un e]
      obtain ⟨h1, h2⟩ := h.2 j hj
      refine ⟨?_, h2⟩
      rw [← h1]
      exact ⟨fun z => z.resolve_right e, Or.inl⟩
theorem re_rem (h : re_I f_present a_fromOf a_toOf a_weightOf a_there a_froms a_tos a_weights) {k : Nat} (hk : k < 20) : re_I (f_present &&& (((1 : Int32) <<< (nI k &&& 31)) ^^^ (-1))) a_fromOf a_toOf a_weightOf (upd a_there k 0) a_froms a_tos a_weights := by
  have hbit : ∀ j, bt (f_present &&& (((1 : Int32) <<< (nI k &&& 31)) ^^^ (-1))) j = true ↔ bt f_present j = true ∧ j ≠ k := by
    intro j
    by_cases hj : j < 32
    · exact bs_cl (by omega) hj
    · rw [b_big (by omega), b_big (by omega)]
      exact ⟨fun z => absurd z (by decide), fun z => absurd z.1 (by decide)⟩
  refine ⟨fun j hj => h.1 j ((hbit j).mp hj).1, fun j hj => ?_⟩
  rw [hbit j]
  obtain ⟨h1, h2⟩ := h.2 j hj
  refine ⟨?_, h2⟩
  by_cases e : j = k
  · rw [e, pk_us]; exact ⟨fun z => absurd rfl z.2, fun z => absurd rfl z⟩
  · rw [pk_un e, ← h1]; exact ⟨fun z => z.1, fun z => ⟨z, e⟩⟩
theorem re_chg (h : re_I f_present a_fromOf a_toOf a_weightOf a_there a_froms a_tos a_weights) {k : Nat} {w : Int32} (hw : -20 ≤ w.toInt ∧ w.toInt ≤ 20) : re_I f_present a_fromOf a_toOf (upd a_weightOf k w) a_there a_froms a_tos (upd a_weights k w) := by
  refine ⟨h.1, fun j hj => ?_⟩
  obtain ⟨h1, h2, h3, h4⟩ := h.2 j hj
  refine ⟨h1, h2, h3, ?_⟩
  by_cases e : j = k
  · rw [e, pk_us, pk_us]; exact ⟨rfl, hw⟩
  · rw [pk_un e, pk_un e]; exact h4
end RE
theorem hs_c (v : Int32) : (∃ p, p < 20 ∧ v = nI p) ∨ (v < 0 ∨ 20 ≤ v) := by
  rcases pk_ix v (n := 20) (by decide) with h | h | h
  · exact Or.inr (Or.inl h)
  · exact Or.inr (Or.inr h)
  · exact Or.inl h
theorem ys_wt1 {f_top f_bottom f_ringPoints : Int32} {a_there a_froms a_tos a_weights a_walks a_ways : Nat → Int32} {post : Int32 → Prop} {v : Int32} (hv : -20 ≤ v.toInt ∧ v.toInt ≤ 20) (h : post 1) : wpY_isWeight post (f_top, f_bottom, f_ringPoints, a_there, a_froms, a_tos, a_weights, a_walks, a_ways) v := by
  unfold wpY_isWeight
  exact ib_lt v.toInt (-20) (fun z => by omega) (fun _ => ib_lt 20 v.toInt (fun z => by omega) (fun _ => h))
theorem ys_wt0 {f_top f_bottom f_ringPoints : Int32} {a_there a_froms a_tos a_weights a_walks a_ways : Nat → Int32} {post : Int32 → Prop} {v : Int32} (hv : v < -20 ∨ 20 < v) (h : post 0) : wpY_isWeight post (f_top, f_bottom, f_ringPoints, a_there, a_froms, a_tos, a_weights, a_walks, a_ways) v := by
  unfold wpY_isWeight
  by_cases h0 : v < -20
  · exact br_t h0 h
  · exact br_f h0 (br_t (hv.resolve_left h0) h)
theorem ad_k (A : Nat → Prop) : ∃ k0, k0 ≤ 20 ∧ (∀ j, j < k0 → A j) ∧ (k0 < 20 → ¬ A k0) := by
  obtain ⟨k, h1, h2⟩ := pk_least (fun k => k = 20 ∨ ¬ A k) ⟨20, Or.inl rfl⟩
  have h20 : k ≤ 20 := Nat.le_of_not_lt fun z => h2 20 z (Or.inl rfl)
  refine ⟨k, h20, fun j hj => Classical.byContradiction fun z => h2 j hj (Or.inr z), fun hk => h1.resolve_left (by omega)⟩
theorem xs_add {f_present f_heapSize f_top f_bottom : Int32} {a_fromOf a_toOf a_weightOf a_found a_kept a_dist a_isLow a_times a_queue a_queued a_price a_heap a_heapPlace a_group a_badGroup a_cameBy a_table a_table2 a_byCount : Nat → Int32} {A : Nat → Prop} {fr to : Nat → Nat} {c : Nat → Int} (hg : xg_I f_present a_fromOf a_toOf a_weightOf A fr to c) {post : Int32 → SX → Prop} {a b k0 : Nat} {w : Int32} (ha : a < 7) (hb : b < 7) (hw : -20 ≤ w.toInt ∧ w.toInt ≤ 20) (h20 : k0 ≤ 20) (h1 : ∀ j, j < k0 → A j) (h2 : k0 < 20 → ¬ A k0) (hf : k0 = 20 → post (-2000) (f_present, f_heapSize, f_top, f_bottom, a_fromOf, a_toOf, a_weightOf, a_found, a_kept, a_dist, a_isLow, a_times, a_queue, a_queued, a_price, a_heap, a_heapPlace, a_group, a_badGroup, a_cameBy, a_table, a_table2, a_byCount)) (hk : k0 < 20 → post (nI k0) (f_present ||| ((1 : Int32) <<< (nI k0 &&& 31)), f_heapSize, f_top, f_bottom, upd a_fromOf k0 (nI a), upd a_toOf k0 (nI b), upd a_weightOf k0 w, a_found, a_kept, a_dist, a_isLow, a_times, a_queue, a_queued, a_price, a_heap, a_heapPlace, a_group, a_badGroup, a_cameBy, a_table, a_table2, a_byCount)) : ∃ n, wX_add_28 post (nI a) (nI b) w f_present f_heapSize f_top f_bottom a_fromOf a_toOf a_weightOf a_found a_kept a_dist a_isLow a_times a_queue a_queued a_price a_heap a_heapPlace a_group a_badGroup a_cameBy a_table a_table2 a_byCount n 0 := by
  refine loop_0 (σ := Unit) (fun n i _ => wX_add_28 post (nI a) (nI b) w f_present f_heapSize f_top f_bottom a_fromOf a_toOf a_weightOf a_found a_kept a_dist a_isLow a_times a_queue a_queued a_price a_heap a_heapPlace a_group a_badGroup a_cameBy a_table a_table2 a_byCount n (nI i)) (fun _ _ => True) k0 () trivial ?_ ?_
  · intro n _ _
    by_cases e : k0 = 20
    · subst e; exact br_t (nI_le (Nat.le_refl 20) (by decide)) (hf rfl)
    · have hlt : k0 < 20 := by omega
      have i0 := vp_in_nI hlt (show 20 < 2 ^ 31 by decide)
      refine br_f (nI_ge hlt (by decide)) (xs_has hg hlt (fun z => absurd z (h2 hlt)) (fun _ => br_t rfl ?_))
      exact nm_e (And.intro i0 (nm_r (up_i rfl (by omega) (nb_by a (by omega))) (And.intro i0 (nm_r (up_i rfl (by omega) (nb_by b (by omega))) (And.intro i0 (nm_r (up_i rfl (by omega) (nb_wt w hw.1 hw.2)) (hk hlt)))))))
  · intro n i _ hi _ ih
    have hlt : i < 20 := by omega
    exact br_f (nI_ge hlt (by decide)) (xs_has hg hlt (fun _ => br_f (by decide) (nm_r (nI_1 i) (ih () trivial))) (fun z => absurd (h1 i hi) z))
theorem ys_add {f_top f_bottom f_ringPoints : Int32} {a_there a_froms a_tos a_weights a_walks a_ways : Nat → Int32} {A : Nat → Prop} {fr to : Nat → Nat} {c : Nat → Int} (hg : yg_I a_there a_froms a_tos a_weights A fr to c) {post : Int32 → SY → Prop} {k0 : Nat} {a b w : Int32} (h20 : k0 ≤ 20) (h1 : ∀ j, j < k0 → A j) (h2 : k0 < 20 → ¬ A k0) (hf : k0 = 20 → post (-2000) (f_top, f_bottom, f_ringPoints, a_there, a_froms, a_tos, a_weights, a_walks, a_ways)) (hk : k0 < 20 → post (nI k0) (f_top, f_bottom, f_ringPoints, upd a_there k0 1, upd a_froms k0 a, upd a_tos k0 b, upd a_weights k0 w, a_walks, a_ways)) : ∃ n, wY_add_31 post a b w f_top f_bottom f_ringPoints a_there a_froms a_tos a_weights a_walks a_ways n 0 := by
  refine loop_0 (σ := Unit) (fun n i _ => wY_add_31 post a b w f_top f_bottom f_ringPoints a_there a_froms a_tos a_weights a_walks a_ways n (nI i)) (fun _ _ => True) k0 () trivial ?_ ?_
  · intro n _ _
    by_cases e : k0 = 20
    · subst e; exact br_t (nI_le (Nat.le_refl 20) (by decide)) (hf rfl)
    · have hlt : k0 < 20 := by omega
      have i0 := vp_in_nI hlt (show 20 < 2 ^ 31 by decide)
      refine br_f (nI_ge hlt (by decide)) (And.intro i0 (yg_br hg hlt (fun _ => ?_) (fun z => absurd z (h2 hlt))))
      exact And.intro i0 (nm_r (up_i rfl (by omega) nb_b1) (And.intro i0 (nm_r (up_i rfl (by omega) rfl) (And.intro i0 (nm_r (up_i rfl (by omega) rfl) (And.intro i0 (nm_r (up_i rfl (by omega) rfl) (hk hlt))))))))
  · intro n i _ hi _ ih
    have hlt : i < 20 := by omega
    exact br_f (nI_ge hlt (by decide)) (And.intro (vp_in_nI hlt (by decide)) (yg_br hg hlt (fun z => absurd (h1 i hi) z) (fun _ => nm_r (nI_1 i) (ih () trivial))))
theorem i_vc_add {k : Nat} {u : SX} {v : SY} (I : i_Rel k u v) (hk : k + 4 ≤ 2048) (v1 : Int32) (v2 : Int32) (v3 : Int32) : wpX_add (fun r u' => wpY_add (fun r' v' => r' = r ∧ i_Rel (k + 4) u' v') v v1 v2 v3) u v1 v2 v3 := by
  obtain ⟨f_present, f_heapSize, f_top, f_bottom, a_fromOf, a_toOf, a_weightOf, a_found, a_kept, a_dist, a_isLow, a_times, a_queue, a_queued, a_price, a_heap, a_heapPlace, a_group, a_badGroup, a_cameBy, a_table, a_table2, a_byCount⟩ := u
  obtain ⟨f_top_1, f_bottom_1, f_ringPoints_1, a_there_1, a_froms_1, a_tos_1, a_weights_1, a_walks_1, a_ways_1⟩ := v
  have R : re_I f_present a_fromOf a_toOf a_weightOf a_there_1 a_froms_1 a_tos_1 a_weights_1 := I
  have hx := re_x R
  have hy := re_y R
  unfold wpX_add wpY_add
  rcases pt_c v1 with ⟨a, ha, rfl⟩ | h1
  · refine xs_pt1 ha (br_f (by decide) ?_)
    rcases pt_c v2 with ⟨b, hb, rfl⟩ | h2
    · refine xs_pt1 hb (br_f (by decide) ?_)
      rcases ws_c v3 with hw | h3
      · refine xs_wt1 hw (br_f (by decide) ?_)
        obtain ⟨k0, h20, hp, hq⟩ := ad_k (fun k => bt f_present k = true)
        refine xs_add hx ha hb hw h20 hp hq (fun e => ?_) (fun hlt => ?_)
        · exact ys_pt1 ha (br_f (by decide) (ys_pt1 hb (br_f (by decide) (ys_wt1 hw (br_f (by decide) (ys_add hy h20 hp hq (fun _ => ⟨rfl, R⟩) (fun z => by omega)))))))
        · exact ys_pt1 ha (br_f (by decide) (ys_pt1 hb (br_f (by decide) (ys_wt1 hw (br_f (by decide) (ys_add hy h20 hp hq (fun z => by omega) (fun _ => ⟨rfl, re_add R hlt ha hb hw⟩)))))))
      · exact xs_wt0 h3 (br_t rfl (ys_pt1 ha (br_f (by decide) (ys_pt1 hb (br_f (by decide) (ys_wt0 h3 (br_t rfl ⟨rfl, R⟩)))))))
    · exact xs_pt0 h2 (br_t rfl (ys_pt1 ha (br_f (by decide) (ys_pt0 h2 (br_t rfl ⟨rfl, R⟩)))))
  · exact xs_pt0 h1 (br_t rfl (ys_pt0 h1 (br_t rfl ⟨rfl, R⟩)))
theorem i_vc_remove {k : Nat} {u : SX} {v : SY} (I : i_Rel k u v) (hk : k + 4 ≤ 2048) (v1 : Int32) : wpX_remove (fun r u' => wpY_remove (fun r' v' => r' = r ∧ i_Rel (k + 4) u' v') v v1) u v1 := by
  obtain ⟨f_present, f_heapSize, f_top, f_bottom, a_fromOf, a_toOf, a_weightOf, a_found, a_kept, a_dist, a_isLow, a_times, a_queue, a_queued, a_price, a_heap, a_heapPlace, a_group, a_badGroup, a_cameBy, a_table, a_table2, a_byCount⟩ := u
  obtain ⟨f_top_1, f_bottom_1, f_ringPoints_1, a_there_1, a_froms_1, a_tos_1, a_weights_1, a_walks_1, a_ways_1⟩ := v
  have R : re_I f_present a_fromOf a_toOf a_weightOf a_there_1 a_froms_1 a_tos_1 a_weights_1 := I
  have hx := re_x R
  have hy := re_y R
  unfold wpX_remove wpY_remove
  rcases hs_c v1 with ⟨a, ha, rfl⟩ | h1
  · have ia := vp_in_nI ha (show 20 < 2 ^ 31 by decide)
    have ca : (nI a).toNatClampNeg = a := nI_clamp (by omega)
    refine xs_has hx ha (fun hA => br_f (by decide) (nm_e (And.intro ia ?_))) (fun hA => br_t rfl ?_)
    · refine ys_is hy ha (fun _ => br_f (by decide) (And.intro ia (nm_r (up_i rfl (by omega) nb_b0) (And.intro ia ⟨?_, re_rem R ha⟩)))) (fun z => absurd hA z)
      rw [ca]; exact ((R.2 a ha).2.2.2.1).symm
    · exact ys_is hy ha (fun z => absurd z hA) (fun _ => br_t rfl ⟨rfl, R⟩)
  · exact xs_has0 h1 (br_t rfl (ys_is0 h1 (br_t rfl ⟨rfl, R⟩)))
theorem i_vc_change {k : Nat} {u : SX} {v : SY} (I : i_Rel k u v) (hk : k + 4 ≤ 2048) (v1 : Int32) (v2 : Int32) : wpX_change (fun r u' => wpY_change (fun r' v' => r' = r ∧ i_Rel (k + 4) u' v') v v1 v2) u v1 v2 := by
  obtain ⟨f_present, f_heapSize, f_top, f_bottom, a_fromOf, a_toOf, a_weightOf, a_found, a_kept, a_dist, a_isLow, a_times, a_queue, a_queued, a_price, a_heap, a_heapPlace, a_group, a_badGroup, a_cameBy, a_table, a_table2, a_byCount⟩ := u
  obtain ⟨f_top_1, f_bottom_1, f_ringPoints_1, a_there_1, a_froms_1, a_tos_1, a_weights_1, a_walks_1, a_ways_1⟩ := v
  have R : re_I f_present a_fromOf a_toOf a_weightOf a_there_1 a_froms_1 a_tos_1 a_weights_1 := I
  have hx := re_x R
  have hy := re_y R
  unfold wpX_change wpY_change
  rcases hs_c v1 with ⟨a, ha, rfl⟩ | h1
  · have ia := vp_in_nI ha (show 20 < 2 ^ 31 by decide)
    have ca : (nI a).toNatClampNeg = a := nI_clamp (by omega)
    refine xs_has hx ha (fun hA => br_f (by decide) ?_) (fun hA => br_t rfl ?_)
    · rcases ws_c v2 with hw | h3
      · refine xs_wt1 hw (br_f (by decide) (And.intro ia (nm_e (And.intro ia (nm_r (up_i rfl (by omega) (nb_wt v2 hw.1 hw.2)) ?_)))))
        refine ys_is hy ha (fun _ => br_f (by decide) (ys_wt1 hw (br_f (by decide) (And.intro ia (nm_e (And.intro ia (nm_r (up_i rfl (by omega) rfl) ⟨?_, re_chg R hw⟩))))))) (fun z => absurd hA z)
        rw [ca]; exact ((R.2 a ha).2.2.2.1).symm
      · exact xs_wt0 h3 (br_t rfl (ys_is hy ha (fun _ => br_f (by decide) (ys_wt0 h3 (br_t rfl ⟨rfl, R⟩))) (fun z => absurd hA z)))
    · exact ys_is hy ha (fun z => absurd z hA) (fun _ => br_t rfl ⟨rfl, R⟩)
  · exact xs_has0 h1 (br_t rfl (ys_is0 h1 (br_t rfl ⟨rfl, R⟩)))
theorem i_vc_arcs {k : Nat} {u : SX} {v : SY} (I : i_Rel k u v) (hk : k + 4 ≤ 2048) : wpX_arcs (fun r => wpY_arcs (fun r' => r' = r ∧ i_Rel (k + 4) u v) v) u := by
  obtain ⟨f_present, f_heapSize, f_top, f_bottom, a_fromOf, a_toOf, a_weightOf, a_found, a_kept, a_dist, a_isLow, a_times, a_queue, a_queued, a_price, a_heap, a_heapPlace, a_group, a_badGroup, a_cameBy, a_table, a_table2, a_byCount⟩ := u
  obtain ⟨f_top_1, f_bottom_1, f_ringPoints_1, a_there_1, a_froms_1, a_tos_1, a_weights_1, a_walks_1, a_ways_1⟩ := v
  have R : re_I f_present a_fromOf a_toOf a_weightOf a_there_1 a_froms_1 a_tos_1 a_weights_1 := I
  have hy := re_y R
  unfold wpX_arcs wpY_arcs
  refine loop_0 (fun n i x => wY_arcs_4 (fun r' => r' = f_present ∧ i_Rel (k + 4) (f_present, f_heapSize, f_top, f_bottom, a_fromOf, a_toOf, a_weightOf, a_found, a_kept, a_dist, a_isLow, a_times, a_queue, a_queued, a_price, a_heap, a_heapPlace, a_group, a_badGroup, a_cameBy, a_table, a_table2, a_byCount) (f_top_1, f_bottom_1, f_ringPoints_1, a_there_1, a_froms_1, a_tos_1, a_weights_1, a_walks_1, a_ways_1)) f_top_1 f_bottom_1 f_ringPoints_1 a_there_1 a_froms_1 a_tos_1 a_weights_1 a_walks_1 a_ways_1 n x (nI i)) (fun i x => ∀ j, bt x j = true ↔ j < i ∧ bt f_present j = true) 20 0 (fun j => ⟨fun z => by rw [b_0] at z; exact absurd z (by decide), fun z => absurd z.1 (Nat.not_lt_zero j)⟩) ?_ ?_
  · intro n x hx
    refine br_t (nI_le (Nat.le_refl 20) (by decide)) ⟨bs_ext fun j _ => ?_, R⟩
    rw [hx j]
    exact ⟨fun z => z.2, fun z => ⟨R.1 j z, z⟩⟩
  · intro n i x hi hx ih
    refine br_f (nI_ge hi (by decide)) (And.intro (vp_in_nI hi (by decide)) (yg_br hy hi (fun hA => nm_r (nI_1 i) (ih x fun j => ?_)) (fun hA => nm_e (nm_r (nI_1 i) (ih _ fun j => ?_)))))
    · rw [hx j]
      refine ⟨fun z => ⟨by omega, z.2⟩, fun z => ⟨?_, z.2⟩⟩
      have : j ≠ i := fun e => hA (e ▸ z.2)
      omega
    · by_cases hj : j < 32
      · rw [bs_or (p := i) (by omega) rfl hj, hx j]
        refine ⟨fun z => z.elim (fun z => ⟨by omega, z.2⟩) (fun z => ⟨by omega, z ▸ hA⟩), fun z => ?_⟩
        by_cases e : j = i
        · exact Or.inr e
        · exact Or.inl ⟨by omega, z.2⟩
      · rw [b_big (by omega)]
        exact ⟨fun z => absurd z (by decide), fun z => by omega⟩
end
section
/-! the calls about walks -/
section CL
variable {G : Nat → Nat → Int → Prop}
theorem yw_u {s t : Nat} {x y : Int} (h : yw_F G s t x) (h' : yw_F G s t y) : x = y := by
  rcases h with ⟨l, rfl⟩ | ⟨l, r, rfl⟩ | ⟨l, d⟩
  · rcases h' with ⟨l', rfl⟩ | ⟨l', r', rfl⟩ | ⟨l', d'⟩
    · rfl
    · exact absurd l l'
    · exact absurd l l'
  · rcases h' with ⟨l', rfl⟩ | ⟨l', r', rfl⟩ | ⟨l', d'⟩
    · exact absurd l' l
    · rfl
    · exact absurd ⟨_, _, d'.1.choose_spec⟩ r
  · rcases h' with ⟨l', rfl⟩ | ⟨l', r', rfl⟩ | ⟨l', d'⟩
    · exact absurd l' l
    · exact absurd ⟨_, _, d.1.choose_spec⟩ r'
    · exact wk_Du d d'
/-- what is found is finite: the least weight d -/
def fi_D (G : Nat → Nat → Int → Prop) (s t : Nat) (d : Int) : Prop := ¬ wk_L G s t ∧ wk_D G s t d
theorem fi_u {s t : Nat} {d d' : Int} (h : fi_D G s t d) (h' : fi_D G s t d') : d = d' := wk_Du h.2 h'.2
theorem fd_fi {s t : Nat} {x : Int} (hb : ∀ d, ¬ wk_L G s t → wk_D G s t d → -120 ≤ d ∧ d ≤ 120) (h : fd_F G s t x) : (x = -4000 ∧ wk_L G s t ∧ ∀ d, ¬ fi_D G s t d) ∨ (x = 1048576 ∧ ¬ wk_L G s t ∧ ∀ d, ¬ fi_D G s t d) ∨ (fi_D G s t x ∧ -120 ≤ x ∧ x ≤ 120) := by
  rcases h with ⟨l, e⟩ | ⟨l, r, e⟩ | ⟨l, d⟩
  · exact Or.inl ⟨e, l, fun d z => z.1 l⟩
  · exact Or.inr (Or.inl ⟨e, l, fun d z => r ⟨_, _, z.2.1.choose_spec⟩⟩)
  · exact Or.inr (Or.inr ⟨⟨l, d⟩, hb x l d⟩)
theorem yw_fi {s t : Nat} {x : Int} (hb : ∀ d, ¬ wk_L G s t → wk_D G s t d → -120 ≤ d ∧ d ≤ 120) (h : yw_F G s t x) : (x ≤ -1000 ∧ ∀ d, ¬ fi_D G s t d) ∨ (fi_D G s t x ∧ -120 ≤ x ∧ x ≤ 120) := by
  rcases h with ⟨l, e⟩ | ⟨l, r, e⟩ | ⟨l, d⟩
  · exact Or.inl ⟨by omega, fun d z => z.1 l⟩
  · exact Or.inl ⟨by omega, fun d z => r ⟨_, _, z.2.1.choose_spec⟩⟩
  · exact Or.inr ⟨⟨l, d⟩, hb x l d⟩
theorem fd_yw {s t : Nat} {x : Int} (hb : ∀ d, ¬ wk_L G s t → wk_D G s t d → -120 ≤ d ∧ d ≤ 120) (h : fd_F G s t x) : yw_F G s t (if x = 1048576 then -3000 else x) := by
  rcases h with ⟨l, e⟩ | ⟨l, r, e⟩ | ⟨l, d⟩
  · rw [if_neg (by omega)]; exact Or.inl ⟨l, e⟩
  · rw [if_pos e]; exact Or.inr (Or.inl ⟨l, r, rfl⟩)
  · have := hb x l d
    rw [if_neg (by omega)]; exact Or.inr (Or.inr ⟨l, d⟩)
end CL
theorem pt_45 {v : Int32} (h : 5 ≤ v) : 4 < v := by
  rw [Int32.le_iff_toInt_le] at h
  rw [Int32.lt_iff_toInt_lt]
  have e1 : (5 : Int32).toInt = 5 := by decide
  have e2 : (4 : Int32).toInt = 4 := by decide
  omega
/-- everything that was found is right -/
def fo_I (G : Nat → Nat → Int → Prop) (f : Nat → Int32) : Prop := ∀ a b, a < 7 → b < 7 → fd_F G a b (f (a * 7 + b)).toInt
section CX
variable {f_present f_heapSize f_top f_bottom : Int32} {a_fromOf a_toOf a_weightOf a_found a_kept a_dist a_isLow a_times a_queue a_queued a_price a_heap a_heapPlace a_group a_badGroup a_cameBy a_table a_table2 a_byCount : Nat → Int32} {A : Nat → Prop} {fr to : Nat → Nat} {c : Nat → Int}
theorem fo_b (hg : xg_I f_present a_fromOf a_toOf a_weightOf A fr to c) {s t : Nat} (hs : s < 7) : ∀ d, ¬ wk_L (ga_G A fr to c) s t → wk_D (ga_G A fr to c) s t d → -120 ≤ d ∧ d ≤ 120 := fun _ hl hd => fd_bd (xg_7 hg) (xg_20 hg) hs hl hd
theorem xs_answer (hg : xg_I f_present a_fromOf a_toOf a_weightOf A fr to c) (hf : fo_I (ga_G A fr to c) a_found) {post : Int32 → Prop} {s t : Nat} (hs : s < 7) (ht : t < 7) (h : ∀ r : Int32, yw_F (ga_G A fr to c) s t r.toInt → post r) : wpX_answer post (f_present, f_heapSize, f_top, f_bottom, a_fromOf, a_toOf, a_weightOf, a_found, a_kept, a_dist, a_isLow, a_times, a_queue, a_queued, a_price, a_heap, a_heapPlace, a_group, a_badGroup, a_cameBy, a_table, a_table2, a_byCount) (nI s) (nI t) := by
  have hv := fd_yw (fo_b hg hs) (hf s t hs ht)
  unfold wpX_answer
  have c1 : (nI (s * 7 + t)).toNatClampNeg = s * 7 + t := nI_clamp (by omega)
  rw [ix_7, c1]
  refine And.intro (vp_in_nI (by omega) (by decide)) (nm_e (ib_eq (a_found (s * 7 + t)).toInt 1048576 (fun e => h _ ?_) (fun e => h _ ?_)))
  · rw [if_pos e] at hv; exact hv
  · rw [if_neg e] at hv; exact hv
theorem xs_isFinite (hg : xg_I f_present a_fromOf a_toOf a_weightOf A fr to c) (hf : fo_I (ga_G A fr to c) a_found) {post : Int32 → Prop} {s t : Nat} (hs : s < 7) (ht : t < 7) (h1 : fi_D (ga_G A fr to c) s t (a_found (s * 7 + t)).toInt → -120 ≤ (a_found (s * 7 + t)).toInt ∧ (a_found (s * 7 + t)).toInt ≤ 120 → post 1) (h0 : (∀ d, ¬ fi_D (ga_G A fr to c) s t d) → post 0) : wpX_isFinite post (f_present, f_heapSize, f_top, f_bottom, a_fromOf, a_toOf, a_weightOf, a_found, a_kept, a_dist, a_isLow, a_times, a_queue, a_queued, a_price, a_heap, a_heapPlace, a_group, a_badGroup, a_cameBy, a_table, a_table2, a_byCount) (nI s) (nI t) := by
  have hv := fd_fi (fo_b hg hs) (hf s t hs ht)
  unfold wpX_isFinite
  have c1 : (nI (s * 7 + t)).toNatClampNeg = s * 7 + t := nI_clamp (by omega)
  rw [ix_7, c1]
  refine And.intro (vp_in_nI (by omega) (by decide)) (nm_e (ib_eq (a_found (s * 7 + t)).toInt 1048576 (fun e => h0 ?_) (fun e => ib_eq (a_found (s * 7 + t)).toInt (-4000) (fun e2 => h0 ?_) (fun e2 => ?_))))
  · rcases hv with ⟨_, _, z⟩ | ⟨_, _, z⟩ | ⟨_, z1, z2⟩
    · exact z
    · exact z
    · omega
  · rcases hv with ⟨_, _, z⟩ | ⟨_, _, z⟩ | ⟨_, z1, z2⟩
    · exact z
    · exact z
    · omega
  · rcases hv with ⟨z, _⟩ | ⟨z, _⟩ | ⟨z, z1, z2⟩
    · exact absurd z e2
    · exact absurd z e
    · exact h1 z ⟨z1, z2⟩
/-- the arc is on a least walk from s to t, of weight d -/
def tg_T (A : Nat → Prop) (fr to : Nat → Nat) (c : Nat → Int) (s t : Nat) (d : Int) (k : Nat) : Prop := A k ∧ ∃ d1 d2, fi_D (ga_G A fr to c) s (fr k) d1 ∧ fi_D (ga_G A fr to c) (to k) t d2 ∧ d1 + c k + d2 = d
theorem tg_or {x : Int32} {i : Nat} {P : Nat → Prop} (hi : i < 20) (h : ∀ k, bt x k = true ↔ k < i ∧ P k) (hp : P i) : ∀ k, bt (x ||| ((1 : Int32) <<< (nI i &&& 31))) k = true ↔ k < i + 1 ∧ P k := by
  intro k
  by_cases hk : k < 32
  · rw [bs_or (p := i) (by omega) rfl hk, h k]
    refine ⟨fun z => z.elim (fun z => ⟨by omega, z.2⟩) (fun z => ⟨by omega, z ▸ hp⟩), fun z => ?_⟩
    by_cases e : k = i
    · exact Or.inr e
    · exact Or.inl ⟨by omega, z.2⟩
  · rw [b_big (by omega)]
    exact ⟨fun z => absurd z (by decide), fun z => by omega⟩
theorem tg_no {x : Int32} {i : Nat} {P : Nat → Prop} (h : ∀ k, bt x k = true ↔ k < i ∧ P k) (hp : ¬ P i) : ∀ k, bt x k = true ↔ k < i + 1 ∧ P k := by
  intro k
  rw [h k]
  refine ⟨fun z => ⟨by omega, z.2⟩, fun z => ⟨?_, z.2⟩⟩
  have : k ≠ i := fun e => hp (e ▸ z.2)
  omega
theorem tg_0 {P : Nat → Prop} : ∀ k, bt 0 k = true ↔ k < 0 ∧ P k := fun k => ⟨fun z => by rw [b_0] at z; exact absurd z (by decide), fun z => absurd z.1 (Nat.not_lt_zero k)⟩
theorem xs_tightArcs (hg : xg_I f_present a_fromOf a_toOf a_weightOf A fr to c) (hf : fo_I (ga_G A fr to c) a_found) {post : Int32 → Prop} {s t : Nat} (hs : s < 7) (ht : t < 7) (h : ∀ r : Int32, (∀ k, bt r k = true ↔ k < 20 ∧ tg_T A fr to c s t (a_found (s * 7 + t)).toInt k) → post r) : wpX_tightArcs post (f_present, f_heapSize, f_top, f_bottom, a_fromOf, a_toOf, a_weightOf, a_found, a_kept, a_dist, a_isLow, a_times, a_queue, a_queued, a_price, a_heap, a_heapPlace, a_group, a_badGroup, a_cameBy, a_table, a_table2, a_byCount) (nI s) (nI t) := by
  unfold wpX_tightArcs
  refine loop_0 (fun n k x => wX_tightArcs_5 post (nI s) (nI t) f_present f_heapSize f_top f_bottom a_fromOf a_toOf a_weightOf a_found a_kept a_dist a_isLow a_times a_queue a_queued a_price a_heap a_heapPlace a_group a_badGroup a_cameBy a_table a_table2 a_byCount n x (nI k)) (fun i x => ∀ k, bt x k = true ↔ k < i ∧ tg_T A fr to c s t (a_found (s * 7 + t)).toInt k) 20 0 tg_0 ?_ ?_
  · intro n x hx
    exact br_t (nI_le (Nat.le_refl 20) (by decide)) (h x hx)
  · intro n k x hk hx ih
    have ik := vp_in_nI hk (show 20 < 2 ^ 31 by decide)
    have hf7 := xg_f7 hg hk
    have ht7 := xg_t7 hg hk
    have hck := xg_c hg hk
    have no : ¬ tg_T A fr to c s t (a_found (s * 7 + t)).toInt k → wX_tightArcs_5 post (nI s) (nI t) f_present f_heapSize f_top f_bottom a_fromOf a_toOf a_weightOf a_found a_kept a_dist a_isLow a_times a_queue a_queued a_price a_heap a_heapPlace a_group a_badGroup a_cameBy a_table a_table2 a_byCount n x (nI (k + 1)) := fun hn => ih x (tg_no hx hn)
    refine br_f (nI_ge hk (by decide)) (xs_has hg hk (fun hA => br_f (by decide) (And.intro ik ?_)) (fun hA => br_t rfl (nm_r (nI_1 k) (no fun z => hA z.1))))
    rw [xg_f hg hk, xg_t hg hk]
    refine xs_isFinite hg hf hs hf7 (fun g1 b1 => br_f (by decide) (And.intro ik ?_)) (fun g1 => br_t rfl (nm_r (nI_1 k) (no fun ⟨_, d1, d2, z, _⟩ => g1 d1 z)))
    refine xs_isFinite hg hf ht7 ht (fun g2 b2 => br_f (by decide) (And.intro ik ?_)) (fun g2 => br_t rfl (nm_r (nI_1 k) (no fun ⟨_, d1, d2, _, z, _⟩ => g2 d2 z)))
    have c1 : (nI (s * 7 + fr k)).toNatClampNeg = s * 7 + fr k := nI_clamp (by omega)
    have c2 : (nI (to k * 7 + t)).toNatClampNeg = to k * 7 + t := nI_clamp (by omega)
    have c3 : (nI (s * 7 + t)).toNatClampNeg = s * 7 + t := nI_clamp (by omega)
    rw [ix_7, ix_7, ix_7, c1, c2, c3]
    have s1 : (a_found (s * 7 + fr k) + a_weightOf (nI k).toNatClampNeg).toInt = (a_found (s * 7 + fr k)).toInt + c k := ia_add rfl (xg_w hg hk) (by omega) (by omega)
    have s2 : (a_found (s * 7 + fr k) + a_weightOf (nI k).toNatClampNeg + a_found (to k * 7 + t)).toInt = (a_found (s * 7 + fr k)).toInt + c k + (a_found (to k * 7 + t)).toInt := ia_add s1 rfl (by omega) (by omega)
    refine And.intro (vp_in_nI (by omega) (by decide)) (And.intro ik (And.intro ik (And.intro (vp_in_nI (by omega) (by decide)) (nm_e (And.intro (vp_in_nI (by omega) (by decide)) ?_)))))
    refine ib_eq ((a_found (s * 7 + fr k)).toInt + c k + (a_found (to k * 7 + t)).toInt) (a_found (s * 7 + t)).toInt (fun e => nm_e (nm_r (nI_1 k) (ih _ (tg_or hk hx ⟨hA, _, _, g1, g2, e⟩)))) (fun e => nm_r (bs_or0 x) (nm_r (nI_1 k) (no fun ⟨_, d1, d2, z1, z2, z3⟩ => ?_))) s2 rfl
    have e1 := fi_u g1 z1
    have e2 := fi_u g2 z2
    omega
end CX
section CZ
variable {f_present f_heapSize f_top f_bottom : Int32} {a_fromOf a_toOf a_weightOf a_found a_kept a_dist a_isLow a_times a_queue a_queued a_price a_heap a_heapPlace a_group a_badGroup a_cameBy a_table a_table2 a_byCount : Nat → Int32} {A : Nat → Prop} {fr to : Nat → Nat} {c : Nat → Int}
theorem xs_agree (hg : xg_I f_present a_fromOf a_toOf a_weightOf A fr to c) {post : Int32 → SX → Prop} {e e2 : Nat} (he : e < 5) (he2 : e2 < 5) (h : ∀ (hz : Int32) (f d l tm qu qd pr H P gr bd T T2 : Nat → Int32) (ke : Nat → Int32), post 1 (f_present, hz, f_top, f_bottom, a_fromOf, a_toOf, a_weightOf, f, ke, d, l, tm, qu, qd, pr, H, P, gr, bd, a_cameBy, T, T2, a_byCount)) : wpX_agree post (f_present, f_heapSize, f_top, f_bottom, a_fromOf, a_toOf, a_weightOf, a_found, a_kept, a_dist, a_isLow, a_times, a_queue, a_queued, a_price, a_heap, a_heapPlace, a_group, a_badGroup, a_cameBy, a_table, a_table2, a_byCount) (nI e) (nI e2) := by
  unfold wpX_agree
  refine xs_en1 he (br_f (by decide) (xs_en1 he2 (br_f (by decide) ?_)))
  refine xs_solve hg he fun hz f d l tm qu qd pr H P gr bd T T2 hf => ?_
  refine loop_0 (fun n i z => wX_agree_23 post (nI e2) f_present hz f_top f_bottom n (nI i) a_fromOf a_toOf a_weightOf f z d l tm qu qd pr H P gr bd a_cameBy T T2 a_byCount) (fun i z => ∀ j, j < i → z j = f j) 49 a_kept (fun j hj => absurd hj (Nat.not_lt_zero j)) ?_ ?_
  · intro n z hz'
    refine br_t (nI_le (Nat.le_refl 49) (by decide)) ?_
    refine xs_solve hg he2 fun hz2 f2 d2 l2 tm2 qu2 qd2 pr2 H2 P2 gr2 bd2 T3 T4 hf2 => ?_
    refine loop_0 (σ := Unit) (fun n i _ => wX_agree_57 post f_present hz2 f_top f_bottom a_fromOf a_toOf a_weightOf f2 z d2 l2 tm2 qu2 qd2 pr2 H2 P2 gr2 bd2 a_cameBy T3 T4 a_byCount n 1 (nI i)) (fun _ _ => True) 49 () trivial ?_ ?_
    · intro n' _ _
      exact br_t (nI_le (Nat.le_refl 49) (by decide)) (And.intro nb_n1 (h _ _ _ _ _ _ _ _ _ _ _ _ _ _ _))
    · intro n' i _ hi _ ih
      have ci : (nI i).toNatClampNeg = i := nI_clamp (by omega)
      have ii := vp_in_nI hi (show 49 < 2 ^ 31 by decide)
      refine br_f (nI_ge hi (by decide)) (br_f (by decide) (And.intro ii (And.intro ii (br_t ?_ (nm_r (nI_1 i) (ih () trivial))))))
      rw [ci, hz' i hi]
      have ei : i / 7 * 7 + i % 7 = i := by omega
      have h1 := hf (i / 7) (i % 7) (by omega) (by omega)
      have h2 := hf2 (i / 7) (i % 7) (by omega) (by omega)
      rw [ei] at h1 h2
      exact ia_ext (fd_u h1 h2)
  · intro n i z hi hz' ih
    have ci : (nI i).toNatClampNeg = i := nI_clamp (by omega)
    have ii := vp_in_nI hi (show 49 < 2 ^ 31 by decide)
    refine br_f (nI_ge hi (by decide)) (And.intro ii (And.intro ii (nm_r (up_i rfl (by omega) (x' := f i) (by rw [ci])) (nm_r (nI_1 i) (ih _ fun j hj => ?_)))))
    by_cases ej : j = i
    · rw [ej, pk_us]
    · rw [pk_un ej]; exact hz' j (by omega)
theorem xs_low (hg : xg_I f_present a_fromOf a_toOf a_weightOf A fr to c) {post : Int32 → SX → Prop} {s : Nat} (hs : s < 7) (h : ∀ (r : Int32) (hz : Int32) (f d l tm qu qd pr H P gr bd T T2 : Nat → Int32), (∀ i, bt r i = true ↔ i < 7 ∧ wk_L (ga_G A fr to c) s i) → post r (f_present, hz, f_top, f_bottom, a_fromOf, a_toOf, a_weightOf, f, a_kept, d, l, tm, qu, qd, pr, H, P, gr, bd, a_cameBy, T, T2, a_byCount)) : wpX_low post (f_present, f_heapSize, f_top, f_bottom, a_fromOf, a_toOf, a_weightOf, a_found, a_kept, a_dist, a_isLow, a_times, a_queue, a_queued, a_price, a_heap, a_heapPlace, a_group, a_badGroup, a_cameBy, a_table, a_table2, a_byCount) (nI s) := by
  unfold wpX_low
  refine xs_pt1 hs (br_f (by decide) ?_)
  refine xs_solve (e := 3) hg (by omega) fun hz f d l tm qu qd pr H P gr bd T T2 hf => ?_
  refine loop_0 (fun n i x => wX_low_20 post (nI s) f_present hz f_top f_bottom a_fromOf a_toOf a_weightOf f a_kept d l tm qu qd pr H P gr bd a_cameBy T T2 a_byCount n x (nI i)) (fun i x => ∀ t, bt x t = true ↔ t < i ∧ wk_L (ga_G A fr to c) s t) 7 0 tg_0 ?_ ?_
  · intro n x hx'
    exact br_t (nI_le (Nat.le_refl 7) (by decide)) (h x _ _ _ _ _ _ _ _ _ _ _ _ _ _ hx')
  · intro n t x ht hx' ih
    have c1 : (nI (s * 7 + t)).toNatClampNeg = s * 7 + t := nI_clamp (by omega)
    refine br_f (nI_ge ht (by decide)) ?_
    rw [ix_7, c1]
    refine And.intro (vp_in_nI (by omega) (by decide)) ?_
    have hv := fd_fi (fo_b hg hs) (hf s t hs ht)
    refine ib_eq (f (s * 7 + t)).toInt (-4000) (fun e => nm_e (nm_r (nI_1 t) (ih _ (tg_or (by omega) hx' ?_)))) (fun e => nm_r (bs_or0 x) (nm_r (nI_1 t) (ih x (tg_no hx' ?_))))
    · rcases hv with ⟨_, z, _⟩ | ⟨z, _⟩ | ⟨_, z1, z2⟩
      · exact z
      · omega
      · omega
    · rcases hv with ⟨z, _⟩ | ⟨_, z, _⟩ | ⟨z, _⟩
      · exact absurd z e
      · exact z
      · exact z.1
theorem xs_around (hg : xg_I f_present a_fromOf a_toOf a_weightOf A fr to c) {post : Int32 → SX → Prop} {a : Nat} (ha : a < 20) (h0 : ¬ A a → post (-1000) (f_present, f_heapSize, f_top, f_bottom, a_fromOf, a_toOf, a_weightOf, a_found, a_kept, a_dist, a_isLow, a_times, a_queue, a_queued, a_price, a_heap, a_heapPlace, a_group, a_badGroup, a_cameBy, a_table, a_table2, a_byCount)) (h : A a → ∀ (r x : Int32) (hz : Int32) (f d l tm qu qd pr H P gr bd T T2 : Nat → Int32), yw_F (ga_G A fr to c) (to a) (fr a) r.toInt → (r.toInt ≤ -1000 → x = r) → (-1000 < r.toInt → x = r + a_weightOf a) → post x (f_present, hz, f_top, f_bottom, a_fromOf, a_toOf, a_weightOf, f, a_kept, d, l, tm, qu, qd, pr, H, P, gr, bd, a_cameBy, T, T2, a_byCount)) : wpX_around post (f_present, f_heapSize, f_top, f_bottom, a_fromOf, a_toOf, a_weightOf, a_found, a_kept, a_dist, a_isLow, a_times, a_queue, a_queued, a_price, a_heap, a_heapPlace, a_group, a_badGroup, a_cameBy, a_table, a_table2, a_byCount) (nI a) := by
  have ia := vp_in_nI ha (show 20 < 2 ^ 31 by decide)
  have ca : (nI a).toNatClampNeg = a := nI_clamp (by omega)
  have hf7 := xg_f7 hg ha
  have ht7 := xg_t7 hg ha
  unfold wpX_around
  refine xs_has hg ha (fun hA => br_f (by decide) ?_) (fun hA => br_t rfl (h0 hA))
  refine xs_solve (e := 0) hg (by omega) fun hz f d l tm qu qd pr H P gr bd T T2 hf => ?_
  refine And.intro ia (And.intro ia ?_)
  rw [xg_t hg ha, xg_f hg ha, ca]
  refine xs_answer hg hf ht7 hf7 fun r hr => ?_
  refine ib_eq r.toInt (-3000) (fun e => h hA r r _ _ _ _ _ _ _ _ _ _ _ _ _ _ hr (fun _ => rfl) (fun z => by omega)) (fun e => ib_eq r.toInt (-4000) (fun e2 => h hA r r _ _ _ _ _ _ _ _ _ _ _ _ _ _ hr (fun _ => rfl) (fun z => by omega)) (fun e2 => And.intro ia (h hA r _ _ _ _ _ _ _ _ _ _ _ _ _ _ _ hr (fun z => ?_) (fun _ => rfl))))
  rcases hr with ⟨_, q⟩ | ⟨_, _, q⟩ | ⟨q1, q2⟩
  · exact absurd q e2
  · exact absurd q e
  · have := fo_b hg ht7 _ q1 q2
    omega
end CZ
theorem i_vc_least {k : Nat} {u : SX} {v : SY} (I : i_Rel k u v) (hk : k + 4 ≤ 2048) (v1 : Int32) (v2 : Int32) (v3 : Int32) : wpX_least (fun r u' => wpY_least (fun r' v' => r' = r ∧ i_Rel (k + 4) u' v') v v1 v2 v3) u v1 v2 v3 := by
  obtain ⟨f_present, f_heapSize, f_top, f_bottom, a_fromOf, a_toOf, a_weightOf, a_found, a_kept, a_dist, a_isLow, a_times, a_queue, a_queued, a_price, a_heap, a_heapPlace, a_group, a_badGroup, a_cameBy, a_table, a_table2, a_byCount⟩ := u
  obtain ⟨f_top_1, f_bottom_1, f_ringPoints_1, a_there_1, a_froms_1, a_tos_1, a_weights_1, a_walks_1, a_ways_1⟩ := v
  have R : re_I f_present a_fromOf a_toOf a_weightOf a_there_1 a_froms_1 a_tos_1 a_weights_1 := I
  have hx := re_x R
  have hy := re_y R
  unfold wpX_least wpY_least
  rcases en_c v1 with ⟨e, he, rfl⟩ | h1
  · have yen : ∀ {P Q : Prop}, Q → (nI e < 0 → P) ∧ (¬ nI e < 0 → (4 < nI e → P) ∧ (¬ 4 < nI e → Q)) := fun q => br_f (nI_pos (by omega)) (br_f (nI_nlt (a := 4) (b := e) (by omega) (by decide)) q)
    rcases pt_c v2 with ⟨s, hs, rfl⟩ | h2
    · refine xs_pt1 hs (br_f (by decide) ?_)
      rcases pt_c v3 with ⟨t, ht, rfl⟩ | h3
      · refine xs_pt1 ht (br_f (by decide) ?_)
        refine xs_en1 he (br_f (by decide) ?_)
        refine xs_solve hx he fun hz f d l tm qu qd pr H P gr bd T T2 hf => ?_
        refine xs_answer hx hf hs ht fun r hr => ?_
        refine yen (ys_pt1 hs (br_f (by decide) (ys_pt1 ht (br_f (by decide) (ys_way hy hs ht fun r' T' hr' _ => ⟨?_, R⟩)))))
        exact ia_ext (yw_u hr' hr)
      · exact xs_pt0 h3 (br_t rfl (yen (ys_pt1 hs (br_f (by decide) (ys_pt0 h3 (br_t rfl ⟨rfl, R⟩))))))
    · exact xs_pt0 h2 (br_t rfl (yen (ys_pt0 h2 (br_t rfl ⟨rfl, R⟩))))
  · have yen : ∀ {P Q : Prop}, P → (v1 < 0 → P) ∧ (¬ v1 < 0 → (4 < v1 → P) ∧ (¬ 4 < v1 → Q)) := fun p => br_c (fun _ => p) fun hn => br_t (pt_45 (h1.resolve_left hn)) p
    rcases pt_c v2 with ⟨s, hs, rfl⟩ | h2
    · refine xs_pt1 hs (br_f (by decide) ?_)
      rcases pt_c v3 with ⟨t, ht, rfl⟩ | h3
      · exact xs_pt1 ht (br_f (by decide) (xs_en0 h1 (br_t rfl (yen ⟨rfl, R⟩))))
      · exact xs_pt0 h3 (br_t rfl (yen ⟨rfl, R⟩))
    · exact xs_pt0 h2 (br_t rfl (yen ⟨rfl, R⟩))
theorem i_vc_agree {k : Nat} {u : SX} {v : SY} (I : i_Rel k u v) (hk : k + 4 ≤ 2048) (v1 : Int32) (v2 : Int32) : wpX_agree (fun r u' => wpY_agree (fun r' => r' = r ∧ i_Rel (k + 4) u' v) v v1 v2) u v1 v2 := by
  obtain ⟨f_present, f_heapSize, f_top, f_bottom, a_fromOf, a_toOf, a_weightOf, a_found, a_kept, a_dist, a_isLow, a_times, a_queue, a_queued, a_price, a_heap, a_heapPlace, a_group, a_badGroup, a_cameBy, a_table, a_table2, a_byCount⟩ := u
  obtain ⟨f_top_1, f_bottom_1, f_ringPoints_1, a_there_1, a_froms_1, a_tos_1, a_weights_1, a_walks_1, a_ways_1⟩ := v
  have R : re_I f_present a_fromOf a_toOf a_weightOf a_there_1 a_froms_1 a_tos_1 a_weights_1 := I
  have hx := re_x R
  rcases en_c v1 with ⟨e, he, rfl⟩ | h1
  · have yen : ∀ {P Q : Prop}, Q → (nI e < 0 → P) ∧ (¬ nI e < 0 → (4 < nI e → P) ∧ (¬ 4 < nI e → Q)) := fun q => br_f (nI_pos (by omega)) (br_f (nI_nlt (a := 4) (b := e) (by omega) (by decide)) q)
    rcases en_c v2 with ⟨e2, he2, rfl⟩ | h2
    · refine xs_agree hx he he2 fun hz f d l tm qu qd pr H P gr bd T T2 ke => ?_
      exact yen (br_f (nI_pos (by omega)) (br_f (nI_nlt (a := 4) (b := e2) (by omega) (by decide)) ⟨rfl, R⟩))
    · unfold wpX_agree
      exact xs_en1 he (br_f (by decide) (xs_en0 h2 (br_t rfl (yen (br_c (fun _ => ⟨rfl, R⟩) fun hn => br_t (pt_45 (h2.resolve_left hn)) ⟨rfl, R⟩)))))
  · unfold wpX_agree
    exact xs_en0 h1 (br_t rfl (br_c (fun _ => ⟨rfl, R⟩) fun hn => br_t (pt_45 (h1.resolve_left hn)) ⟨rfl, R⟩))
theorem i_vc_reached {k : Nat} {u : SX} {v : SY} (I : i_Rel k u v) (hk : k + 4 ≤ 2048) (v1 : Int32) : wpX_reached (fun r => wpY_reached (fun r' => r' = r ∧ i_Rel (k + 4) u v) v v1) u v1 := by
  obtain ⟨f_present, f_heapSize, f_top, f_bottom, a_fromOf, a_toOf, a_weightOf, a_found, a_kept, a_dist, a_isLow, a_times, a_queue, a_queued, a_price, a_heap, a_heapPlace, a_group, a_badGroup, a_cameBy, a_table, a_table2, a_byCount⟩ := u
  obtain ⟨f_top_1, f_bottom_1, f_ringPoints_1, a_there_1, a_froms_1, a_tos_1, a_weights_1, a_walks_1, a_ways_1⟩ := v
  have R : re_I f_present a_fromOf a_toOf a_weightOf a_there_1 a_froms_1 a_tos_1 a_weights_1 := I
  have hx := re_x R
  have hy := re_y R
  unfold wpX_reached
  rcases pt_c v1 with ⟨s, hs, rfl⟩ | h1
  · refine xs_pt1 hs (br_f (by decide) ?_)
    refine xs_sp1 hx hs fun r hr => ys_reached hy hs fun r' hr' => ⟨bs_ext fun i _ => ?_, R⟩
    rw [hr i, hr' i]
  · refine xs_pt0 h1 (br_t rfl ?_)
    unfold wpY_reached
    exact ys_pt0 h1 (br_t rfl ⟨rfl, R⟩)
theorem i_vc_low {k : Nat} {u : SX} {v : SY} (I : i_Rel k u v) (hk : k + 4 ≤ 2048) (v1 : Int32) : wpX_low (fun r u' => wpY_low (fun r' v' => r' = r ∧ i_Rel (k + 4) u' v') v v1) u v1 := by
  obtain ⟨f_present, f_heapSize, f_top, f_bottom, a_fromOf, a_toOf, a_weightOf, a_found, a_kept, a_dist, a_isLow, a_times, a_queue, a_queued, a_price, a_heap, a_heapPlace, a_group, a_badGroup, a_cameBy, a_table, a_table2, a_byCount⟩ := u
  obtain ⟨f_top_1, f_bottom_1, f_ringPoints_1, a_there_1, a_froms_1, a_tos_1, a_weights_1, a_walks_1, a_ways_1⟩ := v
  have R : re_I f_present a_fromOf a_toOf a_weightOf a_there_1 a_froms_1 a_tos_1 a_weights_1 := I
  have hx := re_x R
  have hy := re_y R
  rcases pt_c v1 with ⟨s, hs, rfl⟩ | h1
  · refine xs_low hx hs fun r hz f d l tm qu qd pr H P gr bd T T2 hr => ys_low hy hs fun r' T' hr' _ => ⟨bs_ext fun i _ => ?_, R⟩
    rw [hr i, hr' i]
  · unfold wpX_low
    refine xs_pt0 h1 (br_t rfl ?_)
    unfold wpY_low
    exact ys_pt0 h1 (br_t rfl ⟨rfl, R⟩)
theorem i_vc_around {k : Nat} {u : SX} {v : SY} (I : i_Rel k u v) (hk : k + 4 ≤ 2048) (v1 : Int32) : wpX_around (fun r u' => wpY_around (fun r' v' => r' = r ∧ i_Rel (k + 4) u' v') v v1) u v1 := by
  obtain ⟨f_present, f_heapSize, f_top, f_bottom, a_fromOf, a_toOf, a_weightOf, a_found, a_kept, a_dist, a_isLow, a_times, a_queue, a_queued, a_price, a_heap, a_heapPlace, a_group, a_badGroup, a_cameBy, a_table, a_table2, a_byCount⟩ := u
  obtain ⟨f_top_1, f_bottom_1, f_ringPoints_1, a_there_1, a_froms_1, a_tos_1, a_weights_1, a_walks_1, a_ways_1⟩ := v
  have R : re_I f_present a_fromOf a_toOf a_weightOf a_there_1 a_froms_1 a_tos_1 a_weights_1 := I
  have hx := re_x R
  have hy := re_y R
  rcases hs_c v1 with ⟨a, ha, rfl⟩ | h1
  · have ia := vp_in_nI ha (show 20 < 2 ^ 31 by decide)
    have hf7 := xg_f7 hx ha
    have ht7 := xg_t7 hx ha
    refine xs_around hx ha (fun hA => ?_) (fun hA r x hz f d l tm qu qd pr H P gr bd T T2 hr hx1 hx2 => ?_)
    · unfold wpY_around
      exact ys_is hy ha (fun z => absurd z hA) (fun _ => br_t rfl ⟨rfl, R⟩)
    · unfold wpY_around
      refine ys_is hy ha (fun _ => br_f (by decide) (And.intro ia (And.intro ia ?_))) (fun z => absurd hA z)
      rw [yg_t hy ha, yg_f hy ha]
      refine ys_way hy ht7 hf7 fun r' T' hr' _ => ?_
      have er : r' = r := ia_ext (yw_u hr' hr)
      subst er
      refine ib_le r'.toInt (-1000) (fun hle => ⟨(hx1 hle).symm, R⟩) (fun hlt => And.intro ia ⟨?_, R⟩)
      rw [hx2 hlt, nI_clamp (show a < 2 ^ 31 by omega), (R.2 a ha).2.2.2.1]
      exact Int32.add_comm _ _
  · unfold wpX_around
    refine xs_has0 h1 (br_t rfl ?_)
    unfold wpY_around
    exact ys_is0 h1 (br_t rfl ⟨rfl, R⟩)
end
section
/-! on, widest, fewest -/
theorem yo_b {a_there a_froms a_tos a_weights : Nat → Int32} {A : Nat → Prop} {fr to : Nat → Nat} {c : Nat → Int} (hg : yg_I a_there a_froms a_tos a_weights A fr to c) {s t : Nat} (hs : s < 7) : ∀ d, ¬ wk_L (ga_G A fr to c) s t → wk_D (ga_G A fr to c) s t d → -120 ≤ d ∧ d ≤ 120 := fun _ hl hd => fd_bd (yg_7 hg) (yg_20 hg) hs hl hd
section ON
variable {f_present f_heapSize f_top f_bottom : Int32} {a_fromOf a_toOf a_weightOf a_found a_kept a_dist a_isLow a_times a_queue a_queued a_price a_heap a_heapPlace a_group a_badGroup a_cameBy a_table a_table2 a_byCount : Nat → Int32} {A : Nat → Prop} {fr to : Nat → Nat} {c : Nat → Int}
theorem xs_on (hg : xg_I f_present a_fromOf a_toOf a_weightOf A fr to c) {post : Int32 → SX → Prop} {s t : Nat} (hs : s < 7) (ht : t < 7) (h : ∀ (r : Int32) (hz : Int32) (f d l tm qu qd pr H P gr bd T T2 : Nat → Int32), ((∀ d, ¬ fi_D (ga_G A fr to c) s t d) ∧ r = 0) ∨ (∃ d, fi_D (ga_G A fr to c) s t d ∧ ∀ k, bt r k = true ↔ k < 20 ∧ tg_T A fr to c s t d k) → post r (f_present, hz, f_top, f_bottom, a_fromOf, a_toOf, a_weightOf, f, a_kept, d, l, tm, qu, qd, pr, H, P, gr, bd, a_cameBy, T, T2, a_byCount)) : wpX_on post (f_present, f_heapSize, f_top, f_bottom, a_fromOf, a_toOf, a_weightOf, a_found, a_kept, a_dist, a_isLow, a_times, a_queue, a_queued, a_price, a_heap, a_heapPlace, a_group, a_badGroup, a_cameBy, a_table, a_table2, a_byCount) (nI s) (nI t) := by
  unfold wpX_on
  refine xs_pt1 hs (br_f (by decide) (xs_pt1 ht (br_f (by decide) ?_)))
  refine xs_solve (e := 2) hg (by omega) fun hz f d l tm qu qd pr H P gr bd T T2 hf => ?_
  refine xs_isFinite hg hf hs ht (fun g1 b1 => br_f (by decide) ?_) (fun g1 => br_t rfl (h 0 _ _ _ _ _ _ _ _ _ _ _ _ _ _ (Or.inl ⟨g1, rfl⟩)))
  refine xs_tightArcs hg hf hs ht fun r hr => h r _ _ _ _ _ _ _ _ _ _ _ _ _ _ (Or.inr ⟨_, g1, hr⟩)
end ON
section YON
variable {f_top f_bottom f_ringPoints : Int32} {a_there a_froms a_tos a_weights a_walks a_ways : Nat → Int32} {A : Nat → Prop} {fr to : Nat → Nat} {c : Nat → Int}
theorem ys_on (hg : yg_I a_there a_froms a_tos a_weights A fr to c) {post : Int32 → SY → Prop} {s t : Nat} (hs : s < 7) (ht : t < 7) (h : ∀ (r : Int32) (T : Nat → Int32), ((∀ d, ¬ fi_D (ga_G A fr to c) s t d) ∧ r = 0) ∨ (∃ d, fi_D (ga_G A fr to c) s t d ∧ ∀ k, bt r k = true ↔ k < 20 ∧ tg_T A fr to c s t d k) → post r (f_top, f_bottom, f_ringPoints, a_there, a_froms, a_tos, a_weights, T, a_ways)) : wpY_on post (f_top, f_bottom, f_ringPoints, a_there, a_froms, a_tos, a_weights, a_walks, a_ways) (nI s) (nI t) := by
  unfold wpY_on
  refine ys_pt1 hs (br_f (by decide) (ys_pt1 ht (br_f (by decide) ?_)))
  refine ys_way hg hs ht fun w T0 hw _ => ?_
  rcases yw_fi (yo_b hg hs) hw with ⟨hle, hno⟩ | ⟨hfi, hb1, hb2⟩
  · refine ⟨1, br_f (nI_ge (a := 0) (b := 20) (by omega) (by decide)) (ib_le w.toInt (-1000) (fun _ => h 0 T0 (Or.inl ⟨hno, rfl⟩)) (fun z => by omega))⟩
  · refine loop_0 (σ := Int32 × (Nat → Int32)) (fun n k z => wY_on_33 post (nI s) (nI t) w n z.1 (nI k) f_top f_bottom f_ringPoints a_there a_froms a_tos a_weights z.2 a_ways) (fun i z => ∀ k, bt z.1 k = true ↔ k < i ∧ tg_T A fr to c s t w.toInt k) 20 (0, T0) tg_0 ?_ ?_
    · intro n z hz
      exact br_t (nI_le (Nat.le_refl 20) (by decide)) (h z.1 z.2 (Or.inr ⟨_, hfi, hz⟩))
    · intro n k z hk hz ih
      obtain ⟨x, T⟩ := z
      have hz : ∀ j, bt x j = true ↔ j < k ∧ tg_T A fr to c s t w.toInt j := hz
      have ik := vp_in_nI hk (show 20 < 2 ^ 31 by decide)
      have hf7 := yg_f7 hg hk
      have ht7 := yg_t7 hg hk
      have hck := yg_c hg hk
      have no : ∀ T' : Nat → Int32, ¬ tg_T A fr to c s t w.toInt k → wY_on_33 post (nI s) (nI t) w n x (nI (k + 1)) f_top f_bottom f_ringPoints a_there a_froms a_tos a_weights T' a_ways := fun T' hn => ih (x, T') (tg_no hz hn)
      show wY_on_33 post (nI s) (nI t) w (n + 1) x (nI k) f_top f_bottom f_ringPoints a_there a_froms a_tos a_weights T a_ways
      refine br_f (nI_ge hk (by decide)) (ib_le w.toInt (-1000) (fun z => by omega) (fun _ => And.intro ik (yg_br hg hk (fun hA => ?_) (fun hA => And.intro ik ?_))))
      · exact And.intro ik (yg_br hg hk (fun _ => br_t (by decide) (nm_r (nI_1 k) (no T fun z => hA z.1))) (fun z => absurd z hA))
      · rw [yg_f hg hk]
        refine ys_way hg hs hf7 fun r1 T1 hr1 _ => ?_
        refine And.intro ik (yg_br hg hk (fun z => absurd hA z) (fun _ => And.intro ik ?_))
        rw [yg_t hg hk]
        refine ys_way hg ht7 ht fun r2 T2 hr2 _ => ?_
        have v1 := yw_fi (yo_b hg hs) hr1
        have v2 := yw_fi (yo_b hg ht7) hr2
        refine ib_le r1.toInt (-1000) (fun z1 => nm_r (nI_1 k) (no T2 fun ⟨_, d1, d2, q1, q2, q3⟩ => ?_)) (fun z1 => ib_le r2.toInt (-1000) (fun z2 => nm_r (nI_1 k) (no T2 fun ⟨_, d1, d2, q1, q2, q3⟩ => ?_)) (fun z2 => And.intro ik ?_))
        · rcases v1 with ⟨_, q⟩ | ⟨_, q, _⟩
          · exact q d1 q1
          · omega
        · rcases v2 with ⟨_, q⟩ | ⟨_, q, _⟩
          · exact q d2 q2
          · omega
        · obtain ⟨g1, b1, b2⟩ : fi_D (ga_G A fr to c) s (fr k) r1.toInt ∧ -120 ≤ r1.toInt ∧ r1.toInt ≤ 120 := v1.resolve_left fun q => by omega
          obtain ⟨g2, b3, b4⟩ : fi_D (ga_G A fr to c) (to k) t r2.toInt ∧ -120 ≤ r2.toInt ∧ r2.toInt ≤ 120 := v2.resolve_left fun q => by omega
          have s1 : (r1 + a_weights (nI k).toNatClampNeg).toInt = r1.toInt + c k := ia_add rfl (yg_w hg hk) (by omega) (by omega)
          have s2 : (r1 + a_weights (nI k).toNatClampNeg + r2).toInt = r1.toInt + c k + r2.toInt := ia_add s1 rfl (by omega) (by omega)
          refine ib_eq (r1.toInt + c k + r2.toInt) w.toInt (fun e => nm_e (nm_r (nI_1 k) (ih (_, T2) (tg_or hk hz ⟨hA, _, _, g1, g2, e⟩)))) (fun e => nm_r (nI_1 k) (no T2 fun ⟨_, d1, d2, q1, q2, q3⟩ => ?_)) s2 rfl
          have e1 := fi_u g1 q1
          have e2 := fi_u g2 q2
          omega
end YON
theorem i_vc_on {k : Nat} {u : SX} {v : SY} (I : i_Rel k u v) (hk : k + 4 ≤ 2048) (v1 : Int32) (v2 : Int32) : wpX_on (fun r u' => wpY_on (fun r' v' => r' = r ∧ i_Rel (k + 4) u' v') v v1 v2) u v1 v2 := by
  obtain ⟨f_present, f_heapSize, f_top, f_bottom, a_fromOf, a_toOf, a_weightOf, a_found, a_kept, a_dist, a_isLow, a_times, a_queue, a_queued, a_price, a_heap, a_heapPlace, a_group, a_badGroup, a_cameBy, a_table, a_table2, a_byCount⟩ := u
  obtain ⟨f_top_1, f_bottom_1, f_ringPoints_1, a_there_1, a_froms_1, a_tos_1, a_weights_1, a_walks_1, a_ways_1⟩ := v
  have R : re_I f_present a_fromOf a_toOf a_weightOf a_there_1 a_froms_1 a_tos_1 a_weights_1 := I
  have hx := re_x R
  have hy := re_y R
  rcases pt_c v1 with ⟨s, hs, rfl⟩ | h1
  · rcases pt_c v2 with ⟨t, ht, rfl⟩ | h2
    · refine xs_on hx hs ht fun r hz f d l tm qu qd pr H P gr bd T T2 hr => ys_on hy hs ht fun r' T' hr' => ⟨?_, R⟩
      rcases hr with ⟨q1, q2⟩ | ⟨d, q1, q2⟩
      · rcases hr' with ⟨p1, p2⟩ | ⟨d', p1, p2⟩
        · rw [q2, p2]
        · exact absurd p1 (q1 d')
      · rcases hr' with ⟨p1, p2⟩ | ⟨d', p1, p2⟩
        · exact absurd q1 (p1 d)
        · have := fi_u q1 p1
          subst this
          exact bs_ext fun i _ => by rw [q2 i, p2 i]
    · unfold wpX_on
      refine xs_pt1 hs (br_f (by decide) (xs_pt0 h2 (br_t rfl ?_)))
      unfold wpY_on
      exact ys_pt1 hs (br_f (by decide) (ys_pt0 h2 (br_t rfl ⟨rfl, R⟩)))
  · unfold wpX_on
    refine xs_pt0 h1 (br_t rfl ?_)
    unfold wpY_on
    exact ys_pt0 h1 (br_t rfl ⟨rfl, R⟩)
/-! widest -/
def mx_I (W : Int → Prop) (N x : Int) : Prop := (x = N ∧ ∀ w, ¬ W w) ∨ (W x ∧ ∀ w, W w → w ≤ x)
theorem mx_u {W : Int → Prop} {N x y : Int} (h : mx_I W N x) (h' : mx_I W N y) : x = y := by
  rcases h with ⟨h1, h2⟩ | ⟨h1, h2⟩
  · rcases h' with ⟨k1, k2⟩ | ⟨k1, k2⟩
    · omega
    · exact absurd k1 (h2 _)
  · rcases h' with ⟨k1, k2⟩ | ⟨k1, k2⟩
    · exact absurd h1 (k2 _)
    · have := h2 _ k1
      have := k2 _ h1
      omega
/-- the finite weights of the cells below i -/
def wd_W (G : Nat → Nat → Int → Prop) (i : Nat) (w : Int) : Prop := ∃ j, j < i ∧ j / 7 ≠ j % 7 ∧ fi_D G (j / 7) (j % 7) w
section WD
variable {G : Nat → Nat → Int → Prop}
theorem wd_0 : mx_I (wd_W G 0) (-3000) (-3000) := Or.inl ⟨rfl, fun w ⟨j, hj, _⟩ => absurd hj (Nat.not_lt_zero j)⟩
theorem wd_no {i : Nat} {x : Int} (h : mx_I (wd_W G i) (-3000) x) (hn : i / 7 ≠ i % 7 → ∀ d, ¬ fi_D G (i / 7) (i % 7) d) : mx_I (wd_W G (i + 1)) (-3000) x := by
  have e : ∀ w, wd_W G (i + 1) w ↔ wd_W G i w := fun w => ⟨fun ⟨j, hj, h1, h2⟩ => ⟨j, by
    have : j ≠ i := fun z => hn (z ▸ h1) w (z ▸ h2)
    omega, h1, h2⟩, fun ⟨j, hj, h1⟩ => ⟨j, by omega, h1⟩⟩
  rcases h with ⟨h1, h2⟩ | ⟨h1, h2⟩
  · exact Or.inl ⟨h1, fun w z => h2 w ((e w).mp z)⟩
  · exact Or.inr ⟨(e x).mpr h1, fun w z => h2 w ((e w).mp z)⟩
theorem wd_keep {i : Nat} {x d : Int} (h : mx_I (wd_W G i) (-3000) x) (hd : fi_D G (i / 7) (i % 7) d) (hx : d ≤ x) (hb : -3000 < d) : mx_I (wd_W G (i + 1)) (-3000) x := by
  rcases h with ⟨h1, h2⟩ | ⟨⟨j, hj, h0, h1⟩, h2⟩
  · omega
  · refine Or.inr ⟨⟨j, by omega, h0, h1⟩, fun w ⟨j', hj', q1, q2⟩ => ?_⟩
    by_cases e : j' = i
    · subst e; have := fi_u hd q2; omega
    · exact h2 w ⟨j', by omega, q1, q2⟩
theorem wd_new {i : Nat} {x d : Int} (h : mx_I (wd_W G i) (-3000) x) (hi : i / 7 ≠ i % 7) (hd : fi_D G (i / 7) (i % 7) d) (hx : x = -3000 ∨ x < d) : mx_I (wd_W G (i + 1)) (-3000) d ∨ (x = -3000 ∧ ∃ w, wd_W G i w ∧ d < w ∧ w ≤ -3000) := by
  rcases h with ⟨h1, h2⟩ | ⟨⟨j, hj, h0, h1⟩, h2⟩
  · refine Or.inl (Or.inr ⟨⟨i, by omega, hi, hd⟩, fun w ⟨j', hj', q1, q2⟩ => ?_⟩)
    by_cases e : j' = i
    · subst e; have := fi_u hd q2; omega
    · exact absurd ⟨j', by omega, q1, q2⟩ (h2 w)
  · by_cases hlt : x < d
    · refine Or.inl (Or.inr ⟨⟨i, by omega, hi, hd⟩, fun w ⟨j', hj', q1, q2⟩ => ?_⟩)
      by_cases e : j' = i
      · subst e; have := fi_u hd q2; omega
      · have := h2 w ⟨j', by omega, q1, q2⟩; omega
    · have hx3 : x = -3000 := hx.resolve_right hlt
      by_cases e : d = x
      · refine Or.inl (Or.inr ⟨⟨i, by omega, hi, hd⟩, fun w ⟨j', hj', q1, q2⟩ => ?_⟩)
        by_cases e' : j' = i
        · subst e'; have := fi_u hd q2; omega
        · have := h2 w ⟨j', by omega, q1, q2⟩; omega
      · exact Or.inr ⟨hx3, x, ⟨j, hj, h0, h1⟩, by omega, by omega⟩
end WD
section WX
variable {f_present f_heapSize f_top f_bottom : Int32} {a_fromOf a_toOf a_weightOf a_found a_kept a_dist a_isLow a_times a_queue a_queued a_price a_heap a_heapPlace a_group a_badGroup a_cameBy a_table a_table2 a_byCount : Nat → Int32} {A : Nat → Prop} {fr to : Nat → Nat} {c : Nat → Int}
theorem xs_widest (hg : xg_I f_present a_fromOf a_toOf a_weightOf A fr to c) {post : Int32 → SX → Prop} (h : ∀ (r : Int32) (hz : Int32) (f d l tm qu qd pr H P gr bd T T2 : Nat → Int32), mx_I (wd_W (ga_G A fr to c) 49) (-3000) r.toInt → post r (f_present, hz, f_top, f_bottom, a_fromOf, a_toOf, a_weightOf, f, a_kept, d, l, tm, qu, qd, pr, H, P, gr, bd, a_cameBy, T, T2, a_byCount)) : wpX_widest post (f_present, f_heapSize, f_top, f_bottom, a_fromOf, a_toOf, a_weightOf, a_found, a_kept, a_dist, a_isLow, a_times, a_queue, a_queued, a_price, a_heap, a_heapPlace, a_group, a_badGroup, a_cameBy, a_table, a_table2, a_byCount) := by
  unfold wpX_widest
  refine xs_solve (e := 2) hg (by omega) fun hz f d l tm qu qd pr H P gr bd T T2 hf => ?_
  refine loop_0 (fun n i x => wX_widest_11 post f_present hz f_top f_bottom a_fromOf a_toOf a_weightOf f a_kept d l tm qu qd pr H P gr bd a_cameBy T T2 a_byCount n x (nI i)) (fun i x => mx_I (wd_W (ga_G A fr to c) i) (-3000) x.toInt) 49 (-3000) wd_0 ?_ ?_
  · intro n x hx
    exact br_t (nI_le (Nat.le_refl 49) (by decide)) (h x _ _ _ _ _ _ _ _ _ _ _ _ _ _ hx)
  · intro n i x hi hx ih
    have ci : (nI i).toNatClampNeg = i := nI_clamp (by omega)
    have ii := vp_in_nI hi (show 49 < 2 ^ 31 by decide)
    have ei : i / 7 * 7 + i % 7 = i := by omega
    have hv := fd_fi (fo_b hg (by omega)) (hf (i / 7) (i % 7) (by omega) (by omega))
    rw [ei] at hv
    have no : (i / 7 ≠ i % 7 → ∀ d, ¬ fi_D (ga_G A fr to c) (i / 7) (i % 7) d) → wX_widest_55 post (wX_widest_11 post f_present hz f_top f_bottom a_fromOf a_toOf a_weightOf f a_kept d l tm qu qd pr H P gr bd a_cameBy T T2 a_byCount n) x (nI i) f_present hz f_top f_bottom a_fromOf a_toOf a_weightOf f a_kept d l tm qu qd pr H P gr bd a_cameBy T T2 a_byCount := fun hn => br_t rfl (nm_r (nI_1 i) (ih x (wd_no hx hn)))
    refine br_f (nI_ge hi (by decide)) (And.intro ix_n7 (And.intro ix_n7 (pk_eq (i / 7) (i % 7) (fun e => no fun z => absurd e z) (fun e => And.intro ii ?_) (ix_d (by omega)) (ix_m (by omega)))))
    rw [ci]
    refine ib_eq (f i).toInt 1048576 (fun e1 => no fun _ => ?_) (fun e1 => And.intro ii (ib_eq (f i).toInt (-4000) (fun e2 => no fun _ => ?_) (fun e2 => ?_)))
    · rcases hv with ⟨_, _, z⟩ | ⟨_, _, z⟩ | ⟨_, z1, z2⟩
      · exact z
      · exact z
      · omega
    · rcases hv with ⟨_, _, z⟩ | ⟨_, _, z⟩ | ⟨_, z1, z2⟩
      · exact z
      · exact z
      · omega
    · obtain ⟨g1, b1, b2⟩ : fi_D (ga_G A fr to c) (i / 7) (i % 7) (f i).toInt ∧ -120 ≤ (f i).toInt ∧ (f i).toInt ≤ 120 := by
        rcases hv with ⟨z, _⟩ | ⟨z, _⟩ | z
        · exact absurd z e2
        · exact absurd z e1
        · exact z
      have set : x.toInt = -3000 ∨ x.toInt < (f i).toInt → wX_widest_78 post (wX_widest_11 post f_present hz f_top f_bottom a_fromOf a_toOf a_weightOf f a_kept d l tm qu qd pr H P gr bd a_cameBy T T2 a_byCount n) (nI i) f_present hz f_top f_bottom a_fromOf a_toOf a_weightOf f a_kept d l tm qu qd pr H P gr bd a_cameBy T T2 a_byCount := by
        intro hc
        refine And.intro ii (nm_r (e' := f i) (by rw [ci]) (nm_r (nI_1 i) (ih _ ?_)))
        rcases wd_new hx e g1 hc with z | ⟨_, w, _, z1, z2⟩
        · exact z
        · omega
      refine br_f (by decide) (ib_eq x.toInt (-3000) (fun e3 => set (Or.inl e3)) (fun e3 => And.intro ii ?_))
      rw [ci]
      exact ib_le (f i).toInt x.toInt (fun hle => nm_r (nI_1 i) (ih x (wd_keep hx g1 hle (by omega)))) (fun hlt => set (Or.inr hlt))
end WX
section WY
variable {f_top f_bottom f_ringPoints : Int32} {a_there a_froms a_tos a_weights a_walks a_ways : Nat → Int32} {A : Nat → Prop} {fr to : Nat → Nat} {c : Nat → Int}
theorem ys_widest (hg : yg_I a_there a_froms a_tos a_weights A fr to c) {post : Int32 → SY → Prop} (h : ∀ (r : Int32) (T : Nat → Int32), mx_I (wd_W (ga_G A fr to c) 49) (-3000) r.toInt → post r (f_top, f_bottom, f_ringPoints, a_there, a_froms, a_tos, a_weights, T, a_ways)) : wpY_widest post (f_top, f_bottom, f_ringPoints, a_there, a_froms, a_tos, a_weights, a_walks, a_ways) := by
  unfold wpY_widest
  refine loop_0 (σ := Int32 × (Nat → Int32)) (fun n i z => wY_widest_6 post n z.1 (nI i) f_top f_bottom f_ringPoints a_there a_froms a_tos a_weights z.2 a_ways) (fun i z => mx_I (wd_W (ga_G A fr to c) i) (-3000) z.1.toInt) 49 (-3000, a_walks) wd_0 ?_ ?_
  · intro n z hz
    exact br_t (nI_le (Nat.le_refl 49) (by decide)) (h z.1 z.2 hz)
  · intro n i z hi hz ih
    obtain ⟨x, T⟩ := z
    have hx : mx_I (wd_W (ga_G A fr to c) i) (-3000) x.toInt := hz
    show wY_widest_6 post (n + 1) x (nI i) f_top f_bottom f_ringPoints a_there a_froms a_tos a_weights T a_ways
    refine br_f (nI_ge hi (by decide)) (And.intro ix_n7 (And.intro ix_n7 (pk_eq (i / 7) (i % 7) (fun e => br_t (by decide) (nm_r (nI_1 i) (ih (x, T) (wd_no hx fun z => absurd e z)))) (fun e => And.intro ix_n7 (And.intro ix_n7 ?_)) (ix_d (by omega)) (ix_m (by omega)))))
    rw [ix_m (show i < 2 ^ 31 by omega), ix_d (show i < 2 ^ 31 by omega)]
    refine ys_way hg (by omega) (by omega) fun r T' hr _ => ?_
    have hv := yw_fi (yo_b hg (by omega)) hr
    refine ib_le r.toInt (-1000) (fun z1 => nm_r (nI_1 i) (ih (x, T') (wd_no hx fun _ => ?_))) (fun z1 => ?_)
    · rcases hv with ⟨_, q⟩ | ⟨_, q, _⟩
      · exact q
      · omega
    · obtain ⟨g1, b1, b2⟩ : fi_D (ga_G A fr to c) (i / 7) (i % 7) r.toInt ∧ -120 ≤ r.toInt ∧ r.toInt ≤ 120 := hv.resolve_left fun q => by omega
      refine ib_le r.toInt x.toInt (fun hle => nm_r (nI_1 i) (ih (x, T') (wd_keep hx g1 hle (by omega)))) (fun hlt => nm_r (nI_1 i) (ih (r, T') ?_))
      rcases wd_new hx e g1 (Or.inr hlt) with q | ⟨_, w, _, q1, q2⟩
      · exact q
      · omega
end WY
theorem i_vc_widest {k : Nat} {u : SX} {v : SY} (I : i_Rel k u v) (hk : k + 4 ≤ 2048) : wpX_widest (fun r u' => wpY_widest (fun r' v' => r' = r ∧ i_Rel (k + 4) u' v') v) u := by
  obtain ⟨f_present, f_heapSize, f_top, f_bottom, a_fromOf, a_toOf, a_weightOf, a_found, a_kept, a_dist, a_isLow, a_times, a_queue, a_queued, a_price, a_heap, a_heapPlace, a_group, a_badGroup, a_cameBy, a_table, a_table2, a_byCount⟩ := u
  obtain ⟨f_top_1, f_bottom_1, f_ringPoints_1, a_there_1, a_froms_1, a_tos_1, a_weights_1, a_walks_1, a_ways_1⟩ := v
  have R : re_I f_present a_fromOf a_toOf a_weightOf a_there_1 a_froms_1 a_tos_1 a_weights_1 := I
  exact xs_widest (re_x R) fun r hz f d l tm qu qd pr H P gr bd T T2 hr => ys_widest (re_y R) fun r' T' hr' => ⟨ia_ext (mx_u hr' hr), R⟩
end
section
/-! fewest -/
section TW
variable {A : Nat → Prop} {fr to : Nat → Nat} {c : Nat → Int} {s t : Nat} {d : Int}
theorem tw_arc (hd : fi_D (ga_G A fr to c) s t d) {j : Nat} (hj : j < 20) {db : Int} (hT : tg_T A fr to c s t d j) (hb : fi_D (ga_G A fr to c) (to j) t db) : fi_D (ga_G A fr to c) (fr j) t (c j + db) := by
  obtain ⟨hA, d1, d2, g1, g2, e⟩ := hT
  have e2 := fi_u g2 hb
  subst e2
  obtain ⟨n1, hW1⟩ := g1.2.1
  obtain ⟨n2, hW2⟩ := g2.2.1
  have g : ga_G A fr to c (fr j) (to j) (c j) := ga_i hj hA
  refine ⟨fun z => hd.1 (lo_l (rc_w hW1) z), ⟨⟨n2 + 1, wk_cons g hW2⟩, fun n w hW => ?_⟩⟩
  have := hd.2.2 _ _ (wk_app hW1 _ _ _ hW)
  omega
theorem tw_w (hd : fi_D (ga_G A fr to c) s t d) : ∀ (m a b : Nat) (w db : Int), wk_W (ga_G (tg_T A fr to c s t d) fr to c) m a b w → fi_D (ga_G A fr to c) b t db → fi_D (ga_G A fr to c) a t (w + db) := by
  intro m
  induction m with
  | zero =>
    intro a b w db hW hb
    obtain ⟨rfl, rfl⟩ := hW
    have : (0 : Int) + db = db := by omega
    rw [this]; exact hb
  | succ m ih =>
    intro a b w db hW hb
    obtain ⟨e, w1, w2, hW1, ⟨j, hj, hT, rfl, rfl, rfl⟩, rfl⟩ := hW
    have := ih _ _ _ _ hW1 (tw_arc hd hj hT hb)
    have e : w1 + c j + db = w1 + (c j + db) := by omega
    rw [e]; exact this
/-- a walk along tight arcs from s to t is a least walk -/
theorem tw_1 (hd : fi_D (ga_G A fr to c) s t d) {m : Nat} {w : Int} (hW : wk_W (ga_G (tg_T A fr to c s t d) fr to c) m s t w) : wk_W (ga_G A fr to c) m s t d := by
  have hst : wk_R (ga_G A fr to c) s t := ⟨_, _, hd.2.1.choose_spec⟩
  have h0 : fi_D (ga_G A fr to c) t t 0 := by
    have hl : ¬ wk_L (ga_G A fr to c) t t := fun z => hd.1 (lo_l hst z)
    refine ⟨hl, ⟨⟨0, wk_0 t⟩, fun n w hW => ?_⟩⟩
    by_cases hneg : w < 0
    · exact absurd ⟨t, n, w, rc_0 t, hW, hneg, rc_0 t⟩ hl
    · omega
  have := tw_w hd m s t w 0 hW h0
  have e := fi_u hd this
  have hm := wk_mono (ga_mono (fun k _ (hb : tg_T A fr to c s t d k) => hb.1)) _ _ _ _ hW
  exact wk_e hm (by omega)
/-- the arcs of a least walk are tight -/
theorem tw_2 (hd : fi_D (ga_G A fr to c) s t d) : ∀ (m1 a m2 : Nat) (w1 w2 : Int), wk_W (ga_G A fr to c) m1 s a w1 → wk_W (ga_G A fr to c) m2 a t w2 → w1 + w2 = d → wk_W (ga_G (tg_T A fr to c s t d) fr to c) m1 s a w1 := by
  intro m1
  induction m1 with
  | zero => intro a m2 w1 w2 h1 _ _; exact h1
  | succ m1 ih =>
    intro a m2 w1 w2 h1 h2 e
    obtain ⟨b, v1, v2, hV, ⟨j, hj, hA, rfl, rfl, rfl⟩, rfl⟩ := h1
    have g : ga_G A fr to c (fr j) (to j) (c j) := ga_i hj hA
    refine wk_s (ih (fr j) (m2 + 1) v1 (c j + w2) hV (wk_cons g h2) (by omega)) ⟨j, hj, ⟨hA, v1, w2, ⟨fun z => hd.1 (lo_r z (rc_h g (rc_w h2))), ⟨m1, hV⟩, fun n w hW => ?_⟩, ⟨fun z => hd.1 (lo_l (rc_s (rc_w hV) g) z), ⟨m2, h2⟩, fun n w hW => ?_⟩, by omega⟩, rfl, rfl, rfl⟩
    · have := hd.2.2 _ _ (wk_app (wk_s hW g) _ _ _ h2)
      omega
    · have := hd.2.2 _ _ (wk_app (wk_s hV g) _ _ _ hW)
      omega
/-- the fewest arcs of a least walk -/
theorem tw_n (hG : ∀ a b w, ga_G A fr to c a b w → a < 7 ∧ b < 7) (hs : s < 7) (hd : fi_D (ga_G A fr to c) s t d) : ∃ n0, n0 ≤ 6 ∧ wk_W (ga_G A fr to c) n0 s t d ∧ ∀ m, m < n0 → ¬ wk_W (ga_G A fr to c) m s t d := by
  obtain ⟨n, hW⟩ := hd.2.1
  obtain ⟨n', w', h6, _, hW', hle⟩ := wk_sn hG hs hd.1 hW
  have e := hd.2.2 _ _ hW'
  have ew : w' = d := by omega
  subst ew
  obtain ⟨n0, h1, h2⟩ := pk_least (fun n => wk_W (ga_G A fr to c) n s t w') ⟨n', hW'⟩
  refine ⟨n0, ?_, h1, h2⟩
  have : ¬ n' < n0 := fun z => h2 n' z hW'
  omega
end TW
section FX
variable {f_present f_heapSize f_top f_bottom : Int32} {a_fromOf a_toOf a_weightOf a_found a_kept a_dist a_isLow a_times a_queue a_queued a_price a_heap a_heapPlace a_group a_badGroup a_cameBy a_table a_table2 a_byCount : Nat → Int32} {A : Nat → Prop} {fr to : Nat → Nat} {c : Nat → Int}
theorem xs_fewLoop (hg : xg_I f_present a_fromOf a_toOf a_weightOf A fr to c) {post : Int32 → SX → Prop} {s t n0 : Nat} {d : Int} {r : Int32} (hs : s < 7) (ht : t < 7) (hd : fi_D (ga_G A fr to c) s t d) (hr : ∀ k, bt r k = true ↔ k < 20 ∧ tg_T A fr to c s t d k) (h6 : n0 ≤ 6) (hW : wk_W (ga_G A fr to c) n0 s t d) (hmin : ∀ m, m < n0 → ¬ wk_W (ga_G A fr to c) m s t d) (h : post (nI n0) (f_present, f_heapSize, f_top, f_bottom, a_fromOf, a_toOf, a_weightOf, a_found, a_kept, a_dist, a_isLow, a_times, a_queue, a_queued, a_price, a_heap, a_heapPlace, a_group, a_badGroup, a_cameBy, a_table, a_table2, a_byCount)) : ∃ n54 : Nat, wX_fewest_54 post (nI t) r f_present f_heapSize f_top f_bottom a_fromOf a_toOf a_weightOf a_found a_kept a_dist a_isLow a_times a_queue a_queued a_price a_heap a_heapPlace a_group a_badGroup a_cameBy a_table a_table2 a_byCount n54 ((1 : Int32) <<< (nI s &&& 31)) 0 := by
  have hT0 : wk_W (ga_G (tg_T A fr to c s t d) fr to c) n0 s t d := tw_2 hd n0 t 0 d 0 hW (wk_0 t) (by omega)
  refine loop_0 (fun n i x => wX_fewest_54 post (nI t) r f_present f_heapSize f_top f_bottom a_fromOf a_toOf a_weightOf a_found a_kept a_dist a_isLow a_times a_queue a_queued a_price a_heap a_heapPlace a_group a_badGroup a_cameBy a_table a_table2 a_byCount n x (nI i)) (fun i x => ∀ p, bt x p = true ↔ p < 7 ∧ ∃ m w, m ≤ i ∧ wk_W (ga_G (tg_T A fr to c s t d) fr to c) m s p w) n0 ((1 : Int32) <<< (nI s &&& 31)) (fun p => ?_) ?_ ?_
  · rw [bs_i (by omega)]
    refine ⟨fun e => ⟨by omega, 0, 0, by omega, e ▸ wk_0 p⟩, fun ⟨_, m, w, hm, hW⟩ => ?_⟩
    obtain rfl : m = 0 := by omega
    exact hW.1.symm
  · intro n x hx
    exact bs_br t (fun hb => absurd ((hx t).mpr ⟨ht, n0, d, Nat.le_refl _, hT0⟩) hb) (fun _ => h)
  · intro n i x hi hx ih
    refine bs_br t (fun _ => br_f (nI_ge (show i < 7 by omega) (by decide)) ?_) (fun hb => ?_)
    · refine loop_0 (fun n' k y => wX_fewest_77 post (wX_fewest_54 post (nI t) r f_present f_heapSize f_top f_bottom a_fromOf a_toOf a_weightOf a_found a_kept a_dist a_isLow a_times a_queue a_queued a_price a_heap a_heapPlace a_group a_badGroup a_cameBy a_table a_table2 a_byCount n) (nI t) r x (nI i) f_present f_heapSize f_top f_bottom a_fromOf a_toOf a_weightOf a_found a_kept a_dist a_isLow a_times a_queue a_queued a_price a_heap a_heapPlace a_group a_badGroup a_cameBy a_table a_table2 a_byCount n' y (nI k)) (fun k y => ∀ p, bt y p = true ↔ bt x p = true ∨ ∃ j, j < k ∧ tg_T A fr to c s t d j ∧ bt x (fr j) = true ∧ to j = p) 20 x (fun p => ⟨Or.inl, fun z => z.elim id fun ⟨j, hj, _⟩ => absurd hj (Nat.not_lt_zero j)⟩) ?_ ?_
      · intro n' y hy
        refine br_t (nI_le (Nat.le_refl 20) (by decide)) (nm_r (nI_1 i) (ih y fun p => ?_))
        rw [hy p]
        constructor
        · intro z
          rcases z with z | ⟨j, hj, hT, hb, rfl⟩
          · obtain ⟨p7, m, w, hm, hW⟩ := (hx p).mp z
            exact ⟨p7, m, w, by omega, hW⟩
          · obtain ⟨p7, m, w, hm, hW⟩ := (hx (fr j)).mp hb
            exact ⟨xg_t7 hg hj, m + 1, _, by omega, wk_s hW (ga_i hj hT)⟩
        · intro ⟨p7, m, w, hm, hW⟩
          by_cases e : m ≤ i
          · exact Or.inl ((hx p).mpr ⟨p7, m, w, e, hW⟩)
          · obtain rfl : m = i + 1 := by omega
            obtain ⟨b, w1, w2, hW1, ⟨j, hj, hT, rfl, rfl, rfl⟩, rfl⟩ := hW
            exact Or.inr ⟨j, hj, hT, (hx _).mpr ⟨xg_f7 hg hj, i, w1, Nat.le_refl _, hW1⟩, rfl⟩
      · intro n' k y hk hy ih'
        have no : ¬ (tg_T A fr to c s t d k ∧ bt x (fr k) = true) → wX_fewest_112 post (wX_fewest_54 post (nI t) r f_present f_heapSize f_top f_bottom a_fromOf a_toOf a_weightOf a_found a_kept a_dist a_isLow a_times a_queue a_queued a_price a_heap a_heapPlace a_group a_badGroup a_cameBy a_table a_table2 a_byCount n) (wX_fewest_77 post (wX_fewest_54 post (nI t) r f_present f_heapSize f_top f_bottom a_fromOf a_toOf a_weightOf a_found a_kept a_dist a_isLow a_times a_queue a_queued a_price a_heap a_heapPlace a_group a_badGroup a_cameBy a_table a_table2 a_byCount n) (nI t) r x (nI i) f_present f_heapSize f_top f_bottom a_fromOf a_toOf a_weightOf a_found a_kept a_dist a_isLow a_times a_queue a_queued a_price a_heap a_heapPlace a_group a_badGroup a_cameBy a_table a_table2 a_byCount n') (nI t) r x (nI i) y (nI k) f_present f_heapSize f_top f_bottom a_fromOf a_toOf a_weightOf a_found a_kept a_dist a_isLow a_times a_queue a_queued a_price a_heap a_heapPlace a_group a_badGroup a_cameBy a_table a_table2 a_byCount := by
          intro hn
          refine br_t rfl (nm_r (bs_or0 y) (nm_r (nI_1 k) (ih' y fun p => ?_)))
          rw [hy p]
          refine ⟨fun z => z.imp id fun ⟨j, hj, q⟩ => ⟨j, by omega, q⟩, fun z => z.imp id fun ⟨j, hj, q1, q2, q3⟩ => ⟨j, ?_, q1, q2, q3⟩⟩
          have : j ≠ k := fun e => hn (e ▸ ⟨q1, q2⟩)
          omega
        refine br_f (nI_ge hk (by decide)) (bs_br k (fun hb => no fun z => hb ((hr k).mpr ⟨hk, z.1⟩)) (fun hb => And.intro (vp_in_nI hk (by decide)) ?_))
        refine bs_br (fr k) (fun hb2 => no fun z => hb2 z.2) (fun hb2 => br_f (by decide) (And.intro (vp_in_nI hk (by decide)) (nm_e (nm_r (nI_1 k) (ih' _ fun p => ?_))))) (xg_f hg hk) (by have := xg_f7 hg hk; omega)
        have ht7 := xg_t7 hg hk
        have hor : bt (y ||| ((1 : Int32) <<< ((a_toOf (nI k).toNatClampNeg) &&& 31))) p = true ↔ bt y p = true ∨ p = to k := by
          by_cases hp : p < 32
          · exact bs_or (by omega) (xg_t hg hk) hp
          · rw [b_big (by omega), b_big (by omega)]
            exact ⟨fun z => absurd z (by decide), fun z => z.elim (fun z => absurd z (by decide)) (fun z => by omega)⟩
        rw [hor, hy p]
        constructor
        · intro z
          rcases z with (z | ⟨j, hj, q⟩) | z
          · exact Or.inl z
          · exact Or.inr ⟨j, by omega, q⟩
          · exact Or.inr ⟨k, by omega, ((hr k).mp hb).2, hb2, z.symm⟩
        · intro z
          rcases z with z | ⟨j, hj, q1, q2, q3⟩
          · exact Or.inl (Or.inl z)
          · by_cases e : j = k
            · subst e; exact Or.inr q3.symm
            · exact Or.inl (Or.inr ⟨j, by omega, q1, q2, q3⟩)
    · obtain ⟨_, m, w, hm, hWm⟩ := (hx t).mp hb
      exact absurd (tw_1 hd hWm) (hmin m (by omega))
theorem xs_fewest (hg : xg_I f_present a_fromOf a_toOf a_weightOf A fr to c) {post : Int32 → SX → Prop} {s t : Nat} (hs : s < 7) (ht : t < 7) (h : ∀ (r : Int32) (hz : Int32) (f d l tm qu qd pr H P gr bd T T2 : Nat → Int32), ((∀ d, ¬ fi_D (ga_G A fr to c) s t d) ∧ yw_F (ga_G A fr to c) s t r.toInt) ∨ (∃ d n0, fi_D (ga_G A fr to c) s t d ∧ n0 ≤ 6 ∧ r = nI n0 ∧ wk_W (ga_G A fr to c) n0 s t d ∧ ∀ m, m < n0 → ¬ wk_W (ga_G A fr to c) m s t d) → post r (f_present, hz, f_top, f_bottom, a_fromOf, a_toOf, a_weightOf, f, a_kept, d, l, tm, qu, qd, pr, H, P, gr, bd, a_cameBy, T, T2, a_byCount)) : wpX_fewest post (f_present, f_heapSize, f_top, f_bottom, a_fromOf, a_toOf, a_weightOf, a_found, a_kept, a_dist, a_isLow, a_times, a_queue, a_queued, a_price, a_heap, a_heapPlace, a_group, a_badGroup, a_cameBy, a_table, a_table2, a_byCount) (nI s) (nI t) := by
  unfold wpX_fewest
  refine xs_pt1 hs (br_f (by decide) (xs_pt1 ht (br_f (by decide) ?_)))
  refine xs_solve (e := 1) hg (by omega) fun hz f d l tm qu qd pr H P gr bd T T2 hf => ?_
  refine xs_isFinite hg hf hs ht (fun g1 b1 => br_f (by decide) ?_) (fun g1 => br_t rfl (xs_answer hg hf hs ht fun r hr => h r _ _ _ _ _ _ _ _ _ _ _ _ _ _ (Or.inl ⟨g1, hr⟩)))
  refine xs_tightArcs hg hf hs ht fun r hr => nm_e ?_
  obtain ⟨n0, h6, hW, hmin⟩ := tw_n (xg_7 hg) hs g1
  exact xs_fewLoop hg hs ht g1 hr h6 hW hmin (h _ _ _ _ _ _ _ _ _ _ _ _ _ _ _ (Or.inr ⟨_, n0, g1, h6, rfl, hW, hmin⟩))
end FX
theorem ys_fewest {f_top f_bottom f_ringPoints : Int32} {a_there a_froms a_tos a_weights a_walks a_ways : Nat → Int32} {A : Nat → Prop} {fr to : Nat → Nat} {c : Nat → Int} (hg : yg_I a_there a_froms a_tos a_weights A fr to c) {post : Int32 → SY → Prop} {s t : Nat} (hs : s < 7) (ht : t < 7) (h : ∀ (r : Int32) (T : Nat → Int32), ((∀ d, ¬ fi_D (ga_G A fr to c) s t d) ∧ yw_F (ga_G A fr to c) s t r.toInt) ∨ (∃ d n0, fi_D (ga_G A fr to c) s t d ∧ n0 ≤ 6 ∧ r = nI n0 ∧ wk_W (ga_G A fr to c) n0 s t d ∧ ∀ m, m < n0 → ¬ wk_W (ga_G A fr to c) m s t d) → post r (f_top, f_bottom, f_ringPoints, a_there, a_froms, a_tos, a_weights, T, a_ways)) : wpY_fewest post (f_top, f_bottom, f_ringPoints, a_there, a_froms, a_tos, a_weights, a_walks, a_ways) (nI s) (nI t) := by
  unfold wpY_fewest
  refine ys_pt1 hs (br_f (by decide) (ys_pt1 ht (br_f (by decide) ?_)))
  refine ys_way hg hs ht fun w T hw hT => ?_
  rcases yw_fi (yo_b hg hs) hw with ⟨hle, hno⟩ | ⟨hfi, hb1, hb2⟩
  · exact ⟨1, ib_le w.toInt (-1000) (fun _ => ib_le w.toInt (-1000) (fun _ => h w T (Or.inl ⟨hno, hw⟩)) (fun z => by omega)) (fun z => by omega)⟩
  · obtain ⟨n0, h6, hW, hmin⟩ := tw_n (yg_7 hg) hs hfi
    refine loop_0 (σ := Unit) (fun n i _ => wY_fewest_30 post (nI t) w f_top f_bottom f_ringPoints a_there a_froms a_tos a_weights T a_ways n (nI i)) (fun _ _ => True) n0 () trivial ?_ ?_
    · intro n _ _
      refine ib_le w.toInt (-1000) (fun z => by omega) (fun _ => ?_)
      have c1 : (nI (7 * n0 + t)).toNatClampNeg = 7 * n0 + t := nI_clamp (by omega)
      rw [ix_7l, c1]
      refine And.intro (vp_in_nI (by omega) (by decide)) (br_t ?_ (ib_le w.toInt (-1000) (fun z => by omega) (fun _ => h _ T (Or.inr ⟨_, n0, hfi, h6, rfl, hW, hmin⟩))))
      apply ia_ext
      rcases hT.1 n0 t (by omega) ht with ⟨_, z⟩ | ⟨_, ⟨a, ea, hWa⟩, z⟩
      · exact absurd ⟨s, rfl, hW⟩ (z _)
      · have ea : a = s := ea
        subst ea
        have e1 := z _ ⟨a, rfl, hW⟩
        have e2 := hfi.2.2 _ _ hWa
        have e1 : (T (7 * n0 + t)).toInt ≤ w.toInt := e1
        have e2 : w.toInt ≤ (T (7 * n0 + t)).toInt := e2
        omega
    · intro n i _ hi _ ih
      refine ib_le w.toInt (-1000) (fun z => by omega) (fun _ => ?_)
      have c1 : (nI (7 * i + t)).toNatClampNeg = 7 * i + t := nI_clamp (by omega)
      rw [ix_7l, c1]
      refine And.intro (vp_in_nI (by omega) (by decide)) (br_f (fun e => ?_) (nm_r (nI_1 i) (ih () trivial)))
      rcases hT.1 i t (by omega) ht with ⟨z, _⟩ | ⟨_, ⟨a, ea, hWa⟩, _⟩
      · have z : (T (7 * i + t)).toInt = -3000 := z
        rw [e] at z; omega
      · have ea : a = s := ea
        subst ea
        have hWa : wk_W (ga_G A fr to c) i a t (T (7 * i + t)).toInt := hWa
        rw [e] at hWa
        exact hmin i hi hWa
theorem i_vc_fewest {k : Nat} {u : SX} {v : SY} (I : i_Rel k u v) (hk : k + 4 ≤ 2048) (v1 : Int32) (v2 : Int32) : wpX_fewest (fun r u' => wpY_fewest (fun r' v' => r' = r ∧ i_Rel (k + 4) u' v') v v1 v2) u v1 v2 := by
  obtain ⟨f_present, f_heapSize, f_top, f_bottom, a_fromOf, a_toOf, a_weightOf, a_found, a_kept, a_dist, a_isLow, a_times, a_queue, a_queued, a_price, a_heap, a_heapPlace, a_group, a_badGroup, a_cameBy, a_table, a_table2, a_byCount⟩ := u
  obtain ⟨f_top_1, f_bottom_1, f_ringPoints_1, a_there_1, a_froms_1, a_tos_1, a_weights_1, a_walks_1, a_ways_1⟩ := v
  have R : re_I f_present a_fromOf a_toOf a_weightOf a_there_1 a_froms_1 a_tos_1 a_weights_1 := I
  have hx := re_x R
  have hy := re_y R
  rcases pt_c v1 with ⟨s, hs, rfl⟩ | h1
  · rcases pt_c v2 with ⟨t, ht, rfl⟩ | h2
    · refine xs_fewest hx hs ht fun r hz f d l tm qu qd pr H P gr bd T T2 hr => ys_fewest hy hs ht fun r' T' hr' => ⟨?_, R⟩
      rcases hr with ⟨q1, q2⟩ | ⟨d, n, q1, q2, q3, q4, q5⟩
      · rcases hr' with ⟨p1, p2⟩ | ⟨d', n', p1, _⟩
        · exact ia_ext (yw_u p2 q2)
        · exact absurd p1 (q1 d')
      · rcases hr' with ⟨p1, p2⟩ | ⟨d', n', p1, p2, p3, p4, p5⟩
        · exact absurd q1 (p1 d)
        · have := fi_u q1 p1
          subst this
          have h1 : ¬ n < n' := fun z => p5 n z q4
          have h2 : ¬ n' < n := fun z => q5 n' z p4
          rw [q3, p3]
          exact congrArg nI (by omega)
    · unfold wpX_fewest
      refine xs_pt1 hs (br_f (by decide) (xs_pt0 h2 (br_t rfl ?_)))
      unfold wpY_fewest
      exact ys_pt1 hs (br_f (by decide) (ys_pt0 h2 (br_t rfl ⟨rfl, R⟩)))
  · unfold wpX_fewest
    refine xs_pt0 h1 (br_t rfl ?_)
    unfold wpY_fewest
    exact ys_pt0 h1 (br_t rfl ⟨rfl, R⟩)
end
section
/-! closed walks and least means, pure -/
def op_I (G : Nat → Nat → Int → Prop) (t b : Int) : Prop := 1 ≤ b ∧ (∃ n c w, 1 ≤ n ∧ wk_W G n c c w ∧ w * b = t * n) ∧ ∀ n c w, 1 ≤ n → wk_W G n c c w → t * n ≤ w * b
theorem fr_lt {w b t n w' n' : Int} (hb : 0 < b) (hn : 0 < n) (hn' : 0 < n') (h1 : w * b < t * n) (h2 : t * n' ≤ w' * b) : w * n' < w' * n := by
  have e1 : w * b * n' < t * n * n' := Int.mul_lt_mul_of_pos_right h1 hn'
  have e2 : t * n' * n ≤ w' * b * n := Int.mul_le_mul_of_nonneg_right h2 (by omega)
  have e3 : w * b * n' = w * n' * b := by rw [Int.mul_assoc, Int.mul_comm b n', ← Int.mul_assoc]
  have e4 : t * n * n' = t * n' * n := by rw [Int.mul_assoc, Int.mul_comm n n', ← Int.mul_assoc]
  have e5 : w' * b * n = w' * n * b := by rw [Int.mul_assoc, Int.mul_comm b n, ← Int.mul_assoc]
  have : w * n' * b < w' * n * b := by rw [← e3, ← e5]; omega
  exact Int.lt_of_mul_lt_mul_right this (by omega)
theorem fr_le {w b t n w' n' : Int} (hb : 0 < b) (hn : 0 < n) (hn' : 0 < n') (h1 : w * b ≤ t * n) (h2 : t * n' ≤ w' * b) : w * n' ≤ w' * n := by
  have e1 : w * b * n' ≤ t * n * n' := Int.mul_le_mul_of_nonneg_right h1 (by omega)
  have e2 : t * n' * n ≤ w' * b * n := Int.mul_le_mul_of_nonneg_right h2 (by omega)
  have e3 : w * b * n' = w * n' * b := by rw [Int.mul_assoc, Int.mul_comm b n', ← Int.mul_assoc]
  have e4 : t * n * n' = t * n' * n := by rw [Int.mul_assoc, Int.mul_comm n n', ← Int.mul_assoc]
  have e5 : w' * b * n = w' * n * b := by rw [Int.mul_assoc, Int.mul_comm b n, ← Int.mul_assoc]
  have : w * n' * b ≤ w' * n * b := by rw [← e3, ← e5]; omega
  exact Int.le_of_mul_le_mul_right this hb
section OP
variable {G : Nat → Nat → Int → Prop}
theorem op_u {t b t' b' : Int} (h : op_I G t b) (h' : op_I G t' b') : t * b' = t' * b := by
  obtain ⟨hb, ⟨n, c, w, hn, hW, e⟩, hall⟩ := h
  obtain ⟨hb', ⟨n', c', w', hn', hW', e'⟩, hall'⟩ := h'
  have q1 := hall' n c w hn hW
  have q2 := hall n' c' w' hn' hW'
  -- t / b = w / n >= t' / b'
  have hn0 : (0 : Int) < n := by omega
  have hn0' : (0 : Int) < n' := by omega
  have r1 : t' * b ≤ t * b' := by
    have := fr_le (w := t') (b := (n : Int)) (t := w) (n := b') (w' := t) (n' := b) hn0 (by omega) (by omega) q1 (by omega)
    exact this
  have r2 : t * b' ≤ t' * b := by
    have := fr_le (w := t) (b := (n' : Int)) (t := w') (n := b) (w' := t') (n' := b') hn0' (by omega) (by omega) q2 (by omega)
    exact this
  omega
/-- a closed walk is a ring of different points, or two shorter closed walks -/
def sr_I (G : Nat → Nat → Int → Prop) (n : Nat) (p : Nat → Nat) (s : Nat → Int) : Prop :=
  s 0 = 0 ∧ p n = p 0 ∧ (∀ i, i < n → G (p i) (p (i + 1)) (s (i + 1) - s i)) ∧ ∀ i j, i < n → j < n → p i = p j → i = j
theorem sr_dec {n c : Nat} {w : Int} (hn : 1 ≤ n) (h : wk_W G n c c w) : (∃ p s, p 0 = c ∧ s n = w ∧ sr_I G n p s) ∨ ∃ n1 n2 c' w1 w2, 1 ≤ n1 ∧ 1 ≤ n2 ∧ n1 + n2 = n ∧ w = w1 + w2 ∧ wk_W G n1 c' c' w1 ∧ wk_W G n2 c c w2 := by
  obtain ⟨p, s, p0, pn, s0, sn, hs⟩ := wk_tr _ _ _ _ h
  by_cases hd : ∃ i j, i < j ∧ j < n ∧ p i = p j
  · obtain ⟨i, j, hij, hj, e⟩ := hd
    have h1 := wk_seg hs i 0 (by omega)
    have h2 := wk_seg hs (j - i) i (by omega)
    have h3 := wk_seg hs (n - j) j (by omega)
    have e2 : i + (j - i) = j := by omega
    have e3 : j + (n - j) = n := by omega
    rw [Nat.zero_add, p0, s0] at h1
    rw [e2, ← e] at h2
    rw [e3, pn, sn, ← e] at h3
    refine Or.inr ⟨j - i, i + (n - j), p i, s j - s i, s i - 0 + (w - s j), by omega, by omega, by omega, by omega, h2, wk_app h1 _ _ _ h3⟩
  · refine Or.inl ⟨p, s, p0, sn, s0, pn.trans p0.symm, hs, fun i j hi hj e => ?_⟩
    have h1 : ¬ i < j := fun z => hd ⟨i, j, z, hj, e⟩
    have h2 : ¬ j < i := fun z => hd ⟨j, i, z, hi, e.symm⟩
    omega
theorem sr_7 (hG : ∀ a b w, G a b w → a < 7 ∧ b < 7) {n : Nat} {p : Nat → Nat} {s : Nat → Int} (h : sr_I G n p s) : n ≤ 7 := by
  refine Classical.byContradiction fun hn => ?_
  obtain ⟨i, j, hij, hj, e⟩ := ph_pig 7 p fun i hi => (hG _ _ _ (h.2.2.1 i (by omega))).1
  have := h.2.2.2 i j (by omega) (by omega) e
  omega
/-- the same ring, begun at its least point -/
theorem sr_rot {n : Nat} {p : Nat → Nat} {s : Nat → Int} (hn : 1 ≤ n) (h : sr_I G n p s) : ∃ p' s', sr_I G n p' s' ∧ s' n = s n ∧ (∀ i, i < n → p' 0 ≤ p' i) ∧ ∃ j, j < n ∧ p' j = p 0 := by
  obtain ⟨h0, hp, hs, hd⟩ := h
  obtain ⟨v, ⟨i0, hi0, ei0⟩, hl⟩ := pk_least (fun v => ∃ i, i < n ∧ p i = v) ⟨p 0, 0, by omega, rfl⟩
  have hmin : ∀ i, i < n → p i0 ≤ p i := by
    intro i hi
    have : ¬ p i < v := fun z => hl (p i) z ⟨i, hi, rfl⟩
    omega
  refine ⟨fun i => if i + i0 < n then p (i + i0) else p (i + i0 - n), fun i => if i + i0 ≤ n then s (i + i0) - s i0 else s (i + i0 - n) + s n - s i0, ⟨?_, ?_, ?_, ?_⟩, ?_, ?_, ?_⟩
  · show (if 0 + i0 ≤ n then s (0 + i0) - s i0 else s (0 + i0 - n) + s n - s i0) = 0
    rw [if_pos (by omega), Nat.zero_add]; omega
  · show (if n + i0 < n then p (n + i0) else p (n + i0 - n)) = (if 0 + i0 < n then p (0 + i0) else p (0 + i0 - n))
    rw [if_neg (by omega), if_pos (by omega), Nat.zero_add, Nat.add_sub_cancel_left]
  · intro i hi
    show G (if i + i0 < n then p (i + i0) else p (i + i0 - n)) (if i + 1 + i0 < n then p (i + 1 + i0) else p (i + 1 + i0 - n)) ((if i + 1 + i0 ≤ n then s (i + 1 + i0) - s i0 else s (i + 1 + i0 - n) + s n - s i0) - (if i + i0 ≤ n then s (i + i0) - s i0 else s (i + i0 - n) + s n - s i0))
    by_cases c1 : i + i0 < n
    · have g := hs (i + i0) c1
      rw [if_pos c1, if_pos (show i + 1 + i0 ≤ n by omega), if_pos (show i + i0 ≤ n by omega)]
      have e1 : i + 1 + i0 = i + i0 + 1 := by omega
      have e2 : s (i + 1 + i0) - s i0 - (s (i + i0) - s i0) = s (i + i0 + 1) - s (i + i0) := by rw [e1]; omega
      rw [e2]
      by_cases c2 : i + 1 + i0 < n
      · rw [if_pos c2, e1]; exact g
      · rw [if_neg c2]
        have e3 : i + 1 + i0 - n = 0 := by omega
        have e4 : i + i0 + 1 = n := by omega
        rw [e3, ← hp, ← e4]; exact g
    · have g := hs (i + i0 - n) (by omega)
      rw [if_neg c1, if_neg (show ¬ i + 1 + i0 < n by omega), if_neg (show ¬ i + 1 + i0 ≤ n by omega)]
      have e1 : i + 1 + i0 - n = i + i0 - n + 1 := by omega
      rw [e1]
      by_cases c2 : i + i0 ≤ n
      · have e3 : i + i0 = n := by omega
        rw [if_pos c2]
        have e4 : i + i0 - n = 0 := by omega
        rw [e4] at g ⊢
        rw [e3]
        have e5 : s (0 + 1) + s n - s i0 - (s n - s i0) = s (0 + 1) - s 0 := by omega
        rw [e5]; exact g
      · rw [if_neg c2]
        have e5 : s (i + i0 - n + 1) + s n - s i0 - (s (i + i0 - n) + s n - s i0) = s (i + i0 - n + 1) - s (i + i0 - n) := by omega
        rw [e5]; exact g
  · intro i j hi hj e
    have e' : (if i + i0 < n then p (i + i0) else p (i + i0 - n)) = (if j + i0 < n then p (j + i0) else p (j + i0 - n)) := e
    by_cases c1 : i + i0 < n
    · rw [if_pos c1] at e'
      by_cases c2 : j + i0 < n
      · rw [if_pos c2] at e'
        have := hd _ _ c1 c2 e'; omega
      · rw [if_neg c2] at e'
        have := hd _ _ c1 (by omega) e'; omega
    · rw [if_neg c1] at e'
      by_cases c2 : j + i0 < n
      · rw [if_pos c2] at e'
        have := hd _ _ (by omega) c2 e'; omega
      · rw [if_neg c2] at e'
        have := hd _ _ (by omega) (by omega) e'; omega
  · show (if n + i0 ≤ n then s (n + i0) - s i0 else s (n + i0 - n) + s n - s i0) = s n
    by_cases c1 : n + i0 ≤ n
    · have e : i0 = 0 := by omega
      rw [if_pos c1, e, Nat.add_zero]; omega
    · rw [if_neg c1, Nat.add_sub_cancel_left]; omega
  · intro i hi
    show (if 0 + i0 < n then p (0 + i0) else p (0 + i0 - n)) ≤ (if i + i0 < n then p (i + i0) else p (i + i0 - n))
    rw [if_pos (by omega), Nat.zero_add]
    by_cases c1 : i + i0 < n
    · rw [if_pos c1]; exact hmin _ c1
    · rw [if_neg c1]; exact hmin _ (by omega)
  · by_cases e : i0 = 0
    · refine ⟨0, by omega, ?_⟩
      show (if 0 + i0 < n then p (0 + i0) else p (0 + i0 - n)) = p 0
      rw [if_pos (by omega), e]
    · refine ⟨n - i0, by omega, ?_⟩
      show (if n - i0 + i0 < n then p (n - i0 + i0) else p (n - i0 + i0 - n)) = p 0
      rw [if_neg (by omega)]
      have : n - i0 + i0 - n = 0 := by omega
      rw [this]
/-- what holds of the rings holds of all closed walks -/
theorem op_all {t b : Int} (h : ∀ n p s, 1 ≤ n → sr_I G n p s → t * n ≤ s n * b) : ∀ (N n c : Nat) (w : Int), n ≤ N → 1 ≤ n → wk_W G n c c w → t * n ≤ w * b := by
  intro N
  induction N with
  | zero => intro n c w h1 h2; omega
  | succ N ih =>
    intro n c w hN hn hW
    rcases sr_dec hn hW with ⟨p, s, p0, sn, hr⟩ | ⟨n1, n2, c', w1, w2, q1, q2, en, ew, hW1, hW2⟩
    · have := h n p s hn hr
      rw [sn] at this; exact this
    · have r1 := ih n1 c' w1 (by omega) q1 hW1
      have r2 := ih n2 c w2 (by omega) q2 hW2
      have e1 : (n : Int) = n1 + n2 := by omega
      rw [e1, ew, Int.mul_add, Int.add_mul]
      omega
theorem op_any {n c : Nat} {w : Int} (hn : 1 ≤ n) (hW : wk_W G n c c w) : ∃ n p s, 1 ≤ n ∧ sr_I G n p s := by
  have : ∀ (N n c : Nat) (w : Int), n ≤ N → 1 ≤ n → wk_W G n c c w → ∃ n p s, 1 ≤ n ∧ sr_I G n p s := by
    intro N
    induction N with
    | zero => intro n c w h1 h2; omega
    | succ N ih =>
      intro n c w hN hn hW
      rcases sr_dec hn hW with ⟨p, s, p0, sn, hr⟩ | ⟨n1, n2, c', w1, w2, q1, q2, en, ew, hW1, hW2⟩
      · exact ⟨n, p, s, hn, hr⟩
      · exact ih n1 c' w1 (by omega) q1 hW1
  exact this n n c w (Nat.le_refl n) hn hW
theorem sr_W {n : Nat} {p : Nat → Nat} {s : Nat → Int} (h : sr_I G n p s) : wk_W G n (p 0) (p 0) (s n) := by
  have := wk_seg h.2.2.1 n 0 (by omega)
  rw [Nat.zero_add, h.2.1, h.1] at this
  exact wk_e this (by omega)
/-- there is a least mean if there is a ring -/
theorem op_ex (hG : ∀ a b w, G a b w → a < 7 ∧ b < 7) (hw : ∀ a b w, G a b w → -20 ≤ w ∧ w ≤ 20) {n c : Nat} {w : Int} (hn : 1 ≤ n) (hW : wk_W G n c c w) : ∃ t b, op_I G t b := by
  obtain ⟨n1, p1, s1, hn1, hr1⟩ := op_any hn hW
  have bd : ∀ n p s, 1 ≤ n → sr_I G n p s → -140 ≤ s n ∧ s n ≤ 140 := by
    intro n p s hn hr
    have h7 := sr_7 hG hr
    have e1 := wk_le (C := 20) (fun a b w g => (hw a b w g).2) _ _ _ _ (sr_W hr)
    have e2 := wk_ge (C := 20) (fun a b w g => (hw a b w g).1) _ _ _ _ (sr_W hr)
    omega
  have h420 : ∀ n : Nat, 1 ≤ n → n ≤ 7 → ∃ q : Int, q * n = 420 ∧ 0 < q ∧ q ≤ 420 := by
    intro n h1 h7
    have hc : n = 1 ∨ n = 2 ∨ n = 3 ∨ n = 4 ∨ n = 5 ∨ n = 6 ∨ n = 7 := by omega
    rcases hc with rfl | rfl | rfl | rfl | rfl | rfl | rfl
    · exact ⟨420, by decide, by decide, by decide⟩
    · exact ⟨210, by decide, by decide, by decide⟩
    · exact ⟨140, by decide, by decide, by decide⟩
    · exact ⟨105, by decide, by decide, by decide⟩
    · exact ⟨84, by decide, by decide, by decide⟩
    · exact ⟨70, by decide, by decide, by decide⟩
    · exact ⟨60, by decide, by decide, by decide⟩
  obtain ⟨key, ⟨n0, p0, s0, q0, hn0, hr0, hq0, hk0⟩, hleast⟩ := pk_least (fun k => ∃ (n : Nat) (p : Nat → Nat) (s : Nat → Int) (q : Int), 1 ≤ n ∧ sr_I G n p s ∧ (q * n = 420 ∧ 0 < q ∧ q ≤ 420) ∧ (k : Int) = s n * q + 58800) (by
    obtain ⟨q, hq⟩ := h420 n1 hn1 (sr_7 hG hr1)
    have hb := bd n1 p1 s1 hn1 hr1
    have hnn : 0 ≤ s1 n1 * q + 58800 := by
      have : -140 * q ≤ s1 n1 * q := Int.mul_le_mul_of_nonneg_right hb.1 (by omega)
      omega
    exact ⟨(s1 n1 * q + 58800).toNat, n1, p1, s1, q, hn1, hr1, hq, Int.toNat_of_nonneg hnn⟩)
  refine ⟨s0 n0, n0, by omega, ⟨n0, p0 0, s0 n0, hn0, sr_W hr0, rfl⟩, fun n c w hn hW => op_all (b := (n0 : Int)) ?_ n n c w (Nat.le_refl n) hn hW⟩
  intro n p s hn hr
  obtain ⟨q, hq⟩ := h420 n hn (sr_7 hG hr)
  have hb := bd n p s hn hr
  have hnn : 0 ≤ s n * q + 58800 := by
    have : -140 * q ≤ s n * q := Int.mul_le_mul_of_nonneg_right hb.1 (by omega)
    omega
  have hle : s0 n0 * q0 ≤ s n * q := by
    have : ¬ (s n * q + 58800).toNat < key := fun z => hleast _ z ⟨n, p, s, q, hn, hr, hq, Int.toNat_of_nonneg hnn⟩
    omega
  -- times n * n0
  have f1 : s0 n0 * q0 * (n0 * n) ≤ s n * q * (n0 * n) := Int.mul_le_mul_of_nonneg_right hle (by
    have : (0 : Int) ≤ (n0 : Int) * n := Int.mul_nonneg (by omega) (by omega)
    exact this)
  have e1 : s0 n0 * q0 * (n0 * n) = s0 n0 * n * 420 := by
    rw [← hq0.1]
    generalize s0 n0 = x
    generalize (n : Int) = y
    generalize (n0 : Int) = z
    rw [Int.mul_assoc, Int.mul_assoc, ← Int.mul_assoc q0 z y, Int.mul_comm (q0 * z) y]
  have e2 : s n * q * (n0 * n) = s n * n0 * 420 := by
    rw [← hq.1]
    generalize s n = x
    generalize (n : Int) = y
    generalize (n0 : Int) = z
    rw [Int.mul_assoc, Int.mul_assoc, ← Int.mul_assoc q z y, Int.mul_comm q z, Int.mul_assoc z q y]
  rw [e1, e2] at f1
  exact Int.le_of_mul_le_mul_right f1 (by decide)
end OP
end
section
/-! sets of points as numbers below 128; the least ways through sets, pure -/
def hk_k (m : Nat) : Nat → Nat
  | 0 => 0
  | k + 1 => hk_k m k + (if m.testBit k = true then 1 else 0)
def hk_on (m : Nat) : Nat := hk_k m 7
def hk_lo (m : Nat) : Nat := if m.testBit 0 = true then 0 else if m.testBit 1 = true then 1 else if m.testBit 2 = true then 2 else if m.testBit 3 = true then 3 else if m.testBit 4 = true then 4 else if m.testBit 5 = true then 5 else 6
def hk_cl (m v : Nat) : Nat := if m.testBit v = true then m - 2 ^ v else m
theorem hk_t1 : ∀ m, m < 128 → ∀ v, v < 7 → nI m &&& (((1 : Int32) <<< (nI v &&& 31)) ^^^ (-1)) = nI (hk_cl m v) := by decide +kernel
theorem hk_t2 : ∀ m, m < 128 → ∀ v, v < 7 → m.testBit v = true → hk_cl m v < m ∧ hk_on (hk_cl m v) + 1 = hk_on m ∧ (v ≠ hk_lo m → 0 < hk_cl m v ∧ hk_lo (hk_cl m v) = hk_lo m) := by decide +kernel
theorem hk_t3 : ∀ m, m < 128 → ∀ v, v < 7 → ∀ u, u < 7 → (hk_cl m v).testBit u = (m.testBit u && !decide (u = v)) := by decide +kernel
theorem hk_t4 : ∀ m, m < 128 → 0 < m → m.testBit (hk_lo m) = true ∧ hk_lo m < 7 ∧ (∀ v, v < hk_lo m → m.testBit v = false) ∧ 1 ≤ hk_on m ∧ hk_on m ≤ 7 := by decide +kernel
theorem hk_t5a : ∀ m, m < 128 → ∀ v, v < 7 → m.testBit v = false → m + 2 ^ v < 128 ∧ hk_cl (m + 2 ^ v) v = m ∧ (m + 2 ^ v).testBit v = true ∧ hk_on (m + 2 ^ v) = hk_on m + 1 := by decide +kernel
theorem hk_t5b : ∀ m, m < 128 → ∀ v, v < 7 → (m.testBit v = false ∧ 0 < m ∧ hk_lo m < v) → hk_lo (m + 2 ^ v) = hk_lo m := by decide +kernel
theorem hk_t5 (m : Nat) (hm : m < 128) (v : Nat) (hv : v < 7) (h : m.testBit v = false) : m + 2 ^ v < 128 ∧ hk_cl (m + 2 ^ v) v = m ∧ (m + 2 ^ v).testBit v = true ∧ hk_on (m + 2 ^ v) = hk_on m + 1 ∧ (0 < m → hk_lo m < v → hk_lo (m + 2 ^ v) = hk_lo m) := by
  obtain ⟨h1, h2, h3, h4⟩ := hk_t5a m hm v hv h
  exact ⟨h1, h2, h3, h4, fun a b => hk_t5b m hm v hv ⟨h, a, b⟩⟩
theorem hk_t6 : ∀ m, m < 128 → ∀ v, v < 7 → m.testBit v = false → ∀ u, u < 7 → (m + 2 ^ v).testBit u = (m.testBit u || decide (u = v)) := by decide +kernel
theorem hk_t7 : ∀ v, v < 7 → 2 ^ v < 128 ∧ 0 < 2 ^ v ∧ hk_lo (2 ^ v) = v ∧ hk_on (2 ^ v) = 1 ∧ ∀ u, u < 7 → (2 ^ v).testBit u = decide (u = v) := by decide +kernel
theorem hk_t8 : ∀ v, v < 7 → (1 : Int32) <<< (nI v &&& 31) = nI (2 ^ v) := by decide +kernel
theorem hk_t9 : ∀ m, m < 128 → ∀ i, i < 32 → bt (nI m) i = m.testBit i := by decide +kernel
theorem hk_b {m : Nat} (hm : m < 128) (i : Nat) : bt (nI m) i = m.testBit i := by
  by_cases hi : i < 32
  · exact hk_t9 m hm i hi
  · rw [b_big (by omega)]
    have : m < 2 ^ i := Nat.lt_of_lt_of_le hm (Nat.pow_le_pow_right (n := 2) (by omega) (show 7 ≤ i by omega))
    exact (Nat.testBit_lt_two_pow this).symm
theorem hk_b7 {m : Nat} (hm : m < 128) {i : Nat} (h : m.testBit i = true) : i < 7 := by
  refine Classical.byContradiction fun hi => ?_
  have : m < 2 ^ i := Nat.lt_of_lt_of_le hm (Nat.pow_le_pow_right (n := 2) (by omega) (show 7 ≤ i by omega))
  rw [Nat.testBit_lt_two_pow this] at h
  exact absurd h (by decide)
/-- a walk of weight w from the least point of the set to v, through all its points -/
def hk_S (G : Nat → Nat → Int → Prop) (m v : Nat) (w : Int) : Prop := wk_W G (hk_on m - 1) (hk_lo m) v w ∧ ∀ p, p < 7 → m.testBit p = true → ∃ i j w1 w2, i + j = hk_on m - 1 ∧ w = w1 + w2 ∧ wk_W G i (hk_lo m) p w1 ∧ wk_W G j p v w2
section HK
variable {G : Nat → Nat → Int → Prop}
theorem hk_S1 {v : Nat} (hv : v < 7) : hk_S G (2 ^ v) v 0 := by
  obtain ⟨_, _, h1, h2, h3⟩ := hk_t7 v hv
  refine ⟨?_, fun p hp hb => ⟨0, 0, 0, 0, ?_, by omega, ?_, ?_⟩⟩
  · rw [h1, h2]; exact wk_0 v
  · rw [h2]
  · rw [h3 p hp, decide_eq_true_iff] at hb
    rw [h1, hb]; exact wk_0 v
  · rw [h3 p hp, decide_eq_true_iff] at hb
    rw [hb]; exact wk_0 v
theorem hk_Ss {m u v : Nat} {w x : Int} (hm : m < 128) (hv : v < 7) (hb : m.testBit v = true) (hl : v ≠ hk_lo m) (h : hk_S G (hk_cl m v) u w) (g : G u v x) : hk_S G m v (w + x) := by
  obtain ⟨e1, e2, e3⟩ := hk_t2 m hm v hv hb
  obtain ⟨e4, e5⟩ := e3 hl
  obtain ⟨h1, h2⟩ := h
  have h0 := (hk_t4 _ (Nat.lt_trans e1 hm) e4).2.2.2.1
  rw [e5] at h1 h2
  have h1' := wk_s h1 g
  have en : hk_on (hk_cl m v) - 1 + 1 = hk_on m - 1 := by omega
  refine ⟨wk_en h1' en rfl, fun p hp hbp => ?_⟩
  by_cases e : p = v
  · subst e
    exact ⟨hk_on m - 1, 0, w + x, 0, by omega, by omega, wk_en h1' en rfl, wk_0 p⟩
  · obtain ⟨i, j, w1, w2, q1, q2, q3, q4⟩ := h2 p hp (by rw [hk_t3 m hm v hv p hp, hbp]; simp [e])
    exact ⟨i, j + 1, w1, w2 + x, by omega, by omega, q3, wk_s q4 g⟩
theorem hk_bd (hw : ∀ a b w, G a b w → -20 ≤ w ∧ w ≤ 20) {m v : Nat} {w : Int} (hm : m < 128) (h0 : 0 < m) (h : hk_S G m v w) : -120 ≤ w ∧ w ≤ 120 := by
  have h7 := (hk_t4 m hm h0).2.2.2
  have e1 := wk_le (C := 20) (fun a b w g => (hw a b w g).2) _ _ _ _ h.1
  have e2 := wk_ge (C := 20) (fun a b w g => (hw a b w g).1) _ _ _ _ h.1
  omega
/-- row m of the ways stands, but for the pairs (v, u) from 7 v + u = i on -/
def hk_R (G : Nat → Nat → Int → Prop) (W : Nat → Int) (m i : Nat) : Prop :=
  (∀ v, v < 7 → W (7 * m + v) ≠ -3000 → hk_S G m v (W (7 * m + v))) ∧
  (∀ v, v < 7 → m = 2 ^ v → W (7 * m + v) ≠ -3000 ∧ W (7 * m + v) ≤ 0) ∧
  (∀ v u x, v < 7 → u < 7 → 7 * v + u < i → v ≠ hk_lo m → m.testBit v = true → (hk_cl m v).testBit u = true → W (7 * hk_cl m v + u) ≠ -3000 → G u v x → W (7 * m + v) ≠ -3000 ∧ W (7 * m + v) ≤ W (7 * hk_cl m v + u) + x)
theorem hk_R0 {W : Nat → Int} {m : Nat} (h : ∀ v, v < 7 → W (7 * m + v) = if m = 2 ^ v then 0 else -3000) : hk_R G W m 0 := by
  refine ⟨fun v hv hne => ?_, fun v hv e => ?_, fun v u x _ _ hi => absurd hi (Nat.not_lt_zero _)⟩
  · rw [h v hv] at hne ⊢
    by_cases e : m = 2 ^ v
    · rw [if_pos e, e]; exact hk_S1 hv
    · rw [if_neg e] at hne; exact absurd rfl hne
  · rw [h v hv, if_pos e]; exact ⟨by decide, by decide⟩
theorem hk_Rn {W : Nat → Int} {m i : Nat} (h : hk_R G W m i) (hn : ∀ x, i / 7 ≠ hk_lo m → m.testBit (i / 7) = true → (hk_cl m (i / 7)).testBit (i % 7) = true → W (7 * hk_cl m (i / 7) + i % 7) ≠ -3000 → G (i % 7) (i / 7) x → W (7 * m + i / 7) ≠ -3000 ∧ W (7 * m + i / 7) ≤ W (7 * hk_cl m (i / 7) + i % 7) + x) : hk_R G W m (i + 1) := by
  obtain ⟨h1, h2, h3⟩ := h
  refine ⟨h1, h2, fun v u x hv hu hi a1 a2 a3 a4 a5 => ?_⟩
  by_cases e : 7 * v + u = i
  · have e1 : i / 7 = v := by omega
    have e2 : i % 7 = u := by omega
    rw [e1, e2] at hn
    exact hn x a1 a2 a3 a4 a5
  · exact h3 v u x hv hu (by omega) a1 a2 a3 a4 a5
theorem hk_Rc {W W' : Nat → Int} {m i : Nat} (hm : m < 128) (h : hk_R G W m i) (e : ∀ j, j < 7 * m + 7 → W' j = W j) : hk_R G W' m i := by
  obtain ⟨h1, h2, h3⟩ := h
  refine ⟨fun v hv hne => ?_, fun v hv em => ?_, fun v u x hv hu hi a1 a2 a3 a4 a5 => ?_⟩
  · rw [e _ (by omega)] at hne ⊢; exact h1 v hv hne
  · rw [e _ (by omega)]; exact h2 v hv em
  · have hlt := (hk_t2 m hm v hv a2).1
    rw [e _ (by omega)] at a4
    rw [e (7 * m + v) (by omega), e (7 * hk_cl m v + u) (by omega)]
    exact h3 v u x hv hu hi a1 a2 a3 a4 a5
/-- the cell is lowered to way + last -/
theorem hk_Ry {W W' : Nat → Int} {m i : Nat} {last : Int} (hm : m < 128) (h0 : 0 < m) (hi : i < 49) (hw : ∀ a b w, G a b w → -20 ≤ w ∧ w ≤ 20) (h : hk_R G W m i) (hl : i / 7 ≠ hk_lo m) (hb : m.testBit (i / 7) = true) (hc : hk_S G (hk_cl m (i / 7)) (i % 7) (W (7 * hk_cl m (i / 7) + i % 7))) (hla : G (i % 7) (i / 7) last) (hlm : ∀ x, G (i % 7) (i / 7) x → last ≤ x)
    (hlt : W (7 * m + i / 7) = -3000 ∨ W (7 * hk_cl m (i / 7) + i % 7) + last < W (7 * m + i / 7)) (e1 : W' (7 * m + i / 7) = W (7 * hk_cl m (i / 7) + i % 7) + last) (e2 : ∀ j, j ≠ 7 * m + i / 7 → W' j = W j) : hk_R G W' m (i + 1) := by
  obtain ⟨h1, h2, h3⟩ := h
  have hv : i / 7 < 7 := by omega
  have hS := hk_Ss hm hv hb hl hc hla
  have hbd := hk_bd hw hm h0 hS
  have hle : ∀ v, v < 7 → W (7 * m + v) ≠ -3000 → W' (7 * m + v) ≠ -3000 ∧ W' (7 * m + v) ≤ W (7 * m + v) := by
    intro v hv' hne
    by_cases e : v = i / 7
    · subst e
      rw [e1]
      rcases hlt with z | z
      · exact absurd z hne
      · exact ⟨by omega, by omega⟩
    · rw [e2 _ (by omega)]; exact ⟨hne, Int.le_refl _⟩
  have hrow : ∀ v, v < 7 → m.testBit v = true → ∀ u, u < 7 → W' (7 * hk_cl m v + u) = W (7 * hk_cl m v + u) := by
    intro v hv' hb' u hu
    have := (hk_t2 m hm v hv' hb').1
    exact e2 _ (by omega)
  refine ⟨fun v hv' hne => ?_, fun v hv' em => ?_, fun v u x hv' hu hi' a1 a2 a3 a4 a5 => ?_⟩
  · by_cases e : v = i / 7
    · subst e; rw [e1]; exact hS
    · rw [e2 _ (by omega)] at hne ⊢; exact h1 v hv' hne
  · obtain ⟨q1, q2⟩ := h2 v hv' em
    obtain ⟨q3, q4⟩ := hle v hv' q1
    exact ⟨q3, by omega⟩
  · rw [hrow v hv' a2 u hu] at a4 ⊢
    by_cases e : 7 * v + u = i
    · have ev : i / 7 = v := by omega
      have eu : i % 7 = u := by omega
      rw [ev, eu] at e1 hlm hS hbd
      have := hlm x a5
      rw [e1]
      exact ⟨by omega, by omega⟩
    · obtain ⟨q1, q2⟩ := h3 v u x hv' hu (by omega) a1 a2 a3 a4 a5
      obtain ⟨q3, q4⟩ := hle v hv' q1
      exact ⟨q3, by omega⟩
/-- masks of the first points of a ring -/
def hk_M (p : Nat → Nat) : Nat → Nat
  | 0 => 2 ^ p 0
  | i + 1 => hk_M p i + 2 ^ p (i + 1)
theorem hk_Mf {n : Nat} {p : Nat → Nat} (hp : ∀ i, i < n → p i < 7) (hd : ∀ i j, i < n → j < n → p i = p j → i = j) (hmin : ∀ i, i < n → p 0 ≤ p i) : ∀ i, i < n → hk_M p i < 128 ∧ 0 < hk_M p i ∧ hk_lo (hk_M p i) = p 0 ∧ hk_on (hk_M p i) = i + 1 ∧ ∀ u, u < 7 → ((hk_M p i).testBit u = true ↔ ∃ j, j ≤ i ∧ p j = u) := by
  intro i
  induction i with
  | zero =>
    intro hi
    obtain ⟨q1, q0, q2, q3, q4⟩ := hk_t7 (p 0) (hp 0 hi)
    refine ⟨q1, q0, q2, q3, fun u hu => ?_⟩
    show (2 ^ p 0).testBit u = true ↔ _
    rw [q4 u hu, decide_eq_true_iff]
    refine ⟨fun e => ⟨0, by omega, e.symm⟩, fun ⟨j, hj, e⟩ => ?_⟩
    obtain rfl : j = 0 := by omega
    exact e.symm
  | succ i ih =>
    intro hi
    obtain ⟨q1, q0, q2, q3, q4⟩ := ih (by omega)
    have hv := hp (i + 1) hi
    have hnb : (hk_M p i).testBit (p (i + 1)) = false := by
      rw [← Bool.not_eq_true, q4 _ hv]
      intro ⟨j, hj, e⟩
      have := hd j (i + 1) (by omega) hi e
      omega
    obtain ⟨r1, r2, r3, r4, r5⟩ := hk_t5 _ q1 _ hv hnb
    have hlt : p 0 < p (i + 1) := by
      have h1 := hmin (i + 1) hi
      have h2 : p 0 ≠ p (i + 1) := fun e => by have := hd 0 (i + 1) (by omega) hi e; omega
      omega
    refine ⟨r1, Nat.lt_of_lt_of_le q0 (Nat.le_add_right _ _), (r5 q0 (by rw [q2]; exact hlt)).trans q2, r4.trans (congrArg (· + 1) q3), fun u hu => ?_⟩
    show (hk_M p i + 2 ^ p (i + 1)).testBit u = true ↔ _
    rw [hk_t6 _ q1 _ hv hnb u hu, Bool.or_eq_true, q4 u hu, decide_eq_true_iff]
    constructor
    · intro z
      rcases z with ⟨j, hj, e⟩ | e
      · exact ⟨j, by omega, e⟩
      · exact ⟨i + 1, by omega, e.symm⟩
    · intro ⟨j, hj, e⟩
      by_cases ej : j = i + 1
      · subst ej; exact Or.inr e.symm
      · exact Or.inl ⟨j, by omega, e⟩
/-- the ways are no more than a ring's way -/
theorem hk_ring {W : Nat → Int} (hW : ∀ m, 0 < m → m < 128 → hk_R G W m 49) (hG : ∀ a b w, G a b w → a < 7 ∧ b < 7) {n : Nat} {p : Nat → Nat} {s : Nat → Int} (h : sr_I G n p s) (hmin : ∀ i, i < n → p 0 ≤ p i) : ∀ i, i < n → W (7 * hk_M p i + p i) ≠ -3000 ∧ W (7 * hk_M p i + p i) ≤ s i := by
  obtain ⟨h0, hpn, hs, hd⟩ := h
  have hp : ∀ i, i < n → p i < 7 := fun i hi => (hG _ _ _ (hs i hi)).1
  have hf := hk_Mf hp hd hmin
  intro i
  induction i with
  | zero =>
    intro hi
    obtain ⟨q1, q0, q2, q3, q4⟩ := hf 0 hi
    rw [h0]
    exact (hW _ q0 q1).2.1 (p 0) (hp 0 hi) rfl
  | succ i ih =>
    intro hi
    obtain ⟨q1, q0, q2, q3, q4⟩ := hf i (by omega)
    obtain ⟨r1, r0, r2, r3, r4⟩ := hf (i + 1) hi
    obtain ⟨a1, a2⟩ := ih (by omega)
    have hv := hp (i + 1) hi
    have hnb : (hk_M p i).testBit (p (i + 1)) = false := by
      rw [← Bool.not_eq_true, q4 _ hv]
      intro ⟨j, hj, e⟩
      have := hd j (i + 1) (by omega) hi e
      omega
    have hcl : hk_cl (hk_M p (i + 1)) (p (i + 1)) = hk_M p i := (hk_t5 _ q1 _ hv hnb).2.1
    have hne : p (i + 1) ≠ hk_lo (hk_M p (i + 1)) := by
      rw [r2]
      intro e
      have := hd (i + 1) 0 hi (by omega) e
      omega
    have hu := hp i (by omega)
    have := (hW _ r0 r1).2.2 (p (i + 1)) (p i) (s (i + 1) - s i) hv hu (by omega) hne ((r4 _ hv).mpr ⟨i + 1, by omega, rfl⟩) (by rw [hcl]; exact (q4 _ hu).mpr ⟨i, by omega, rfl⟩) (by rw [hcl]; exact a1) (hs i (by omega))
    rw [hcl] at this
    exact ⟨this.1, by omega⟩
end HK
end
section
/-! all rings looked at, pure -/
def rc_C (G : Nat → Nat → Int → Prop) (W : Nat → Int) (m v : Nat) (w : Int) (k : Nat) : Prop := ∃ v', ((k < m ∧ v' < 7) ∨ (k = m ∧ v' < v)) ∧ 0 < k ∧ W (7 * k + v') ≠ -3000 ∧ ∃ last, mn_I (fun x => G v' (hk_lo k) x) (-3000) last ∧ last ≠ -3000 ∧ w = W (7 * k + v') + last
def rg_I (C : Int → Nat → Prop) (t b : Int) (rp : Int32) : Prop :=
  (t = -3000 ∧ b = 1 ∧ (∀ p, ¬ bt rp p = true) ∧ ∀ w k, ¬ C w k) ∨
  (-140 ≤ t ∧ t ≤ 140 ∧ 1 ≤ b ∧ b ≤ 7 ∧ (∃ k, C t k ∧ b = hk_on k) ∧ (∀ w k, C w k → t * hk_on k ≤ w * b) ∧ ∀ p, bt rp p = true ↔ ∃ w k, C w k ∧ w * b = t * hk_on k ∧ k.testBit p = true)
section RG
variable {G : Nat → Nat → Int → Prop}
theorem rg_c {C C' : Int → Nat → Prop} {t b : Int} {rp : Int32} (h : rg_I C t b rp) (e : ∀ w k, C w k ↔ C' w k) : rg_I C' t b rp := by
  have : C = C' := funext fun w => funext fun k => propext (e w k)
  subst this
  exact h
theorem rg_new {C : Int → Nat → Prop} {t b : Int} {rp : Int32} {w : Int} {m : Nat} (hC : ∀ w k, C w k → 1 ≤ hk_on k) (h : rg_I C t b rp) (hm : m < 128) (hn : 1 ≤ hk_on m ∧ hk_on m ≤ 7) (hw : -140 ≤ w ∧ w ≤ 140) (hc : t = -3000 ∨ w * b < t * hk_on m) : rg_I (fun w' k => C w' k ∨ (w' = w ∧ k = m)) w (hk_on m) (nI m) := by
  have hstrict : ∀ w' k, C w' k → w * hk_on k < w' * hk_on m := by
    intro w' k hk
    rcases h with ⟨_, _, _, hno⟩ | ⟨_, _, hb1, _, _, hall, _⟩
    · exact absurd hk (hno w' k)
    · rcases hc with z | z
      · omega
      · have := hC w' k hk
        exact fr_lt (by omega) (by omega) (by omega) z (hall w' k hk)
  refine Or.inr ⟨hw.1, hw.2, by omega, by omega, ⟨m, Or.inr ⟨rfl, rfl⟩, rfl⟩, fun w' k hk => ?_, fun p => ?_⟩
  · rcases hk with hk | ⟨e1, e2⟩
    · have := hstrict w' k hk; omega
    · subst e1 e2; omega
  · rw [hk_b hm]
    refine ⟨fun z => ⟨w, m, Or.inr ⟨rfl, rfl⟩, rfl, z⟩, fun ⟨w', k, hk, e, z⟩ => ?_⟩
    rcases hk with hk | ⟨e1, e2⟩
    · have := hstrict w' k hk; omega
    · subst e2; exact z
theorem rg_eq {C : Int → Nat → Prop} {t b : Int} {rp : Int32} {w : Int} {m : Nat} (h : rg_I C t b rp) (hm : m < 128) (ht : t ≠ -3000) (hc : w * b = t * hk_on m) : rg_I (fun w' k => C w' k ∨ (w' = w ∧ k = m)) t b (rp ||| nI m) := by
  rcases h with ⟨z, _⟩ | ⟨h1, h2, hb1, hb2, ⟨k0, hk0, eb⟩, hall, hrp⟩
  · exact absurd z ht
  · refine Or.inr ⟨h1, h2, hb1, hb2, ⟨k0, Or.inl hk0, eb⟩, fun w' k hk => ?_, fun p => ?_⟩
    · rcases hk with hk | ⟨e1, e2⟩
      · exact hall w' k hk
      · subst e1 e2; omega
    · rw [b_or, Bool.or_eq_true, hrp p, hk_b hm]
      constructor
      · intro z
        rcases z with ⟨w', k, q1, q2⟩ | z
        · exact ⟨w', k, Or.inl q1, q2⟩
        · exact ⟨w, m, Or.inr ⟨rfl, rfl⟩, hc, z⟩
      · intro ⟨w', k, hk, e, z⟩
        rcases hk with hk | ⟨e1, e2⟩
        · exact Or.inl ⟨w', k, hk, e, z⟩
        · subst e2; exact Or.inr z
theorem rg_old {C : Int → Nat → Prop} {t b : Int} {rp : Int32} {w : Int} {m : Nat} (h : rg_I C t b rp) (ht : t ≠ -3000) (hc : t * hk_on m < w * b) : rg_I (fun w' k => C w' k ∨ (w' = w ∧ k = m)) t b rp := by
  rcases h with ⟨z, _⟩ | ⟨h1, h2, hb1, hb2, ⟨k0, hk0, eb⟩, hall, hrp⟩
  · exact absurd z ht
  · refine Or.inr ⟨h1, h2, hb1, hb2, ⟨k0, Or.inl hk0, eb⟩, fun w' k hk => ?_, fun p => ?_⟩
    · rcases hk with hk | ⟨e1, e2⟩
      · exact hall w' k hk
      · subst e1 e2; omega
    · rw [hrp p]
      refine ⟨fun ⟨w', k, q1, q2⟩ => ⟨w', k, Or.inl q1, q2⟩, fun ⟨w', k, hk, e, z⟩ => ?_⟩
      rcases hk with hk | ⟨e1, e2⟩
      · exact ⟨w', k, hk, e, z⟩
      · subst e1 e2; omega
theorem mn_ex (hw : ∀ a b w, G a b w → -20 ≤ w ∧ w ≤ 20) (u v : Nat) : ∃ x, mn_I (fun w => G u v w) (-3000) x := by
  by_cases he : ∃ w, G u v w
  · obtain ⟨w0, h0⟩ := he
    have b0 := hw _ _ _ h0
    obtain ⟨k, ⟨w, hg, ek⟩, hl⟩ := pk_least (fun k => ∃ w, G u v w ∧ (k : Int) = w + 20) ⟨(w0 + 20).toNat, w0, h0, Int.toNat_of_nonneg (by omega)⟩
    have bw := hw _ _ _ hg
    refine ⟨w, Or.inr ⟨by omega, hg, fun w' hg' => ?_⟩⟩
    have bw' := hw _ _ _ hg'
    have : ¬ (w' + 20).toNat < k := fun z => hl _ z ⟨w', hg', Int.toNat_of_nonneg (by omega)⟩
    omega
  · exact ⟨-3000, Or.inl ⟨rfl, fun w z => he ⟨w, z⟩⟩⟩
/-- what the reference knows of the rings -/
def yr_I (G : Nat → Nat → Int → Prop) (t b : Int) (rp : Int32) : Prop :=
  (t = -3000 ∧ (∀ p, ¬ bt rp p = true) ∧ ∀ n c w, 1 ≤ n → ¬ wk_W G n c c w) ∨
  (op_I G t b ∧ b ≤ 7 ∧ -140 ≤ t ∧ t ≤ 140 ∧ ∀ p, bt rp p = true ↔ ∃ n w, 1 ≤ n ∧ wk_W G n p p w ∧ w * b = t * n)
theorem rg_walk {W : Nat → Int} (hW : ∀ m, 0 < m → m < 128 → hk_R G W m 49) {w : Int} {k p : Nat} (hC : rc_C G W 128 0 w k) (hb : k.testBit p = true) : wk_W G (hk_on k) p p w := by
  obtain ⟨v', hv', h0, hne, last, hm, hln, ew⟩ := hC
  have hk : k < 128 ∧ v' < 7 := by omega
  have hp := hk_b7 hk.1 hb
  have hon := (hk_t4 k hk.1 h0).2.2.2
  have hS := (hW k h0 hk.1).1 v' hk.2 hne
  obtain ⟨i, j, w1, w2, e1, e2, q1, q2⟩ := hS.2 p hp hb
  rcases hm with ⟨z, _⟩ | ⟨_, g, _⟩
  · exact absurd z hln
  · exact wk_en (wk_app (wk_s q2 g) _ _ _ q1) (by omega) (by omega)
theorem rg_cand (hG : ∀ a b w, G a b w → a < 7 ∧ b < 7) (hw : ∀ a b w, G a b w → -20 ≤ w ∧ w ≤ 20) {W : Nat → Int} (hW : ∀ m, 0 < m → m < 128 → hk_R G W m 49) {n : Nat} {p : Nat → Nat} {s : Nat → Int} (hn : 1 ≤ n) (h : sr_I G n p s) : ∃ w k, rc_C G W 128 0 w k ∧ w ≤ s n ∧ hk_on k = n ∧ k.testBit (p 0) = true := by
  obtain ⟨p', s', hr, es, hmin, j, hj, ej⟩ := sr_rot hn h
  have hp : ∀ i, i < n → p' i < 7 := fun i hi => (hG _ _ _ (hr.2.2.1 i hi)).1
  have hr' := hr
  obtain ⟨h0, hpn, hs, hd⟩ := hr
  obtain ⟨q1, q0, q2, q3, q4⟩ := hk_Mf hp hd hmin (n - 1) (by omega)
  obtain ⟨a1, a2⟩ := hk_ring hW hG hr' hmin (n - 1) (by omega)
  have g := hs (n - 1) (by omega)
  have e1 : n - 1 + 1 = n := by omega
  rw [e1, hpn] at g
  obtain ⟨last, hlast⟩ := mn_ex hw (p' (n - 1)) (hk_lo (hk_M p' (n - 1)))
  have hl : last ≠ -3000 ∧ last ≤ s' n - s' (n - 1) := by
    rcases hlast with ⟨_, z⟩ | ⟨z0, _, z⟩
    · exact absurd (by rw [q2]; exact g) (z (s' n - s' (n - 1)))
    · exact ⟨z0, z _ (by rw [q2]; exact g)⟩
  refine ⟨_, hk_M p' (n - 1), ⟨p' (n - 1), Or.inl ⟨q1, hp _ (by omega)⟩, q0, a1, last, hlast, hl.1, rfl⟩, by omega, by omega, ?_⟩
  rw [q4 _ (by rw [← ej]; exact hp j hj)]
  exact ⟨j, by omega, ej⟩
theorem rg_fin (hG : ∀ a b w, G a b w → a < 7 ∧ b < 7) (hw : ∀ a b w, G a b w → -20 ≤ w ∧ w ≤ 20) {W : Nat → Int} (hW : ∀ m, 0 < m → m < 128 → hk_R G W m 49) {t b : Int} {rp : Int32} (h : rg_I (rc_C G W 128 0) t b rp) : yr_I G t b rp := by
  rcases h with ⟨h1, _, h2, hno⟩ | ⟨h1, h2, hb1, hb2, ⟨k0, hk0, eb⟩, hall, hrp⟩
  · refine Or.inl ⟨h1, h2, fun n c w hn hWk => ?_⟩
    obtain ⟨n', p, s, hn', hr⟩ := op_any hn hWk
    obtain ⟨w', k, hC, _⟩ := rg_cand hG hw hW hn' hr
    exact hno w' k hC
  · have hon : ∀ w k, rc_C G W 128 0 w k → k < 128 ∧ 0 < k ∧ 1 ≤ hk_on k := by
      intro w k ⟨v', hv', h0, _⟩
      have hk : k < 128 := by omega
      exact ⟨hk, h0, (hk_t4 k hk h0).2.2.2.1⟩
    have hsr : ∀ n p s, 1 ≤ n → sr_I G n p s → t * n ≤ s n * b := by
      intro n p s hn hr
      obtain ⟨w', k, hC, hle, en, _⟩ := rg_cand hG hw hW hn hr
      have e1 := hall w' k hC
      rw [en] at e1
      have e2 : w' * b ≤ s n * b := Int.mul_le_mul_of_nonneg_right hle (by omega)
      omega
    have hcl : ∀ n c w, 1 ≤ n → wk_W G n c c w → t * n ≤ w * b := fun n c w hn hWk => op_all hsr n n c w (Nat.le_refl n) hn hWk
    obtain ⟨q1, q2, q3⟩ := hon t k0 hk0
    refine Or.inr ⟨⟨hb1, ⟨hk_on k0, hk_lo k0, t, q3, rg_walk hW hk0 (hk_t4 k0 q1 q2).1, by rw [eb]⟩, hcl⟩, hb2, h1, h2, fun p => ?_⟩
    rw [hrp p]
    constructor
    · intro ⟨w, k, hC, e, hb⟩
      exact ⟨hk_on k, w, (hon w k hC).2.2, rg_walk hW hC hb, e⟩
    · intro ⟨n, w, hn, hWk, e⟩
      have : ∀ (N n : Nat) (w : Int), n ≤ N → 1 ≤ n → wk_W G n p p w → w * b = t * n → ∃ w k, rc_C G W 128 0 w k ∧ w * b = t * hk_on k ∧ k.testBit p = true := by
        intro N
        induction N with
        | zero => intro n w z1 z2; omega
        | succ N ih =>
          intro n w hN hn hWk e
          rcases sr_dec hn hWk with ⟨p', s, p0, sn, hr⟩ | ⟨n1, n2, c', w1, w2, r1, r2, en, ew, hW1, hW2⟩
          · obtain ⟨w', k, hC, hle, en, hb⟩ := rg_cand hG hw hW hn hr
            have e1 := hall w' k hC
            rw [en] at e1
            rw [sn] at hle
            have e2 : w' * b ≤ w * b := Int.mul_le_mul_of_nonneg_right hle (by omega)
            refine ⟨w', k, hC, ?_, by rw [← p0]; exact hb⟩
            rw [en]; omega
          · have e1 := hcl n1 c' w1 r1 hW1
            have e2 := hcl n2 p w2 r2 hW2
            have en' : (n : Int) = n1 + n2 := by omega
            rw [en', ew, Int.mul_add, Int.add_mul] at e
            exact ih n2 w2 (by omega) r2 hW2 (by omega)
      exact this n n w (Nat.le_refl n) hn hWk e
end RG
end
section
/-! the reference looks at all rings -/
section YR
variable {f_top f_bottom f_ringPoints : Int32} {a_there a_froms a_tos a_weights a_walks a_ways : Nat → Int32} {A : Nat → Prop} {fr to : Nat → Nat} {c : Nat → Int}
theorem ys_arc (hg : yg_I a_there a_froms a_tos a_weights A fr to c) {post : Int32 → Prop} {u v : Nat} (hu : u < 7) (hv : v < 7) (h : ∀ r : Int32, mn_I (fun w => ga_G A fr to c u v w) (-3000) r.toInt → post r) : wpY_arc post (f_top, f_bottom, f_ringPoints, a_there, a_froms, a_tos, a_weights, a_walks, a_ways) (nI u) (nI v) := by
  unfold wpY_arc
  refine loop_0 (fun n k x => wY_arc_7 post (nI u) (nI v) f_top f_bottom f_ringPoints a_there a_froms a_tos a_weights a_walks a_ways n x (nI k)) (fun k x => mn_I (fun w => ∃ j, j < k ∧ A j ∧ fr j = u ∧ to j = v ∧ c j = w) (-3000) x.toInt) 20 (-3000) (Or.inl ⟨by decide, fun w ⟨j, hj, _⟩ => absurd hj (Nat.not_lt_zero j)⟩) ?_ ?_
  · intro n x hx
    exact br_t (nI_le (Nat.le_refl 20) (by decide)) (h x hx)
  · intro n k x hk hx ih
    have ik := vp_in_nI hk (show 20 < 2 ^ 31 by decide)
    have hck := yg_c hg hk
    have hwk := yg_w hg hk
    have no : ¬ (A k ∧ fr k = u ∧ to k = v) → wY_arc_50 post (wY_arc_7 post (nI u) (nI v) f_top f_bottom f_ringPoints a_there a_froms a_tos a_weights a_walks a_ways n) (nI u) (nI v) x (nI k) f_top f_bottom f_ringPoints a_there a_froms a_tos a_weights a_walks a_ways := by
      intro hn
      refine br_t rfl (nm_r (nI_1 k) (ih x (mn_c hx fun w => ⟨fun ⟨j, hj, q⟩ => ⟨j, by omega, q⟩, fun ⟨j, hj, q1, q2, q3, q4⟩ => ⟨j, ?_, q1, q2, q3, q4⟩⟩)))
      have : j ≠ k := fun e => hn (e ▸ ⟨q1, q2, q3⟩)
      omega
    refine br_f (nI_ge hk (by decide)) (And.intro ik (yg_br hg hk (fun hA => no fun z => hA z.1) (fun hA => And.intro ik ?_)))
    have hf7 := yg_f7 hg hk
    have ht7 := yg_t7 hg hk
    refine pk_eq (fr k) u (fun e1 => And.intro ik ?_) (fun e1 => no fun z => e1 z.2.1) (yg_f hg hk) rfl
    refine pk_eq (to k) v (fun e2 => ?_) (fun e2 => no fun z => e2 z.2.2) (yg_t hg hk) rfl
    have hadd : ∀ y : Int, (x.toInt = -3000 ∧ y = c k) ∨ (x.toInt ≠ -3000 ∧ c k < x.toInt ∧ y = c k) ∨ (x.toInt ≠ -3000 ∧ x.toInt ≤ c k ∧ y = x.toInt) → mn_I (fun w => ∃ j, j < k + 1 ∧ A j ∧ fr j = u ∧ to j = v ∧ c j = w) (-3000) y := by
      intro y hy
      have := mn_add (W' := fun w => w = c k) hx rfl (fun w hw => by omega) (by omega) hy
      refine mn_c this fun w => ⟨fun z => z.elim (fun ⟨j, hj, q⟩ => ⟨j, by omega, q⟩) (fun e => ⟨k, by omega, hA, e1, e2, e.symm⟩), fun ⟨j, hj, q1, q2, q3, q4⟩ => ?_⟩
      by_cases e : j = k
      · subst e; exact Or.inr q4.symm
      · exact Or.inl ⟨j, by omega, q1, q2, q3, q4⟩
    have set : (x.toInt = -3000 ∨ (x.toInt ≠ -3000 ∧ c k < x.toInt)) → wY_arc_76 post (wY_arc_7 post (nI u) (nI v) f_top f_bottom f_ringPoints a_there a_froms a_tos a_weights a_walks a_ways n) (nI u) (nI v) (nI k) f_top f_bottom f_ringPoints a_there a_froms a_tos a_weights a_walks a_ways := by
      intro hc
      refine And.intro ik (nm_e (nm_r (nI_1 k) (ih _ ?_)))
      rw [hwk]
      exact hadd _ (hc.elim (fun z => Or.inl ⟨z, rfl⟩) (fun z => Or.inr (Or.inl ⟨z.1, z.2, rfl⟩)))
    refine br_f (by decide) (ib_eq x.toInt (-3000) (fun e => set (Or.inl e)) (fun e => And.intro ik ?_))
    refine ib_le x.toInt (c k) (fun hle => nm_r (nI_1 k) (ih x (hadd _ (Or.inr (Or.inr ⟨e, hle, rfl⟩))))) (fun hlt => set (Or.inr ⟨e, hlt⟩)) rfl hwk
theorem ys_lowest {post : Int32 → Prop} {m : Nat} (h0 : 0 < m) (hm : m < 128) (h : post (nI (hk_lo m))) : wpY_lowest post (f_top, f_bottom, f_ringPoints, a_there, a_froms, a_tos, a_weights, a_walks, a_ways) (nI m) := by
  obtain ⟨h1, h2, h3, _⟩ := hk_t4 m hm h0
  unfold wpY_lowest
  refine loop_0 (σ := Unit) (fun n i _ => wY_lowest_2 post (nI m) f_top f_bottom f_ringPoints a_there a_froms a_tos a_weights a_walks a_ways n (nI i)) (fun _ _ => True) (hk_lo m) () trivial ?_ ?_
  · intro n _ _
    exact bs_br (hk_lo m) (fun hb => absurd (by rw [hk_b hm]; exact h1) hb) (fun _ => h) rfl (by omega)
  · intro n i _ hi _ ih
    refine bs_br i (fun _ => nm_r (nI_1 i) (ih () trivial)) (fun hb => ?_) rfl (by omega)
    rw [hk_b hm, h3 i hi] at hb
    exact absurd hb (by decide)
theorem ys_ones {post : Int32 → Prop} {m : Nat} (hm : m < 128) (h : post (nI (hk_on m))) : wpY_ones post (f_top, f_bottom, f_ringPoints, a_there, a_froms, a_tos, a_weights, a_walks, a_ways) (nI m) := by
  unfold wpY_ones
  refine loop_0 (fun n i x => wY_ones_4 post (nI m) f_top f_bottom f_ringPoints a_there a_froms a_tos a_weights a_walks a_ways n x (nI i)) (fun i x => x = nI (hk_k m i)) 7 0 rfl ?_ ?_
  · intro n x hx
    rw [hx]
    exact br_t (nI_le (Nat.le_refl 7) (by decide)) h
  · intro n i x hi hx ih
    refine br_f (nI_ge hi (by decide)) (nm_e (nm_r (nI_1 i) (ih _ ?_)))
    rw [hx, bs_v _ (show i < 32 by omega), hk_b hm]
    show _ = nI (hk_k m i + (if m.testBit i = true then 1 else 0))
    by_cases hb : m.testBit i = true
    · rw [if_pos hb, if_pos hb, nI_1]
    · rw [if_neg hb, if_neg hb, Int32.add_zero, Nat.add_zero]
theorem ix_7m (a b : Nat) : 7 * nI a + nI b = nI (7 * a + b) := ix_7l a b
theorem ys_through (hg : yg_I a_there a_froms a_tos a_weights A fr to c) {post : SY → Prop} {m : Nat} (h0 : 0 < m) (hm : m < 128) (hrow : ∀ v, v < 7 → (a_ways (7 * m + v)).toInt = if m = 2 ^ v then 0 else -3000) (hlow : ∀ m', 0 < m' → m' < m → hk_R (ga_G A fr to c) (fun i => (a_ways i).toInt) m' 49)
    (h : ∀ W : Nat → Int32, hk_R (ga_G A fr to c) (fun i => (W i).toInt) m 49 → (∀ j, (j < 7 * m ∨ 7 * m + 7 ≤ j) → W j = a_ways j) → post (f_top, f_bottom, f_ringPoints, a_there, a_froms, a_tos, a_weights, a_walks, W)) : wpY_through post (f_top, f_bottom, f_ringPoints, a_there, a_froms, a_tos, a_weights, a_walks, a_ways) (nI m) := by
  have hw := yg_20 hg
  unfold wpY_through
  refine ys_lowest h0 hm ?_
  obtain ⟨hl1, hl2, _⟩ := hk_t4 m hm h0
  refine loop_0 (fun n i W => wY_through_8 post (nI m) (nI (hk_lo m)) f_top f_bottom f_ringPoints n (nI i) a_there a_froms a_tos a_weights a_walks W) (fun i W => hk_R (ga_G A fr to c) (fun i => (W i).toInt) m i ∧ (∀ j, (j < 7 * m ∨ 7 * m + 7 ≤ j) → W j = a_ways j)) 49 a_ways ⟨hk_R0 hrow, fun _ _ => rfl⟩ ?_ ?_
  · intro n W hI
    exact br_t (nI_le (Nat.le_refl 49) (by decide)) (h W hI.1 hI.2)
  · intro n i W hi hI ih
    obtain ⟨hR, hO⟩ := hI
    have hv : i / 7 < 7 := by omega
    have hu : i % 7 < 7 := by omega
    have e6 := hk_t1 m hm (i / 7) hv
    have ex : 7 * nI m + nI (i / 7) = nI (7 * m + i / 7) := ix_7l _ _
    have cx : (nI (7 * m + i / 7)).toNatClampNeg = 7 * m + i / 7 := nI_clamp (by omega)
    have ixx : vp_in (nI (7 * m + i / 7)) 896 := vp_in_nI (by omega) (by decide)
    have same : ∀ x8 x9 : Int32, hk_R (ga_G A fr to c) (fun i => (W i).toInt) m (i + 1) → wY_through_177 post (wY_through_8 post (nI m) (nI (hk_lo m)) f_top f_bottom f_ringPoints n) (nI m) (nI (hk_lo m)) (nI i) (nI (i / 7)) x8 x9 f_top f_bottom f_ringPoints a_there a_froms a_tos a_weights a_walks W := by
      intro x8 x9 hx
      unfold wY_through_177 wY_through_178
      rw [ex, cx]
      exact br_t rfl (And.intro ixx (And.intro ixx (nm_r (up_self W _) (nm_r (nI_1 i) (ih W ⟨hx, hO⟩)))))
    have non : ¬ (i / 7 ≠ hk_lo m ∧ m.testBit (i / 7) = true ∧ (hk_cl m (i / 7)).testBit (i % 7) = true) → ∀ x6 : Int32, wY_through_74 post (wY_through_8 post (nI m) (nI (hk_lo m)) f_top f_bottom f_ringPoints n) (nI m) (nI (hk_lo m)) (nI i) (nI (i / 7)) (nI (i % 7)) x6 f_top f_bottom f_ringPoints a_there a_froms a_tos a_weights a_walks W := by
      intro hn x6
      exact br_t rfl (br_t rfl (br_t rfl (same _ _ (hk_Rn hR fun x a1 a2 a3 => absurd ⟨a1, a2, a3⟩ hn))))
    refine br_f (nI_ge hi (by decide)) (And.intro ix_n7 (nm_r (ix_d (by omega)) (And.intro ix_n7 (nm_r (ix_m (by omega)) (nm_r e6 ?_)))))
    refine pk_eq (i / 7) (hk_lo m) (fun e => non (fun z => z.1 e) _) (fun e => ?_)
    have hcl3 := hk_t3 m hm (i / 7) hv (i % 7) hu
    refine pk_eq (i / 7) (i % 7) (fun e' => non (fun z => ?_) _) (fun e' => ?_)
    · have := z.2.2
      rw [hcl3, ← e'] at this
      simp at this
    · refine bs_br1 (i / 7) (fun hb => ?_) (fun hb => non (fun z => hb (by rw [hk_b hm]; exact z.2.1)) _) rfl (by omega)
      rw [hk_b hm] at hb
      obtain ⟨d1, d2, d3⟩ := hk_t2 m hm (i / 7) hv hb
      obtain ⟨d4, d5⟩ := d3 e
      have hcm : hk_cl m (i / 7) < 128 := by omega
      refine bs_br1 (i % 7) (fun hb2 => ?_) (fun hb2 => non (fun z => hb2 (by rw [hk_b hcm]; exact z.2.2)) _) rfl (by omega)
      rw [hk_b hcm] at hb2
      have ex2 : 7 * nI (hk_cl m (i / 7)) + nI (i % 7) = nI (7 * hk_cl m (i / 7) + i % 7) := ix_7l _ _
      have cx2 : (nI (7 * hk_cl m (i / 7) + i % 7)).toNatClampNeg = 7 * hk_cl m (i / 7) + i % 7 := nI_clamp (by omega)
      refine br_f (by decide) ?_
      rw [ex2, cx2]
      refine And.intro (vp_in_nI (by omega) (by decide)) ?_
      have hWold : W (7 * hk_cl m (i / 7) + i % 7) = a_ways (7 * hk_cl m (i / 7) + i % 7) := hO _ (Or.inl (by omega))
      refine ib_eq (W (7 * hk_cl m (i / 7) + i % 7)).toInt (-3000) (fun e3 => br_t rfl (same _ _ (hk_Rn hR fun x a1 a2 a3 a4 => absurd e3 a4))) (fun e3 => ?_)
      have hSc : hk_S (ga_G A fr to c) (hk_cl m (i / 7)) (i % 7) (W (7 * hk_cl m (i / 7) + i % 7)).toInt := by
        have := (hlow _ d4 d1).1 (i % 7) hu
        rw [hWold] at e3 ⊢
        exact this e3
      have hbd := hk_bd hw hcm d4 hSc
      refine ys_arc hg hu hv fun last hlast => ?_
      refine ib_eq last.toInt (-3000) (fun e4 => same _ _ (hk_Rn hR fun x a1 a2 a3 a4 a5 => ?_)) (fun e4 => ?_)
      · rcases hlast with ⟨_, z⟩ | ⟨z, _⟩
        · exact absurd a5 (z x)
        · exact absurd e4 z
      · obtain ⟨hla, hlm⟩ : ga_G A fr to c (i % 7) (i / 7) last.toInt ∧ ∀ x, ga_G A fr to c (i % 7) (i / 7) x → last.toInt ≤ x := by
          rcases hlast with ⟨z, _⟩ | ⟨_, z1, z2⟩
          · exact absurd z e4
          · exact ⟨z1, z2⟩
        have hlb := hw _ _ _ hla
        have hsum : (W (7 * hk_cl m (i / 7) + i % 7) + last).toInt = (W (7 * hk_cl m (i / 7) + i % 7)).toInt + last.toInt := ia_add rfl rfl (by omega) (by omega)
        have set : ((W (7 * m + i / 7)).toInt = -3000 ∨ (W (7 * hk_cl m (i / 7) + i % 7)).toInt + last.toInt < (W (7 * m + i / 7)).toInt) → wY_through_173 post (wY_through_8 post (nI m) (nI (hk_lo m)) f_top f_bottom f_ringPoints n) (nI m) (nI (hk_lo m)) (nI i) (nI (i / 7)) (W (7 * hk_cl m (i / 7) + i % 7)) last f_top f_bottom f_ringPoints a_there a_froms a_tos a_weights a_walks W := by
          intro hc
          unfold wY_through_173 wY_through_178
          rw [ex, cx]
          refine br_f (by decide) (And.intro ixx (nm_e (nm_r (nI_1 i) (ih _ ⟨hk_Ry hm h0 hi hw hR e hb hSc hla hlm hc (tb_us.trans hsum) (fun j hj => tb_un hj), fun j hj => ?_⟩))))
          rw [pk_un (by omega)]; exact hO j hj
        rw [ex, cx]
        refine And.intro ixx (ib_eq (W (7 * m + i / 7)).toInt (-3000) (fun e5 => set (Or.inl e5)) (fun e5 => And.intro ixx ?_))
        refine ib_le (W (7 * m + i / 7)).toInt ((W (7 * hk_cl m (i / 7) + i % 7)).toInt + last.toInt) (fun hle => same _ _ (hk_Rn hR fun x a1 a2 a3 a4 a5 => ?_)) (fun hlt => set (Or.inr hlt)) rfl hsum
        have := hlm x a5
        refine ⟨e5, ?_⟩
        show (W (7 * m + i / 7)).toInt ≤ (W (7 * hk_cl m (i / 7) + i % 7)).toInt + x
        omega
/-- one candidate -/
theorem ys_cand {post : SY → Prop} {J60 : Int32 → Int32 → Int32 → Int32 → (Nat → Int32) → (Nat → Int32) → (Nat → Int32) → (Nat → Int32) → (Nat → Int32) → (Nat → Int32) → Prop} {J80 : Int32 → Int32 → Int32 → Int32 → Prop} {m v : Nat} {x4 last : Int32} {C : Int → Nat → Prop} (hm : m < 128) (h0 : 0 < m) (hC : ∀ w k, C w k → 1 ≤ hk_on k) (hI : rg_I C f_top.toInt f_bottom.toInt f_ringPoints) (hx4 : x4.toInt ≠ -3000 → -120 ≤ x4.toInt ∧ x4.toInt ≤ 120) (hla : last.toInt ≠ -3000 → -20 ≤ last.toInt ∧ last.toInt ≤ 20 ∧ x4.toInt ≠ -3000)
    (hno : last.toInt = -3000 → J80 (nI (v + 1)) f_top f_bottom f_ringPoints)
    (hyes : last.toInt ≠ -3000 → ∀ t b rp : Int32, rg_I (fun w' k => C w' k ∨ (w' = x4.toInt + last.toInt ∧ k = m)) t.toInt b.toInt rp → J80 (nI (v + 1)) t b rp) : wY_rings_123 post J60 J80 (nI m) (nI (hk_on m)) (nI v) x4 last f_top f_bottom f_ringPoints a_there a_froms a_tos a_weights a_walks a_ways := by
  obtain ⟨_, _, _, hn1, hn2⟩ := hk_t4 m hm h0
  have hnI : (nI (hk_on m)).toInt = hk_on m := nI_toInt (by omega)
  refine nm_e (ib_eq last.toInt (-3000) (fun e => ?_) (fun e => ?_))
  · exact ib_eq last.toInt (-3000) (fun _ => br_t rfl (br_t rfl (br_t rfl (br_t rfl (nm_r (nI_1 v) (hno e)))))) (fun z => absurd e z)
  · obtain ⟨l1, l2, l3⟩ := hla e
    obtain ⟨y1, y2⟩ := hx4 l3
    have hs : (x4 + last).toInt = x4.toInt + last.toInt := ia_add rfl rfl (by omega) (by omega)
    have better : (f_top.toInt = -3000 ∨ (x4.toInt + last.toInt) * f_bottom.toInt < f_top.toInt * hk_on m) → wY_rings_212 post J60 J80 (nI m) (nI (hk_on m)) (nI v) (x4 + last) 1 0 f_top f_bottom f_ringPoints a_there a_froms a_tos a_weights a_walks a_ways := by
      intro hc
      refine br_f (by decide) (br_f (by decide) (br_f (by decide) (nm_r (nI_1 v) (hyes e _ _ _ ?_))))
      rw [hs, hnI]
      exact rg_new hC hI hm ⟨hn1, hn2⟩ ⟨by omega, by omega⟩ hc
    refine ib_eq f_top.toInt (-3000) (fun et => ?_) (fun et => ?_)
    · exact ib_eq last.toInt (-3000) (fun z => absurd z e) (fun _ => ib_eq f_top.toInt (-3000) (fun _ => better (Or.inl et)) (fun z => absurd et z))
    · obtain ⟨t1, t2, b1, b2⟩ : -140 ≤ f_top.toInt ∧ f_top.toInt ≤ 140 ∧ 1 ≤ f_bottom.toInt ∧ f_bottom.toInt ≤ 7 := by
        rcases hI with ⟨z, _⟩ | ⟨z1, z2, z3, z4, _⟩
        · exact absurd z et
        · exact ⟨z1, z2, z3, z4⟩
      have bd : ∀ x y : Int, -140 ≤ x → x ≤ 140 → 1 ≤ y → y ≤ 7 → -980 ≤ x * y ∧ x * y ≤ 980 := by
        intro x y a1 a2 a3 a4
        have r1 : -140 * y ≤ x * y := Int.mul_le_mul_of_nonneg_right a1 (by omega)
        have r2 : x * y ≤ 140 * y := Int.mul_le_mul_of_nonneg_right a2 (by omega)
        omega
      have k1 := bd f_top.toInt (hk_on m) t1 t2 (by omega) (by omega)
      have k2 := bd (x4.toInt + last.toInt) f_bottom.toInt (by omega) (by omega) b1 b2
      have p1 : (f_top * nI (hk_on m)).toInt = f_top.toInt * hk_on m := ia_mul rfl hnI (by omega) (by omega)
      have p2 : ((x4 + last) * f_bottom).toInt = (x4.toInt + last.toInt) * f_bottom.toInt := ia_mul hs rfl (by omega) (by omega)
      refine ib_le (f_top.toInt * hk_on m) ((x4.toInt + last.toInt) * f_bottom.toInt) (fun hle => ?_) (fun hlt => ?_) p1 p2
      · refine ib_eq last.toInt (-3000) (fun z => absurd z e) (fun _ => ib_eq f_top.toInt (-3000) (fun z => absurd z et) (fun _ => ?_))
        refine ib_eq ((x4.toInt + last.toInt) * f_bottom.toInt) (f_top.toInt * hk_on m) (fun eq => ?_) (fun neq => ?_) p2 p1
        · exact br_t rfl (br_f (by decide) (br_t rfl (br_t rfl (nm_r (nI_1 v) (hyes e _ _ _ (rg_eq hI hm et eq))))))
        · exact br_t rfl (br_t rfl (br_t rfl (br_t rfl (nm_r (nI_1 v) (hyes e _ _ _ (rg_old hI et (by omega)))))))
      · refine ib_eq last.toInt (-3000) (fun z => absurd z e) (fun _ => ib_eq f_top.toInt (-3000) (fun z => absurd z et) (fun _ => ?_))
        exact ib_eq ((x4.toInt + last.toInt) * f_bottom.toInt) (f_top.toInt * hk_on m) (fun eq => by omega) (fun _ => better (Or.inr hlt)) p2 p1
theorem ys_rings (hg : yg_I a_there a_froms a_tos a_weights A fr to c) {post : SY → Prop} (h : ∀ (t b rp : Int32) (W : Nat → Int32), yr_I (ga_G A fr to c) t.toInt b.toInt rp → post (t, b, rp, a_there, a_froms, a_tos, a_weights, a_walks, W)) : wpY_rings post (f_top, f_bottom, f_ringPoints, a_there, a_froms, a_tos, a_weights, a_walks, a_ways) := by
  have hG := yg_7 hg
  have hw := yg_20 hg
  unfold wpY_rings
  refine loop_0 (fun n i W => wY_rings_19 post (-3000) 1 0 n (nI i) a_there a_froms a_tos a_weights a_walks W) (fun i W => ∀ j, j < i → (W j).toInt = if j / 7 = 2 ^ (j % 7) then 0 else -3000) 896 a_ways (fun j hj => absurd hj (Nat.not_lt_zero j)) ?_ ?_
  · intro n W0 hW0
    refine br_t (nI_le (Nat.le_refl 896) (by decide)) ?_
    have hrow0 : ∀ m v, m < 128 → v < 7 → (W0 (7 * m + v)).toInt = if m = 2 ^ v then 0 else -3000 := by
      intro m v hm hv
      have e1 : (7 * m + v) / 7 = m := by omega
      have e2 : (7 * m + v) % 7 = v := by omega
      rw [hW0 _ (by omega), e1, e2]
    have key := pk_loop (σ := Int32 × Int32 × Int32 × (Nat → Int32)) (fun n m z => wY_rings_60 post n (nI m) z.1 z.2.1 z.2.2.1 a_there a_froms a_tos a_weights a_walks z.2.2.2) (fun m z => 0 < m ∧ (∀ m', 0 < m' → m' < m → hk_R (ga_G A fr to c) (fun i => (z.2.2.2 i).toInt) m' 49) ∧ (∀ m' v, m ≤ m' → m' < 128 → v < 7 → (z.2.2.2 (7 * m' + v)).toInt = if m' = 2 ^ v then 0 else -3000) ∧ rg_I (rc_C (ga_G A fr to c) (fun i => (z.2.2.2 i).toInt) m 0) z.1.toInt z.2.1.toInt z.2.2.1) 128 1 (-3000, 1, 0, W0) (by omega) ⟨by omega, fun m' a b => by omega, fun m' v _ a b => hrow0 m' v a b, Or.inl ⟨(show (-3000 : Int32).toInt = -3000 by decide), (show (1 : Int32).toInt = 1 by decide), fun p z => by rw [b_0] at z; exact absurd z (by decide), fun w k ⟨v', hv', h0, _⟩ => by omega⟩⟩ ?_ ?_
    · exact key
    · intro n z hz
      obtain ⟨t, b, rp, W⟩ := z
      obtain ⟨_, h1, h2, h3⟩ := hz
      exact br_t (nI_le (Nat.le_refl 128) (by decide)) (h t b rp W (rg_fin hG hw h1 h3))
    · intro n m z hm hz ih
      obtain ⟨t, b, rp, W⟩ := z
      obtain ⟨hm0, h1, h2, h3⟩ := hz
      have h1 : ∀ m', 0 < m' → m' < m → hk_R (ga_G A fr to c) (fun i => (W i).toInt) m' 49 := h1
      have h2 : ∀ m' v, m ≤ m' → m' < 128 → v < 7 → (W (7 * m' + v)).toInt = if m' = 2 ^ v then 0 else -3000 := h2
      have h3 : rg_I (rc_C (ga_G A fr to c) (fun i => (W i).toInt) m 0) t.toInt b.toInt rp := h3
      show wY_rings_60 post (n + 1) (nI m) t b rp a_there a_froms a_tos a_weights a_walks W
      refine br_f (nI_ge hm (by decide)) ?_
      refine ys_through hg hm0 hm (fun v hv => h2 m v (Nat.le_refl m) hm hv) h1 fun W' hR' hO' => ?_
      refine ys_ones hm ?_
      have hRall : ∀ m', 0 < m' → m' < m + 1 → hk_R (ga_G A fr to c) (fun i => (W' i).toInt) m' 49 := by
        intro m' a1 a2
        by_cases e : m' = m
        · subst e; exact hR'
        · refine hk_Rc (by omega) (h1 m' a1 (by omega)) fun j hj => ?_
          show (W' j).toInt = (W j).toInt
          rw [hO' j (Or.inl (by omega))]
      have hCeq : ∀ w k, rc_C (ga_G A fr to c) (fun i => (W i).toInt) m 0 w k ↔ rc_C (ga_G A fr to c) (fun i => (W' i).toInt) m 0 w k := by
        intro w k
        have hj : ∀ v', k < m → v' < 7 → W' (7 * k + v') = W (7 * k + v') := fun v' a1 a2 => hO' _ (Or.inl (by omega))
        constructor
        · intro ⟨v', hv', q1, q2, q3⟩
          have := hj v' (by omega) (by omega)
          refine ⟨v', hv', q1, ?_, ?_⟩
          · show (W' (7 * k + v')).toInt ≠ -3000
            rw [this]; exact q2
          · show ∃ last, _ ∧ _ ∧ w = (W' (7 * k + v')).toInt + last
            rw [this]; exact q3
        · intro ⟨v', hv', q1, q2, q3⟩
          have := hj v' (by omega) (by omega)
          have q2 : (W' (7 * k + v')).toInt ≠ -3000 := q2
          have q3 : ∃ last, mn_I (fun x => ga_G A fr to c v' (hk_lo k) x) (-3000) last ∧ last ≠ -3000 ∧ w = (W' (7 * k + v')).toInt + last := q3
          rw [this] at q2 q3
          exact ⟨v', hv', q1, q2, q3⟩
      have hon : ∀ v w k, rc_C (ga_G A fr to c) (fun i => (W' i).toInt) m v w k → 1 ≤ hk_on k := by
        intro v w k ⟨v', hv', q1, _⟩
        exact (hk_t4 k (by omega) q1).2.2.2.1
      refine loop_0 (σ := Int32 × Int32 × Int32) (fun n' v z => wY_rings_80 post (wY_rings_60 post n) (nI m) (nI (hk_on m)) a_there a_froms a_tos a_weights a_walks W' n' (nI v) z.1 z.2.1 z.2.2) (fun v z => rg_I (rc_C (ga_G A fr to c) (fun i => (W' i).toInt) m v) z.1.toInt z.2.1.toInt z.2.2) 7 (t, b, rp) (rg_c h3 hCeq) ?_ ?_
      · intro n' z hz
        obtain ⟨t', b', rp'⟩ := z
        refine br_t (nI_le (Nat.le_refl 7) (by decide)) (nm_r (nI_1 m) (ih (t', b', rp', W') ⟨by omega, hRall, fun m' v a1 a2 a3 => ?_, rg_c hz fun w k => ?_⟩))
        · show (W' (7 * m' + v)).toInt = _
          rw [hO' _ (Or.inr (by omega))]
          exact h2 m' v (by omega) a2 a3
        · constructor
          · intro ⟨v', hv', q⟩; exact ⟨v', by omega, q⟩
          · intro ⟨v', hv', q⟩; exact ⟨v', by omega, q⟩
      · intro n' v z hv hz ih'
        obtain ⟨t', b', rp'⟩ := z
        have hz : rg_I (rc_C (ga_G A fr to c) (fun i => (W' i).toInt) m v) t'.toInt b'.toInt rp' := hz
        have ex : 7 * nI m + nI v = nI (7 * m + v) := ix_7l _ _
        have cx : (nI (7 * m + v)).toNatClampNeg = 7 * m + v := nI_clamp (by omega)
        have hS : (W' (7 * m + v)).toInt ≠ -3000 → -120 ≤ (W' (7 * m + v)).toInt ∧ (W' (7 * m + v)).toInt ≤ 120 := fun hne => hk_bd hw hm hm0 (hR'.1 v hv hne)
        have nocand : (∀ last, ¬ ((W' (7 * m + v)).toInt ≠ -3000 ∧ mn_I (fun x => ga_G A fr to c v (hk_lo m) x) (-3000) last ∧ last ≠ -3000)) → wY_rings_80 post (wY_rings_60 post n) (nI m) (nI (hk_on m)) a_there a_froms a_tos a_weights a_walks W' n' (nI (v + 1)) t' b' rp' := by
          intro hn
          refine ih' (t', b', rp') (rg_c hz fun w k => ?_)
          constructor
          · intro ⟨v', hv', q⟩; exact ⟨v', by omega, q⟩
          · intro ⟨v', hv', q1, q2, last, q3, q4, q5⟩
            refine ⟨v', ?_, q1, q2, last, q3, q4, q5⟩
            by_cases e : k = m ∧ v' = v
            · obtain ⟨rfl, rfl⟩ := e
              exact absurd ⟨q2, q3, q4⟩ (hn last)
            · omega
        show wY_rings_80 post (wY_rings_60 post n) (nI m) (nI (hk_on m)) a_there a_froms a_tos a_weights a_walks W' (n' + 1) (nI v) t' b' rp'
        refine br_f (nI_ge hv (by decide)) ?_
        rw [ex, cx]
        refine And.intro (vp_in_nI (by omega) (by decide)) (nm_e (ib_eq (W' (7 * m + v)).toInt (-3000) (fun e => ?_) (fun e => ?_)))
        · exact ys_cand hm hm0 (hon v) hz hS (fun z => absurd (by decide) z) (fun _ => nocand fun last z => z.1 e) (fun z => absurd (by decide) z)
        · refine ys_lowest hm0 hm ?_
          refine ys_arc hg hv (hk_t4 m hm hm0).2.1 fun last hlast => ?_
          refine ys_cand hm hm0 (hon v) hz hS (fun hne => ?_) (fun hl => nocand fun last' z => ?_) (fun hne t2 b2 rp2 h2' => ih' (t2, b2, rp2) (rg_c h2' fun w k => ?_))
          · rcases hlast with ⟨z, _⟩ | ⟨_, z, _⟩
            · exact absurd z hne
            · have := hw _ _ _ z
              exact ⟨this.1, this.2, e⟩
          · have := mn_u hlast z.2.1
            exact z.2.2 (by omega)
          · constructor
            · intro z
              rcases z with ⟨v', hv', q⟩ | ⟨q1, q2⟩
              · exact ⟨v', by omega, q⟩
              · subst q2
                exact ⟨v, Or.inr ⟨rfl, by omega⟩, hm0, e, last.toInt, hlast, hne, q1⟩
            · intro ⟨v', hv', q1, q2, last', q3, q4, q5⟩
              by_cases ev : k = m ∧ v' = v
              · obtain ⟨rfl, rfl⟩ := ev
                have := mn_u hlast q3
                refine Or.inr ⟨?_, rfl⟩
                rw [this]; exact q5
              · exact Or.inl ⟨v', by omega, q1, q2, last', q3, q4, q5⟩
  · intro n i W hi hW ih
    have hv : i % 7 < 7 := by omega
    have ii := vp_in_nI hi (show 896 < 2 ^ 31 by decide)
    have h2v := (hk_t7 (i % 7) hv).1
    have key : ∀ x : Int32, x.toInt = (if i / 7 = 2 ^ (i % 7) then 0 else -3000) → ∀ j, j < i + 1 → (upd W i x j).toInt = if j / 7 = 2 ^ (j % 7) then 0 else -3000 := by
      intro x hx j hj
      by_cases e : j = i
      · rw [e, tb_us]; exact hx
      · rw [tb_un e]; exact hW j (by omega)
    refine br_f (nI_ge hi (by decide)) (And.intro ix_n7 (And.intro ix_n7 (pk_eq (i / 7) (2 ^ (i % 7)) (fun e => ?_) (fun e => ?_) (ix_d (by omega)) (by rw [ix_m (show i < 2 ^ 31 by omega)]; exact hk_t8 _ hv) (by omega) (by omega))))
    · exact And.intro ii (nm_r (up_i rfl (by omega) rfl) (nm_r (nI_1 i) (ih _ (key 0 (by rw [if_pos e]; decide)))))
    · exact And.intro ii (nm_r (up_i rfl (by omega) rfl) (nm_r (nI_1 i) (ih _ (key (-3000) (by rw [if_neg e]; decide)))))
end YR
end
section
/-! the least mean by counting arcs, pure -/
/-- weights times b, less t for each arc -/
def sg_G (G : Nat → Nat → Int → Prop) (t b : Int) (a e : Nat) (x : Int) : Prop := ∃ w, G a e w ∧ x = w * b - t
section KP
variable {G : Nat → Nat → Int → Prop} {t b : Int}
theorem sg_to : ∀ (n a e : Nat) (w : Int), wk_W G n a e w → wk_W (sg_G G t b) n a e (w * b - t * n) := by
  intro n
  induction n with
  | zero => intro a e w h; obtain ⟨rfl, rfl⟩ := h; exact ⟨rfl, by simp⟩
  | succ n ih =>
    intro a e w h
    obtain ⟨d, w1, w2, h1, g, rfl⟩ := h
    refine ⟨d, _, _, ih _ _ _ h1, ⟨w2, g, rfl⟩, ?_⟩
    rw [Int.add_mul, Int.natCast_add, Int.mul_add]
    simp
    omega
theorem sg_of : ∀ (n a e : Nat) (x : Int), wk_W (sg_G G t b) n a e x → ∃ w, wk_W G n a e w ∧ x = w * b - t * n := by
  intro n
  induction n with
  | zero => intro a e x h; obtain ⟨rfl, rfl⟩ := h; exact ⟨0, wk_0 a, by simp⟩
  | succ n ih =>
    intro a e x h
    obtain ⟨d, x1, x2, h1, ⟨w2, g, e2⟩, rfl⟩ := h
    obtain ⟨w1, hW1, e1⟩ := ih _ _ _ h1
    refine ⟨w1 + w2, wk_s hW1 g, ?_⟩
    rw [Int.add_mul, Int.natCast_add, Int.mul_add, e1, e2]
    simp
    omega
theorem op_nl (h : op_I G t b) (a e : Nat) : ¬ wk_L (sg_G G t b) a e := by
  intro ⟨d, n, x, _, hW, hneg, _⟩
  obtain ⟨w, hW', ex⟩ := sg_of _ _ _ _ hW
  by_cases hn : 1 ≤ n
  · have := h.2.2 n d w hn hW'
    omega
  · obtain rfl : n = 0 := by omega
    have := hW.2
    omega
theorem op_sc {t' b' : Int} (h : op_I G t b) (hb : 1 ≤ b') (e : t' * b = t * b') : op_I G t' b' := by
  obtain ⟨hb0, ⟨n, c, w, hn, hW, ew⟩, hall⟩ := h
  refine ⟨hb, ⟨n, c, w, hn, hW, ?_⟩, fun n c w hn hW => ?_⟩
  · have e1 : w * b' * b = t' * n * b := by
      have r1 : w * b' * b = w * b * b' := by rw [Int.mul_assoc, Int.mul_comm b' b, ← Int.mul_assoc]
      have r2 : t' * n * b = t' * b * n := by rw [Int.mul_assoc, Int.mul_comm (n : Int) b, ← Int.mul_assoc]
      rw [r1, r2, ew, e, Int.mul_assoc, Int.mul_comm (n : Int) b', ← Int.mul_assoc]
    exact Int.eq_of_mul_eq_mul_right (by omega) e1
  · have h1 := hall n c w hn hW
    have r1 : t' * n * b ≤ w * b' * b := by
      have q1 : t' * n * b = t * n * b' := by
        rw [Int.mul_assoc, Int.mul_comm (n : Int) b, ← Int.mul_assoc, e, Int.mul_assoc, Int.mul_comm b' (n : Int), ← Int.mul_assoc]
      have q2 : w * b' * b = w * b * b' := by rw [Int.mul_assoc, Int.mul_comm b' b, ← Int.mul_assoc]
      rw [q1, q2]
      exact Int.mul_le_mul_of_nonneg_right h1 (by omega)
    exact Int.le_of_mul_le_mul_right r1 (by omega)
/-- a point to which a walk of seven arcs is as good as any -/
theorem kp_good (hG : ∀ a b w, G a b w → a < 7 ∧ b < 7) (hw : ∀ a b w, G a b w → -20 ≤ w ∧ w ≤ 20) (h : op_I G t b) : ∃ a v y, a < 7 ∧ v < 7 ∧ wk_W (sg_G G t b) 7 a v y ∧ ∀ n a' y', a' < 7 → wk_W (sg_G G t b) n a' v y' → y ≤ y' := by
  have h' := h
  obtain ⟨hb, ⟨n0, c, w0, hn0, hW0, e0⟩, hall⟩ := h
  have hG' : ∀ a e x, sg_G G t b a e x → a < 7 ∧ e < 7 := fun a e x ⟨w, g, _⟩ => hG a e w g
  have hc : c < 7 := by
    obtain ⟨m, rfl⟩ : ∃ m, n0 = m + 1 := ⟨n0 - 1, by omega⟩
    obtain ⟨d, w1, w2, _, g, _⟩ := hW0
    exact (hG _ _ _ g).2
  have hz0 : wk_W (sg_G G t b) n0 c c 0 := wk_e (sg_to _ _ _ _ hW0) (by omega)
  obtain ⟨K, hK⟩ : ∃ K : Int, ∀ a e x, sg_G G t b a e x → -K ≤ x := by
    refine ⟨20 * b + t.natAbs, fun a e x ⟨w, g, ex⟩ => ?_⟩
    have hg := hw a e w g
    have r1 : -20 * b ≤ w * b := Int.mul_le_mul_of_nonneg_right hg.1 (by omega)
    have r2 : t ≤ t.natAbs := Int.le_natAbs
    omega
  have hlow : ∀ n a x, a < 7 → wk_W (sg_G G t b) n a c x → 0 ≤ x + (6 * K.natAbs : Nat) := by
    intro n a x ha hW
    obtain ⟨n', x', h6, _, hW', hle⟩ := wk_sn hG' ha (op_nl h' a c) hW
    have r1 := wk_ge hK _ _ _ _ hW'
    have r2 : K ≤ K.natAbs := Int.le_natAbs
    have r3 : (n' : Int) * K ≤ n' * K.natAbs := Int.mul_le_mul_of_nonneg_left r2 (by omega)
    have r4 : (n' : Int) * K.natAbs ≤ 6 * K.natAbs := Int.mul_le_mul_of_nonneg_right (by omega) (by omega)
    omega
  obtain ⟨k, ⟨n1, a1, x1, ha1, hW1, ek⟩, hleast⟩ := pk_least (fun k => ∃ n a x, a < 7 ∧ wk_W (sg_G G t b) n a c x ∧ (k : Int) = x + (6 * K.natAbs : Nat)) ⟨(0 + (6 * K.natAbs : Nat) : Int).toNat, 0, c, 0, hc, wk_0 c, Int.toNat_of_nonneg (by omega)⟩
  have hmin : ∀ n a x, a < 7 → wk_W (sg_G G t b) n a c x → x1 ≤ x := by
    intro n a x ha hW
    have h0 := hlow n a x ha hW
    have : ¬ (x + (6 * K.natAbs : Nat) : Int).toNat < k := fun z => hleast _ z ⟨n, a, x, ha, hW, Int.toNat_of_nonneg h0⟩
    omega
  have hlong := wk_app hW1 _ _ _ (wk_rep hz0 7)
  have hN : 7 ≤ n1 + 7 * n0 := by omega
  have hsp : wk_W (sg_G G t b) (7 + (n1 + 7 * n0 - 7)) a1 c (x1 + (7 : Nat) * 0) := wk_en hlong (by omega) rfl
  obtain ⟨v, y, z, hy, hz, eyz⟩ := wk_spl _ _ _ hsp
  refine ⟨a1, v, y, ha1, wk_b hG' hy ha1, hy, fun n a' y' ha' hW' => ?_⟩
  have := hmin _ _ _ ha' (wk_app hW' _ _ _ hz)
  omega
end KP
/-- the greatest slope at v, over the counts below i -/
def gs_I (T : Nat → Int) (v i : Nat) (tp bt : Int) : Prop :=
  (i = 0 ∧ tp = -1048576 ∧ bt = 1) ∨ ((∃ n, n < i ∧ n < 7 ∧ T (7 * n + v) ≠ 1048576 ∧ tp = T (49 + v) - T (7 * n + v) ∧ bt = 7 - n) ∧ ∀ n, n < i → n < 7 → T (7 * n + v) ≠ 1048576 → (T (49 + v) - T (7 * n + v)) * bt ≤ tp * (7 - n))
/-- the least of the slopes over the points below i -/
def mc_I (T : Nat → Int) (i : Nat) (tp bb : Int) : Prop :=
  (tp = 1048576 ∧ bb = 1 ∧ ∀ v, v < i → T (49 + v) = 1048576) ∨
  (1 ≤ bb ∧ bb ≤ 7 ∧ -280 ≤ tp ∧ tp ≤ 280 ∧ (∃ v, v < i ∧ T (49 + v) ≠ 1048576 ∧ ∀ n, n < 7 → T (7 * n + v) ≠ 1048576 → (T (49 + v) - T (7 * n + v)) * bb ≤ tp * (7 - n)) ∧
    ∀ v, v < i → T (49 + v) ≠ 1048576 → ∃ n, n < 7 ∧ T (7 * n + v) ≠ 1048576 ∧ tp * (7 - n) ≤ (T (49 + v) - T (7 * n + v)) * bb)
theorem gs_old {T : Nat → Int} {v i : Nat} {tp bt : Int} (h0 : 0 < i) (h : gs_I T v i tp bt) (hn : T (7 * i + v) = 1048576 ∨ (T (49 + v) - T (7 * i + v)) * bt ≤ tp * (7 - i)) : gs_I T v (i + 1) tp bt := by
  rcases h with ⟨z, _⟩ | ⟨⟨n, q1, q2, q3⟩, hall⟩
  · omega
  · refine Or.inr ⟨⟨n, by omega, q2, q3⟩, fun n' a1 a2 a3 => ?_⟩
    by_cases e : n' = i
    · subst e
      rcases hn with z | z
      · exact absurd z a3
      · exact z
    · exact hall n' (by omega) a2 a3
theorem gs_new {T : Nat → Int} {v i : Nat} {tp bt : Int} (hi : i < 7) (h : gs_I T v i tp bt) (hne : T (7 * i + v) ≠ 1048576) (hlt : tp * (7 - i) < (T (49 + v) - T (7 * i + v)) * bt) : gs_I T v (i + 1) (T (49 + v) - T (7 * i + v)) (7 - i) := by
  refine Or.inr ⟨⟨i, by omega, hi, hne, rfl, rfl⟩, fun n' a1 a2 a3 => ?_⟩
  by_cases e : n' = i
  · subst e; omega
  · rcases h with ⟨z, _⟩ | ⟨⟨n, q1, q2, q3, q4, q5⟩, hall⟩
    · omega
    · have := hall n' (by omega) a2 a3
      exact fr_le (by omega) (by omega) (by omega) this (by omega)
theorem mc_no {T : Nat → Int} {i : Nat} {tp bb : Int} (h : mc_I T i tp bb) (hn : T (49 + i) = 1048576) : mc_I T (i + 1) tp bb := by
  rcases h with ⟨h1, h2, h3⟩ | ⟨h1, h2, h3, h4, ⟨v, hv, q1, q2⟩, h6⟩
  · refine Or.inl ⟨h1, h2, fun v hv => ?_⟩
    by_cases e : v = i
    · rw [e]; exact hn
    · exact h3 v (by omega)
  · refine Or.inr ⟨h1, h2, h3, h4, ⟨v, by omega, q1, q2⟩, fun v' hv' hne => ?_⟩
    by_cases e : v' = i
    · rw [e] at hne; exact absurd hn hne
    · exact h6 v' (by omega) hne
theorem mc_old {T : Nat → Int} {i : Nat} {tp bb t b : Int} (h : mc_I T i tp bb) (hne : tp ≠ 1048576) (hg : gs_I T i 7 t b) (hle : tp * b ≤ t * bb) : mc_I T (i + 1) tp bb := by
  rcases h with ⟨h1, _⟩ | ⟨h1, h2, h3, h4, ⟨v, hv, q1, q2⟩, h6⟩
  · exact absurd h1 hne
  · refine Or.inr ⟨h1, h2, h3, h4, ⟨v, by omega, q1, q2⟩, fun v' hv' hne' => ?_⟩
    by_cases e : v' = i
    · subst e
      rcases hg with ⟨z, _⟩ | ⟨⟨n, _, r2, r3, r4, r5⟩, _⟩
      · omega
      · exact ⟨n, r2, r3, by rw [← r4, ← r5]; exact hle⟩
    · exact h6 v' (by omega) hne'
theorem mc_new {T : Nat → Int} {i : Nat} {tp bb t b : Int} (h : mc_I T i tp bb) (h7 : T (49 + i) ≠ 1048576) (hr : -280 ≤ t ∧ t ≤ 280) (hg : gs_I T i 7 t b) (hlt : tp = 1048576 ∨ t * bb < tp * b) : mc_I T (i + 1) t b := by
  rcases hg with ⟨z, _⟩ | ⟨⟨n, _, r2, r3, r4, r5⟩, hall⟩
  · omega
  · refine Or.inr ⟨by omega, by omega, hr.1, hr.2, ⟨i, by omega, h7, fun n' a1 a2 => hall n' a1 a1 a2⟩, fun v hv hne => ?_⟩
    by_cases e : v = i
    · subst e
      exact ⟨n, r2, r3, by rw [← r4, ← r5]; omega⟩
    · rcases h with ⟨_, _, h3⟩ | ⟨h1, h2, h3, h4, _, h6⟩
      · exact absurd (h3 v (by omega)) hne
      · obtain ⟨n', p1, p2, p3⟩ := h6 v (by omega) hne
        rcases hlt with z | z
        · omega
        · exact ⟨n', p1, p2, fr_le (by omega) (by omega) (by omega) (by omega) p3⟩
section KF
variable {A : Nat → Prop} {fr to : Nat → Nat} {c : Nat → Int}
theorem kp_fin (hG : ∀ a b w, ga_G A fr to c a b w → a < 7 ∧ b < 7) (hw : ∀ a b w, ga_G A fr to c a b w → -20 ≤ w ∧ w ≤ 20) {T : Nat → Int} (hT : wl_I A fr to c (fun a => a < 7) 1048576 7 0 T) {tp bb : Int} (h : mc_I T 7 tp bb) : (tp = 1048576 ∧ ∀ n d w, 1 ≤ n → ¬ wk_W (ga_G A fr to c) n d d w) ∨ (op_I (ga_G A fr to c) tp bb ∧ bb ≤ 7 ∧ -280 ≤ tp ∧ tp ≤ 280) := by
  have hT7 : ∀ v, v < 7 → mn_I (fun w => ∃ a, a < 7 ∧ wk_W (ga_G A fr to c) 7 a v w) 1048576 (T (49 + v)) := fun v hv => hT.1 7 v (Nat.le_refl 7) hv
  rcases h with ⟨h1, h2, h3⟩ | ⟨h1, h2, h3, h4, ⟨v0, hv0, q1, q2⟩, h6⟩
  · refine Or.inl ⟨h1, fun n d w hn hW => ?_⟩
    have hd : d < 7 := by
      obtain ⟨m, rfl⟩ : ∃ m, n = m + 1 := ⟨n - 1, by omega⟩
      obtain ⟨e, w1, w2, _, g, _⟩ := hW
      exact (hG _ _ _ g).2
    have hl : wk_W (ga_G A fr to c) (7 + (7 * n - 7)) d d ((7 : Nat) * w) := wk_en (wk_rep hW 7) (by omega) rfl
    obtain ⟨v, y, z, hy, _, _⟩ := wk_spl _ _ _ hl
    have hv := wk_b hG hy hd
    rcases hT7 v hv with ⟨_, q⟩ | ⟨q, _⟩
    · exact q y ⟨d, hd, hy⟩
    · exact q (h3 v hv)
  · refine Or.inr ⟨?_, h2, h3, h4⟩
    obtain ⟨a0, ha0, hW0⟩ : ∃ a, a < 7 ∧ wk_W (ga_G A fr to c) 7 a v0 (T (49 + v0)) := by
      rcases hT7 v0 hv0 with ⟨q, _⟩ | ⟨_, q, _⟩
      · exact absurd q q1
      · exact q
    obtain ⟨i, j, m, d, w1, w2, w3, en, _, hA1, hA2, hA3, ew⟩ := wk_cyc hG hW0 ha0 (Nat.le_refl 7)
    obtain ⟨t, b, hop⟩ := op_ex hG hw (by omega) hA2
    refine op_sc hop h1 ?_
    have hb := hop.1
    -- not below
    have hge : t * bb ≤ tp * b := by
      have hW' := wk_app hA1 _ _ _ hA3
      have hm := hT.1 (i + m) v0 (by omega) hv0
      rcases hm with ⟨_, q⟩ | ⟨p0, _, p1⟩
      · exact absurd ⟨a0, ha0, hW'⟩ (q _)
      · have p2 := p1 _ ⟨a0, ha0, hW'⟩
        have p3 := hop.2.2 (j + 1) d w2 (by omega) hA2
        have p4 := q2 (i + m) (by omega) p0
        have p5 : w2 * b ≤ (T (49 + v0) - T (7 * (i + m) + v0)) * b := Int.mul_le_mul_of_nonneg_right (by omega) (by omega)
        have eq : (7 : Int) - ((i + m : Nat) : Int) = ((j + 1 : Nat) : Int) := by omega
        rw [eq] at p4
        exact fr_le (w := t) (b := ((j + 1 : Nat) : Int)) (t := T (49 + v0) - T (7 * (i + m) + v0)) (n := b) (w' := tp) (n' := bb) (by omega) (by omega) (by omega) (by omega) p4
    -- not above
    have hle : tp * b ≤ t * bb := by
      obtain ⟨a, v, y, ha, hv, hWy, hall⟩ := kp_good hG hw hop
      obtain ⟨wy, hWy', ey⟩ := sg_of _ _ _ _ hWy
      have h7 : T (49 + v) ≠ 1048576 ∧ T (49 + v) ≤ wy := by
        rcases hT7 v hv with ⟨_, q⟩ | ⟨p0, _, p1⟩
        · exact absurd ⟨a, ha, hWy'⟩ (q _)
        · exact ⟨p0, p1 _ ⟨a, ha, hWy'⟩⟩
      obtain ⟨n, hn, hne, hlt⟩ := h6 v hv h7.1
      obtain ⟨an, han, hWn⟩ : ∃ a, a < 7 ∧ wk_W (ga_G A fr to c) n a v (T (7 * n + v)) := by
        rcases hT.1 n v (by omega) hv with ⟨q, _⟩ | ⟨_, q, _⟩
        · exact absurd q hne
        · exact q
      have r1 := hall n an _ han (sg_to _ _ _ _ hWn)
      have r2 : T (49 + v) * b ≤ wy * b := Int.mul_le_mul_of_nonneg_right h7.2 (by omega)
      have r3 : (T (49 + v) - T (7 * n + v)) * b ≤ t * (7 - n) := by
        rw [Int.sub_mul, Int.mul_sub]
        have : t * ((7 : Nat) : Int) = t * 7 := rfl
        omega
      exact fr_le (w := tp) (b := 7 - (n : Int)) (t := T (49 + v) - T (7 * n + v)) (n := bb) (w' := t) (n' := b) (by omega) (by omega) (by omega) hlt r3
    omega
end KF
end
section
/-! the component counts arcs -/
section CA
variable {f_present f_heapSize f_top f_bottom : Int32} {a_fromOf a_toOf a_weightOf a_found a_kept a_dist a_isLow a_times a_queue a_queued a_price a_heap a_heapPlace a_group a_badGroup a_cameBy a_table a_table2 a_byCount : Nat → Int32} {A : Nat → Prop} {fr to : Nat → Nat} {c : Nat → Int}
theorem xs_countArcs (hg : xg_I f_present a_fromOf a_toOf a_weightOf A fr to c) {post : SX → Prop} (h : ∀ T : Nat → Int32, wl_I A fr to c (fun a => a < 7) 1048576 7 0 (fun i => (T i).toInt) → post (f_present, f_heapSize, f_top, f_bottom, a_fromOf, a_toOf, a_weightOf, a_found, a_kept, a_dist, a_isLow, a_times, a_queue, a_queued, a_price, a_heap, a_heapPlace, a_group, a_badGroup, a_cameBy, a_table, a_table2, T)) : wpX_countArcs post (f_present, f_heapSize, f_top, f_bottom, a_fromOf, a_toOf, a_weightOf, a_found, a_kept, a_dist, a_isLow, a_times, a_queue, a_queued, a_price, a_heap, a_heapPlace, a_group, a_badGroup, a_cameBy, a_table, a_table2, a_byCount) := by
  have hw := xg_20 hg
  unfold wpX_countArcs
  refine loop_0 (fun n i T => wX_countArcs_2 post f_present f_heapSize f_top f_bottom n (nI i) a_fromOf a_toOf a_weightOf a_found a_kept a_dist a_isLow a_times a_queue a_queued a_price a_heap a_heapPlace a_group a_badGroup a_cameBy a_table a_table2 T) (fun i T => ∀ j, j < i → (T j).toInt = if j < 7 then 0 else 1048576) 56 a_byCount (fun j hj => absurd hj (Nat.not_lt_zero j)) ?_ ?_
  · intro n T0 hT0
    refine br_t (nI_le (Nat.le_refl 56) (by decide)) ?_
    have key := pk_loop (fun n i T => wX_countArcs_34 post f_present f_heapSize f_top f_bottom n (nI i) a_fromOf a_toOf a_weightOf a_found a_kept a_dist a_isLow a_times a_queue a_queued a_price a_heap a_heapPlace a_group a_badGroup a_cameBy a_table a_table2 T) (fun i T => 1 ≤ i ∧ wl_I A fr to c (fun a => a < 7) 1048576 (i - 1) 0 (fun i => (T i).toInt)) 8 1 T0 (by omega) ⟨by omega, ?_, ?_, ?_⟩ ?_ ?_
    · exact key
    · intro n v hn hv
      obtain rfl : n = 0 := by omega
      show mn_I _ _ (T0 (7 * 0 + v)).toInt
      rw [hT0 _ (by omega), if_pos (by omega)]
      exact Or.inr ⟨by decide, ⟨v, hv, by omega, rfl⟩, fun w ⟨a, _, _, ew⟩ => by omega⟩
    · intro _ v hv
      show mn_I _ _ (T0 (7 * (1 - 1 + 1) + v)).toInt
      rw [hT0 _ (by omega), if_neg (by omega)]
      exact Or.inl ⟨rfl, fun w ⟨j, _, _, hj, _⟩ => absurd hj (Nat.not_lt_zero j)⟩
    · intro n v hn h7 hv
      show (T0 (7 * n + v)).toInt = _
      rw [hT0 _ (by omega), if_neg (by omega)]
    · intro n T hI
      exact br_t (nI_lt (a := 7) (b := 8) (by omega) (by decide)) (h T hI.2)
    · intro n i T hi hI ih
      obtain ⟨L, rfl⟩ : ∃ L, i = L + 1 := ⟨i - 1, by omega⟩
      have hL : L < 7 := by omega
      have hI' : wl_I A fr to c (fun a => a < 7) 1048576 L 0 (fun i => (T i).toInt) := hI.2
      refine br_f (nI_nlt (a := 7) (b := L + 1) (by omega) (by decide)) ?_
      refine loop_0 (fun n' k T => wX_countArcs_42 post (wX_countArcs_34 post f_present f_heapSize f_top f_bottom n) (nI (L + 1)) f_present f_heapSize f_top f_bottom n' (nI k) a_fromOf a_toOf a_weightOf a_found a_kept a_dist a_isLow a_times a_queue a_queued a_price a_heap a_heapPlace a_group a_badGroup a_cameBy a_table a_table2 T) (fun k T => wl_I A fr to c (fun a => a < 7) 1048576 L k (fun i => (T i).toInt)) 20 T hI' ?_ ?_
      · intro n' T' hT'
        exact br_t (nI_le (Nat.le_refl 20) (by decide)) (nm_r (nI_1 (L + 1)) (ih T' ⟨by omega, wl_rd hL hT'⟩))
      · intro n' k T' hk hT' ih'
        have ik := vp_in_nI hk (show 20 < 2 ^ 31 by decide)
        have hft : fr k < 7 ∧ to k < 7 := ⟨xg_f7 hg hk, xg_t7 hg hk⟩
        have hck := xg_c hg hk
        have e4 : nI (L + 1) * 7 + nI (to k) = nI (7 * (L + 1) + to k) := by rw [ix_7]; exact congrArg nI (by omega)
        have e3 : (nI (L + 1) - 1) * 7 + nI (fr k) = nI (7 * L + fr k) := by rw [nI_pred, ix_7]; exact congrArg nI (by omega)
        have c4 : (nI (7 * (L + 1) + to k)).toNatClampNeg = 7 * (L + 1) + to k := nI_clamp (by omega)
        have c3 : (nI (7 * L + fr k)).toNatClampNeg = 7 * L + fr k := nI_clamp (by omega)
        have i4 : vp_in (nI (7 * (L + 1) + to k)) 56 := vp_in_nI (by omega) (by decide)
        refine br_f (nI_ge hk (by decide)) (xs_has hg hk (fun hA => br_f (by decide) (And.intro ik ?_)) (fun hA => br_t rfl ?_))
        · rw [xg_f hg hk, e3, c3]
          refine And.intro (vp_in_nI (by omega) (by decide)) ?_
          unfold wX_countArcs_79
          rw [xg_t hg hk, e4]
          refine And.intro ik (nm_e ?_)
          rw [c4]
          have hm := hT'.1 L (fr k) (Nat.le_refl L) hft.1
          refine ib_le 1048576 (T' (7 * L + fr k)).toInt (fun hle => ?_) (fun hlt => ?_)
          · refine And.intro i4 (And.intro i4 (nm_r (up_self T' _) (nm_r (nI_1 k) (ih' T' (wl_no hT' fun _ a w hS hW => ?_)))))
            by_cases e : (T' (7 * L + fr k)).toInt = 1048576
            · rcases hm with ⟨_, z⟩ | ⟨z, _⟩
              · exact z w ⟨a, hS, hW⟩
              · exact z e
            · have hb := wl_bd hw hT' (n := L) (v := fr k) (Nat.le_refl L) (by omega) hft.1 e
              have hb2 : (T' (7 * L + fr k)).toInt ≤ 140 := hb.2
              omega
          · have e : (T' (7 * L + fr k)).toInt ≠ 1048576 := by omega
            have hb := wl_bd hw hT' (n := L) (v := fr k) (Nat.le_refl L) (by omega) hft.1 e
            have hb : -140 ≤ (T' (7 * L + fr k)).toInt ∧ (T' (7 * L + fr k)).toInt ≤ 140 := hb
            have hsum : (T' (7 * L + fr k) + a_weightOf (nI k).toNatClampNeg).toInt = (T' (7 * L + fr k)).toInt + c k := ia_add rfl (xg_w hg hk) (by omega) (by omega)
            refine And.intro ik (And.intro i4 (ib_le (T' (7 * (L + 1) + to k)).toInt ((T' (7 * L + fr k)).toInt + c k) (fun hle => ?_) (fun hgt => ?_) rfl hsum))
            · refine And.intro i4 (And.intro i4 (nm_r (up_self T' _) (nm_r (nI_1 k) (ih' T' ?_))))
              exact wl_st hL hft hT' hA e (by show (T' (7 * L + fr k)).toInt + c k ≠ 1048576; omega) (Or.inr (Or.inr ⟨by show (T' (7 * (L + 1) + to k)).toInt ≠ 1048576; omega, hle, rfl⟩)) (fun j hj => rfl)
            · refine And.intro ik (And.intro i4 (nm_e (nm_r (nI_1 k) (ih' _ ?_))))
              refine wl_st hL hft hT' hA e (by show (T' (7 * L + fr k)).toInt + c k ≠ 1048576; omega) ?_ (fun j hj => tb_un hj)
              by_cases ez : (T' (7 * (L + 1) + to k)).toInt = 1048576
              · exact Or.inl ⟨ez, tb_us.trans hsum⟩
              · exact Or.inr (Or.inl ⟨ez, hgt, tb_us.trans hsum⟩)
        · unfold wX_countArcs_79
          rw [xg_t hg hk, e4]
          refine And.intro ik (nm_e ?_)
          rw [c4]
          exact br_t (by decide) (And.intro i4 (And.intro i4 (nm_r (up_self T' _) (nm_r (nI_1 k) (ih' T' (wl_no hT' fun z => absurd z hA))))))
  · intro n i T hi hT ih
    have ii := vp_in_nI hi (show 56 < 2 ^ 31 by decide)
    have key : ∀ x : Int32, x.toInt = (if i < 7 then 0 else 1048576) → ∀ j, j < i + 1 → (upd T i x j).toInt = if j < 7 then 0 else 1048576 := by
      intro x hx j hj
      by_cases e : j = i
      · rw [e, tb_us]; exact hx
      · rw [tb_un e]; exact hT j (by omega)
    refine br_f (nI_ge hi (by decide)) (pk_le 7 i (fun hle => ?_) (fun hlt => ?_))
    · exact And.intro ii (nm_r (up_i rfl (by omega) rfl) (nm_r (nI_1 i) (ih _ (key 1048576 (by rw [if_neg (by omega)]; decide)))))
    · exact And.intro ii (nm_r (up_i rfl (by omega) rfl) (nm_r (nI_1 i) (ih _ (key 0 (by rw [if_pos hlt]; decide)))))
theorem pr_bd {x y X Y : Int} (h1 : -X ≤ x) (h2 : x ≤ X) (h3 : 0 ≤ y) (h4 : y ≤ Y) (hX : 0 ≤ X) : -(X * Y) ≤ x * y ∧ x * y ≤ X * Y := by
  have r1 : -X * y ≤ x * y := Int.mul_le_mul_of_nonneg_right h1 h3
  have r2 : x * y ≤ X * y := Int.mul_le_mul_of_nonneg_right h2 h3
  have r3 : X * y ≤ X * Y := Int.mul_le_mul_of_nonneg_left h4 hX
  rw [Int.neg_mul] at r1
  omega
theorem xs_greatestSlope (hg : xg_I f_present a_fromOf a_toOf a_weightOf A fr to c) (hT : wl_I A fr to c (fun a => a < 7) 1048576 7 0 (fun i => (a_byCount i).toInt)) {post : SX → Prop} {v : Nat} (hv : v < 7) (h7 : (a_byCount (49 + v)).toInt ≠ 1048576) (h : ∀ t b : Int32, gs_I (fun i => (a_byCount i).toInt) v 7 t.toInt b.toInt → -280 ≤ t.toInt → t.toInt ≤ 280 → 1 ≤ b.toInt → b.toInt ≤ 7 → post (f_present, f_heapSize, t, b, a_fromOf, a_toOf, a_weightOf, a_found, a_kept, a_dist, a_isLow, a_times, a_queue, a_queued, a_price, a_heap, a_heapPlace, a_group, a_badGroup, a_cameBy, a_table, a_table2, a_byCount)) : wpX_greatestSlope post (f_present, f_heapSize, f_top, f_bottom, a_fromOf, a_toOf, a_weightOf, a_found, a_kept, a_dist, a_isLow, a_times, a_queue, a_queued, a_price, a_heap, a_heapPlace, a_group, a_badGroup, a_cameBy, a_table, a_table2, a_byCount) (nI v) := by
  have hw := xg_20 hg
  have hb7 : -140 ≤ (a_byCount (49 + v)).toInt ∧ (a_byCount (49 + v)).toInt ≤ 140 := wl_bd hw hT (n := 7) (v := v) (Nat.le_refl 7) (Nat.le_refl 7) hv h7
  unfold wpX_greatestSlope
  have e0 : 49 + nI v = nI (49 + v) := nI_add 49 v
  have c0 : (nI (49 + v)).toNatClampNeg = 49 + v := nI_clamp (by omega)
  rw [e0, c0]
  refine And.intro (vp_in_nI (by omega) (by decide)) (nm_e ?_)
  refine loop_0 (σ := Int32 × Int32) (fun n i z => wX_greatestSlope_23 post (nI v) (a_byCount (49 + v)) f_present f_heapSize a_fromOf a_toOf a_weightOf a_found a_kept a_dist a_isLow a_times a_queue a_queued a_price a_heap a_heapPlace a_group a_badGroup a_cameBy a_table a_table2 a_byCount n (nI i) z.1 z.2) (fun i z => gs_I (fun i => (a_byCount i).toInt) v i z.1.toInt z.2.toInt) 7 (-1048576, 1) (Or.inl ⟨rfl, by decide, by decide⟩) ?_ ?_
  · intro n z hz
    have hr : -280 ≤ z.1.toInt ∧ z.1.toInt ≤ 280 ∧ 1 ≤ z.2.toInt ∧ z.2.toInt ≤ 7 := by
      rcases hz with ⟨q, _⟩ | ⟨⟨n', q1, q2, q3, q4, q5⟩, _⟩
      · omega
      · have hb := wl_bd hw hT (n := n') (v := v) (by omega) (by omega) hv q3
        have hb : -140 ≤ (a_byCount (7 * n' + v)).toInt ∧ (a_byCount (7 * n' + v)).toInt ≤ 140 := hb
        have q4 : z.1.toInt = (a_byCount (49 + v)).toInt - (a_byCount (7 * n' + v)).toInt := q4
        omega
    exact br_t (nI_le (Nat.le_refl 7) (by decide)) (h z.1 z.2 hz hr.1 hr.2.1 hr.2.2.1 hr.2.2.2)
  · intro n i z hi hz ih
    obtain ⟨t, b⟩ := z
    have hz : gs_I (fun i => (a_byCount i).toInt) v i t.toInt b.toInt := hz
    have e1 : nI i * 7 + nI v = nI (7 * i + v) := by rw [ix_7]; exact congrArg nI (by omega)
    have c1 : (nI (7 * i + v)).toNatClampNeg = 7 * i + v := nI_clamp (by omega)
    have e2 : (7 : Int32) - nI i = nI (7 - i) := pk_sub (a := 7) (b := i) (by omega)
    have hn7 : (nI (7 - i)).toInt = 7 - (i : Int) := by rw [nI_toInt (by omega)]; omega
    -- ranges of t and b
    have hr : -1048576 ≤ t.toInt ∧ t.toInt ≤ 280 ∧ 1 ≤ b.toInt ∧ b.toInt ≤ 7 := by
      rcases hz with ⟨_, q1, q2⟩ | ⟨⟨n', q1, q2, q3, q4, q5⟩, _⟩
      · omega
      · have hb := wl_bd hw hT (n := n') (v := v) (by omega) (by omega) hv q3
        have hb : -140 ≤ (a_byCount (7 * n' + v)).toInt ∧ (a_byCount (7 * n' + v)).toInt ≤ 140 := hb
        have q4 : t.toInt = (a_byCount (49 + v)).toInt - (a_byCount (7 * n' + v)).toInt := q4
        omega
    show wX_greatestSlope_23 post (nI v) (a_byCount (49 + v)) f_present f_heapSize a_fromOf a_toOf a_weightOf a_found a_kept a_dist a_isLow a_times a_queue a_queued a_price a_heap a_heapPlace a_group a_badGroup a_cameBy a_table a_table2 a_byCount (n + 1) (nI i) t b
    refine br_f (nI_ge hi (by decide)) ?_
    rw [e1, c1, e2]
    refine And.intro (vp_in_nI (by omega) (by decide)) (nm_e (nm_e (nm_e ?_)))
    refine ib_le 1048576 (a_byCount (7 * i + v)).toInt (fun hle => nm_r (nI_1 i) (ih (t, b) ?_)) (fun hlt => ?_)
    · have he : (a_byCount (7 * i + v)).toInt = 1048576 := by
        refine Classical.byContradiction fun e => ?_
        have hb := wl_bd hw hT (n := i) (v := v) (by omega) (by omega) hv e
        have hb : (a_byCount (7 * i + v)).toInt ≤ 140 := hb.2
        omega
      by_cases hi0 : 0 < i
      · exact gs_old hi0 hz (Or.inl he)
      · obtain rfl : i = 0 := by omega
        rcases hT.1 0 v (by omega) hv with ⟨_, q⟩ | ⟨q, _⟩
        · exact absurd ⟨v, hv, wk_0 v⟩ (q 0)
        · exact absurd he q
    · have hne : (a_byCount (7 * i + v)).toInt ≠ 1048576 := by omega
      have hb := wl_bd hw hT (n := i) (v := v) (by omega) (by omega) hv hne
      have hb : -140 ≤ (a_byCount (7 * i + v)).toInt ∧ (a_byCount (7 * i + v)).toInt ≤ 140 := hb
      have s1 : (a_byCount (49 + v) - a_byCount (7 * i + v)).toInt = (a_byCount (49 + v)).toInt - (a_byCount (7 * i + v)).toInt := ia_sub rfl rfl (by omega) (by omega)
      have p1 := pr_bd (x := (a_byCount (49 + v)).toInt - (a_byCount (7 * i + v)).toInt) (y := b.toInt) (X := 280) (Y := 7) (by omega) (by omega) (by omega) (by omega) (by omega)
      have p2 := pr_bd (x := t.toInt) (y := 7 - (i : Int)) (X := 1048576) (Y := 7) (by omega) (by omega) (by omega) (by omega) (by omega)
      have m1 : ((a_byCount (49 + v) - a_byCount (7 * i + v)) * b).toInt = ((a_byCount (49 + v)).toInt - (a_byCount (7 * i + v)).toInt) * b.toInt := ia_mul s1 rfl (by omega) (by omega)
      have m2 : (t * nI (7 - i)).toInt = t.toInt * (7 - (i : Int)) := ia_mul rfl hn7 (by omega) (by omega)
      refine ib_le (((a_byCount (49 + v)).toInt - (a_byCount (7 * i + v)).toInt) * b.toInt) (t.toInt * (7 - (i : Int))) (fun hle => nm_r (nI_1 i) (ih (t, b) ?_)) (fun hgt => nm_r (nI_1 i) (ih (_, _) ?_)) m1 m2
      · by_cases hi0 : 0 < i
        · exact gs_old hi0 hz (Or.inr hle)
        · obtain rfl : i = 0 := by omega
          rcases hz with ⟨_, q1, q2⟩ | ⟨⟨n', q1, _⟩, _⟩
          · rw [q1, q2] at hle
            omega
          · omega
      · have := gs_new hi hz hne hgt
        show gs_I _ v (i + 1) (a_byCount (49 + v) - a_byCount (7 * i + v)).toInt (nI (7 - i)).toInt
        rw [s1, hn7]; exact this
theorem xs_meanByCounts (hg : xg_I f_present a_fromOf a_toOf a_weightOf A fr to c) {post : Int32 → SX → Prop} (h0 : (∀ n d w, 1 ≤ n → ¬ wk_W (ga_G A fr to c) n d d w) → ∀ (t b : Int32) (T : Nat → Int32), post 0 (f_present, f_heapSize, t, b, a_fromOf, a_toOf, a_weightOf, a_found, a_kept, a_dist, a_isLow, a_times, a_queue, a_queued, a_price, a_heap, a_heapPlace, a_group, a_badGroup, a_cameBy, a_table, a_table2, T)) (h1 : ∀ (t b : Int32) (T : Nat → Int32), op_I (ga_G A fr to c) t.toInt b.toInt → b.toInt ≤ 7 → -280 ≤ t.toInt → t.toInt ≤ 280 → post 1 (f_present, f_heapSize, t, b, a_fromOf, a_toOf, a_weightOf, a_found, a_kept, a_dist, a_isLow, a_times, a_queue, a_queued, a_price, a_heap, a_heapPlace, a_group, a_badGroup, a_cameBy, a_table, a_table2, T)) : wpX_findMeanByCounts post (f_present, f_heapSize, f_top, f_bottom, a_fromOf, a_toOf, a_weightOf, a_found, a_kept, a_dist, a_isLow, a_times, a_queue, a_queued, a_price, a_heap, a_heapPlace, a_group, a_badGroup, a_cameBy, a_table, a_table2, a_byCount) := by
  have hG := xg_7 hg
  have hw := xg_20 hg
  unfold wpX_findMeanByCounts
  refine xs_countArcs hg fun T hT => ?_
  refine loop_0 (σ := Int32 × Int32 × Int32 × Int32) (fun n i z => wX_findMeanByCounts_11 post n z.1 z.2.1 (nI i) f_present f_heapSize z.2.2.1 z.2.2.2 a_fromOf a_toOf a_weightOf a_found a_kept a_dist a_isLow a_times a_queue a_queued a_price a_heap a_heapPlace a_group a_badGroup a_cameBy a_table a_table2 T) (fun i z => mc_I (fun i => (T i).toInt) i z.1.toInt z.2.1.toInt) 7 (1048576, 1, f_top, f_bottom) (Or.inl ⟨by show (1048576 : Int32).toInt = 1048576; decide, by show (1 : Int32).toInt = 1; decide, fun v hv => absurd hv (Nat.not_lt_zero v)⟩) ?_ ?_
  · intro n z hz
    obtain ⟨tp, bb, t, b⟩ := z
    have hz : mc_I (fun i => (T i).toInt) 7 tp.toInt bb.toInt := hz
    refine br_t (nI_le (Nat.le_refl 7) (by decide)) (ib_eq tp.toInt 1048576 (fun e => ?_) (fun e => ?_))
    · rcases kp_fin hG hw hT hz with ⟨_, q⟩ | ⟨_, _, _, q⟩
      · exact h0 q _ _ _
      · omega
    · rcases kp_fin hG hw hT hz with ⟨q, _⟩ | ⟨q1, q2, q3, q4⟩
      · exact absurd q e
      · exact h1 _ _ _ q1 q2 q3 q4
  · intro n i z hi hz ih
    obtain ⟨tp, bb, t, b⟩ := z
    have hz : mc_I (fun i => (T i).toInt) i tp.toInt bb.toInt := hz
    have e0 : 49 + nI i = nI (49 + i) := nI_add 49 i
    have c0 : (nI (49 + i)).toNatClampNeg = 49 + i := nI_clamp (by omega)
    show wX_findMeanByCounts_11 post (n + 1) tp bb (nI i) f_present f_heapSize t b a_fromOf a_toOf a_weightOf a_found a_kept a_dist a_isLow a_times a_queue a_queued a_price a_heap a_heapPlace a_group a_badGroup a_cameBy a_table a_table2 T
    refine br_f (nI_ge hi (by decide)) ?_
    rw [e0, c0]
    refine And.intro (vp_in_nI (by omega) (by decide)) (ib_le 1048576 (T (49 + i)).toInt (fun hle => nm_r (nI_1 i) (ih (tp, bb, t, b) (mc_no hz ?_))) (fun hlt => ?_))
    · refine Classical.byContradiction fun e => ?_
      have hb := wl_bd hw hT (n := 7) (v := i) (Nat.le_refl 7) (Nat.le_refl 7) hi e
      have hb : (T (49 + i)).toInt ≤ 140 := hb.2
      omega
    · have h7 : (T (49 + i)).toInt ≠ 1048576 := by omega
      refine xs_greatestSlope hg hT hi h7 fun t' b' hgs r1 r2 r3 r4 => ?_
      have better : (tp.toInt = 1048576 ∨ t'.toInt * bb.toInt < tp.toInt * b'.toInt) → wX_findMeanByCounts_57 post (wX_findMeanByCounts_11 post n) tp bb (nI i) f_present f_heapSize t' b' a_fromOf a_toOf a_weightOf a_found a_kept a_dist a_isLow a_times a_queue a_queued a_price a_heap a_heapPlace a_group a_badGroup a_cameBy a_table a_table2 T := fun hc =>
        br_f (by decide) (br_f (by decide) (nm_r (nI_1 i) (ih (t', b', t', b') (mc_new hz h7 ⟨r1, r2⟩ hgs hc))))
      refine ib_eq tp.toInt 1048576 (fun e => better (Or.inl e)) (fun e => ?_)
      obtain ⟨q1, q2, q3, q4⟩ : 1 ≤ bb.toInt ∧ bb.toInt ≤ 7 ∧ -280 ≤ tp.toInt ∧ tp.toInt ≤ 280 := by
        rcases hz with ⟨z, _⟩ | ⟨z1, z2, z3, z4, _⟩
        · exact absurd z e
        · exact ⟨z1, z2, z3, z4⟩
      have p1 := pr_bd (x := tp.toInt) (y := b'.toInt) (X := 280) (Y := 7) (by omega) (by omega) (by omega) (by omega) (by omega)
      have p2 := pr_bd (x := t'.toInt) (y := bb.toInt) (X := 280) (Y := 7) (by omega) (by omega) (by omega) (by omega) (by omega)
      have m1 : (tp * b').toInt = tp.toInt * b'.toInt := ia_mul rfl rfl (by omega) (by omega)
      have m2 : (t' * bb).toInt = t'.toInt * bb.toInt := ia_mul rfl rfl (by omega) (by omega)
      refine ib_le (tp.toInt * b'.toInt) (t'.toInt * bb.toInt) (fun hle => ?_) (fun hgt => better (Or.inr hgt)) m1 m2
      exact br_t rfl (br_t rfl (nm_r (nI_1 i) (ih (tp, bb, t', b') (mc_old hz e hgs hle))))
end CA
end
section
/-! rings that are ever better, pure. x k: the changed weight of arc k; ta v: the time of v's last change (19: none); cb v: the arc by which v was reached last -/
def rb_I (A : Nat → Prop) (fr to : Nat → Nat) (x : Nat → Int) (r k : Nat) (D : Nat → Int) (cb : Nat → Int32) (ta : Nat → Nat) (la : Int32) : Prop :=
  (∀ j, j < 20 → A j → D (to j) ≤ D (fr j) + x j ∨ (if j < k then 20 * (r + 1) + j else 20 * r + j) ≤ ta (fr j)) ∧
  (∀ v, v < 7 → (cb v = -1 ∧ ta v = 19) ∨ ∃ k', k' < 20 ∧ cb v = nI k' ∧ A k' ∧ to k' = v ∧ 20 ≤ ta v ∧ ta v ≤ ta (fr k') + 20 ∧ D (fr k') + x k' ≤ D v ∧ (D (fr k') + x k' < D v ∨ ta (fr k') < ta v)) ∧
  (∀ v, v < 7 → 19 ≤ ta v ∧ ta v < 20 * (r + 1) + k) ∧
  (∀ v, v < 7 → -(280 * (20 * r + k : Nat) : Int) ≤ D v ∧ D v ≤ 0) ∧
  ((la = -1 ∧ ∀ j, j < k → A j → D (to j) ≤ D (fr j) + x j) ∨ ∃ v, v < 7 ∧ la = nI v ∧ 20 * (r + 1) ≤ ta v)
section RB
variable {A : Nat → Prop} {fr to : Nat → Nat} {x : Nat → Int}
theorem rb_0 {D : Nat → Int} {cb : Nat → Int32} (hf : ∀ j, j < 20 → fr j < 7 ∧ to j < 7) (hD : ∀ v, v < 7 → D v = 0) (hc : ∀ v, v < 7 → cb v = -1) : rb_I A fr to x 0 0 D cb (fun _ => 19) (-1) := by
  refine ⟨fun j hj _ => Or.inr ?_, fun v hv => Or.inl ⟨hc v hv, rfl⟩, fun v _ => ⟨Nat.le_refl 19, ?_⟩, fun v hv => ?_, Or.inl ⟨rfl, fun j hj => absurd hj (Nat.not_lt_zero j)⟩⟩
  · rw [if_neg (by omega)]
    show 20 * 0 + j ≤ 19
    omega
  · show 19 < 20 * (0 + 1) + 0
    omega
  · rw [hD v hv]; omega
theorem rb_rd {r : Nat} {D : Nat → Int} {cb : Nat → Int32} {ta : Nat → Nat} {la : Int32} (h : rb_I A fr to x r 20 D cb ta la) : rb_I A fr to x (r + 1) 0 D cb ta (-1) := by
  obtain ⟨h1, h2, h3, h4, h5⟩ := h
  refine ⟨fun j hj hA => ?_, h2, fun v hv => ?_, fun v hv => ?_, Or.inl ⟨rfl, fun j hj => absurd hj (Nat.not_lt_zero j)⟩⟩
  · have := h1 j hj hA
    rw [if_pos hj] at this
    rw [if_neg (by omega)]
    exact this
  · have := h3 v hv
    omega
  · have := h4 v hv
    omega
theorem rb_no {r k : Nat} {D : Nat → Int} {cb : Nat → Int32} {ta : Nat → Nat} {la : Int32} (hk : k < 20) (h : rb_I A fr to x r k D cb ta la) (hn : A k → D (to k) ≤ D (fr k) + x k) : rb_I A fr to x r (k + 1) D cb ta la := by
  obtain ⟨h1, h2, h3, h4, h5⟩ := h
  refine ⟨fun j hj hA => ?_, h2, fun v hv => ?_, fun v hv => ?_, ?_⟩
  · by_cases e : j = k
    · subst e; exact Or.inl (hn hA)
    · have := h1 j hj hA
      by_cases hjk : j < k
      · rw [if_pos hjk] at this
        rw [if_pos (by omega)]; exact this
      · rw [if_neg hjk] at this
        rw [if_neg (by omega)]; exact this
  · have := h3 v hv; omega
  · have := h4 v hv; omega
  · refine h5.imp (fun ⟨q1, q2⟩ => ⟨q1, fun j hj hA => ?_⟩) id
    by_cases e : j = k
    · subst e; exact hn hA
    · exact q2 j (by omega) hA
theorem rb_yes {r k : Nat} {D D' : Nat → Int} {cb cb' : Nat → Int32} {ta : Nat → Nat} {la : Int32} (hf : ∀ j, j < 20 → fr j < 7 ∧ to j < 7) (hx : -280 ≤ x k ∧ x k ≤ 280) (hk : k < 20) (h : rb_I A fr to x r k D cb ta la) (hA : A k) (hlt : D (fr k) + x k < D (to k)) (e1 : D' (to k) = D (fr k) + x k) (e2 : ∀ j, j ≠ to k → D' j = D j) (c1 : cb' (to k) = nI k) (c2 : ∀ j, j ≠ to k → cb' j = cb j) : rb_I A fr to x r (k + 1) D' cb' (fun v => if v = to k then 20 * (r + 1) + k else ta v) (nI (to k)) := by
  obtain ⟨h1, h2, h3, h4, h5⟩ := h
  have hfk := hf k hk
  have t1 : (fun v => if v = to k then 20 * (r + 1) + k else ta v) (to k) = 20 * (r + 1) + k := if_pos rfl
  have t2 : ∀ v, v ≠ to k → (fun v => if v = to k then 20 * (r + 1) + k else ta v) v = ta v := fun v hv => if_neg hv
  generalize (fun v => if v = to k then 20 * (r + 1) + k else ta v) = tb at *
  have htau : 20 * r + k ≤ ta (fr k) := by
    rcases h1 k hk hA with z | z
    · omega
    · rw [if_neg (by omega)] at z; exact z
  have hle : ∀ v, D' v ≤ D v := by
    intro v
    by_cases e : v = to k
    · rw [e, e1]; omega
    · rw [e2 v e]; omega
  have hta : ∀ v, v < 7 → ta v ≤ tb v := by
    intro v hv
    by_cases e : v = to k
    · rw [e, t1]; have := h3 (to k) hfk.2; omega
    · rw [t2 v e]; omega
  refine ⟨fun j hj hAj => ?_, fun v hv => ?_, fun v hv => ?_, fun v hv => ?_, Or.inr ⟨to k, hfk.2, rfl, by rw [t1]; omega⟩⟩
  · have hfj := hf j hj
    by_cases e : fr j = to k
    · refine Or.inr ?_
      rw [e, t1]
      by_cases hjk : j < k + 1
      · rw [if_pos hjk]; omega
      · rw [if_neg hjk]; omega
    · by_cases ej : j = k
      · subst ej
        refine Or.inl ?_
        rw [e2 _ e, e1]; omega
      · rcases h1 j hj hAj with z | z
        · refine Or.inl ?_
          have := hle (to j)
          rw [e2 _ e]; omega
        · refine Or.inr ?_
          rw [t2 _ e]
          by_cases hjk : j < k
          · rw [if_pos hjk] at z
            rw [if_pos (by omega)]; exact z
          · rw [if_neg hjk] at z
            rw [if_neg (by omega)]; exact z
  · by_cases e : v = to k
    · subst e
      refine Or.inr ⟨k, hk, c1, hA, rfl, by rw [t1]; omega, ?_, ?_, ?_⟩
      · have := hta (fr k) hfk.1
        rw [t1]; omega
      · rw [e1]
        have := hle (fr k)
        omega
      · by_cases eu : fr k = to k
        · refine Or.inl ?_
          rw [eu] at hlt e1 ⊢
          omega
        · refine Or.inr ?_
          rw [t1, t2 _ eu]
          have := h3 (fr k) hfk.1
          omega
    · rw [c2 v e, t2 v e, e2 v e]
      rcases h2 v hv with ⟨q1, q2⟩ | ⟨k', q1, q2, q3, q4, q5, q6, q7, q8⟩
      · exact Or.inl ⟨q1, q2⟩
      · have hfk' := hf k' q1
        refine Or.inr ⟨k', q1, q2, q3, q4, q5, ?_, ?_, ?_⟩
        · have := hta (fr k') hfk'.1; omega
        · have := hle (fr k'); omega
        · by_cases eu : fr k' = to k
          · refine Or.inl ?_
            rw [eu] at q7 ⊢
            omega
          · rw [e2 _ eu, t2 _ eu]; exact q8
  · by_cases e : v = to k
    · rw [e, t1]; omega
    · rw [t2 v e]; have := h3 v hv; omega
  · by_cases e : v = to k
    · have := h4 (fr k) hfk.1
      have := h4 (to k) hfk.2
      rw [e, e1]; omega
    · rw [e2 v e]; have := h4 v hv; omega
end RB
def it_F (f : Nat → Nat) : Nat → Nat → Nat
  | 0, p => p
  | n + 1, p => f (it_F f n p)
theorem it_add (f : Nat → Nat) (m : Nat) : ∀ n p, it_F f (n + m) p = it_F f n (it_F f m p) := by
  intro n
  induction n with
  | zero => intro p; rw [Nat.zero_add]; rfl
  | succ n ih =>
    intro p
    have : n + 1 + m = n + m + 1 := by omega
    rw [this]
    show f (it_F f (n + m) p) = f (it_F f n (it_F f m p))
    rw [ih p]
/-- y was reached by an arc, and that arc is tight or better -/
def li_I (A : Nat → Prop) (fr to : Nat → Nat) (x : Nat → Int) (D : Nat → Int) (cb : Nat → Int32) (ta : Nat → Nat) (y : Nat) : Prop :=
  y < 7 ∧ ∃ k', k' < 20 ∧ cb y = nI k' ∧ A k' ∧ to k' = y ∧ D (fr k') + x k' ≤ D y ∧ (D (fr k') + x k' < D y ∨ ta (fr k') < ta y)
/-- p is on a ring of such arcs -/
def ri_I (A : Nat → Prop) (fr to : Nat → Nat) (x : Nat → Int) (D : Nat → Int) (cb : Nat → Int32) (ta : Nat → Nat) (p : Nat) : Prop :=
  (∀ m, li_I A fr to x D cb ta (it_F (fun v => fr (cb v).toNatClampNeg) m p)) ∧ ∃ d, 1 ≤ d ∧ d ≤ 7 ∧ it_F (fun v => fr (cb v).toNatClampNeg) d p = p ∧ ∀ e, 1 ≤ e → e < d → it_F (fun v => fr (cb v).toNatClampNeg) e p ≠ p
section RI
variable {A : Nat → Prop} {fr to : Nat → Nat} {x : Nat → Int} {D : Nat → Int} {cb : Nat → Int32} {ta : Nat → Nat}
/-- from a point that still changed in the eighth round seven steps back are there, and end on a ring -/
theorem rb_ch (hf : ∀ j, j < 20 → fr j < 7 ∧ to j < 7) {la : Int32} (h : rb_I A fr to x 8 0 D cb ta la) {v : Nat} (hv : v < 7) (ht : 160 ≤ ta v) : ∀ i, i ≤ 7 → it_F (fun v => fr (cb v).toNatClampNeg) i v < 7 ∧ 160 ≤ ta (it_F (fun v => fr (cb v).toNatClampNeg) i v) + 20 * i := by
  intro i
  induction i with
  | zero => intro _; exact ⟨hv, ht⟩
  | succ i ih =>
    intro hi
    obtain ⟨q1, q2⟩ := ih (by omega)
    show fr (cb (it_F (fun v => fr (cb v).toNatClampNeg) i v)).toNatClampNeg < 7 ∧ 160 ≤ ta (fr (cb (it_F (fun v => fr (cb v).toNatClampNeg) i v)).toNatClampNeg) + 20 * (i + 1)
    generalize it_F (fun v => fr (cb v).toNatClampNeg) i v = y at *
    rcases h.2.1 y q1 with ⟨_, z⟩ | ⟨k', p1, p2, p3, p4, p5, p6, p7, p8⟩
    · omega
    · rw [p2, nI_clamp (by omega)]
      exact ⟨(hf k' p1).1, by omega⟩
theorem rb_li {la : Int32} (h : rb_I A fr to x 8 0 D cb ta la) {y : Nat} (hy : y < 7) (ht : 20 ≤ ta y) : li_I A fr to x D cb ta y := by
  rcases h.2.1 y hy with ⟨_, z⟩ | ⟨k', p1, p2, p3, p4, p5, p6, p7, p8⟩
  · omega
  · exact ⟨hy, k', p1, p2, p3, p4, p7, p8⟩
theorem rb_ri (hf : ∀ j, j < 20 → fr j < 7 ∧ to j < 7) {la : Int32} (h : rb_I A fr to x 8 0 D cb ta la) {v : Nat} (hv : v < 7) (ht : 160 ≤ ta v) : ri_I A fr to x D cb ta (it_F (fun v => fr (cb v).toNatClampNeg) 7 v) := by
  have hch := rb_ch hf h hv ht
  have hli : ∀ i, i ≤ 7 → li_I A fr to x D cb ta (it_F (fun v => fr (cb v).toNatClampNeg) i v) := fun i hi => rb_li h (hch i hi).1 (by have := (hch i hi).2; omega)
  obtain ⟨i, j, hij, hj, e⟩ := ph_pig 7 (fun i => it_F (fun v => fr (cb v).toNatClampNeg) i v) (fun i hi => (hch i hi).1)
  have e : it_F (fun v => fr (cb v).toNatClampNeg) i v = it_F (fun v => fr (cb v).toNatClampNeg) j v := e
  generalize hF : (fun v => fr (cb v).toNatClampNeg) = F at *
  -- every later point is one of the first
  have hall : ∀ m, ∃ i', i' ≤ 7 ∧ it_F F m v = it_F F i' v := by
    intro m
    induction m with
    | zero => exact ⟨0, by omega, rfl⟩
    | succ m ih =>
      obtain ⟨i', hi', e'⟩ := ih
      have e1 : it_F F (m + 1) v = it_F F (i' + 1) v := by
        show F (it_F F m v) = F (it_F F i' v)
        rw [e']
      by_cases hi7 : i' + 1 ≤ 7
      · exact ⟨i' + 1, hi7, e1⟩
      · obtain rfl : i' = 7 := by omega
        -- it_F 8 = it_F (8 - (j - i))
        refine ⟨7 + 1 - (j - i), by omega, e1.trans ?_⟩
        have a1 : 7 + 1 = (7 + 1 - j) + j := by omega
        have a2 : 7 + 1 - (j - i) = (7 + 1 - j) + i := by omega
        rw [a2, a1, it_add F j, it_add F i, Nat.add_sub_cancel, e]
  have hper : it_F F (j - i) (it_F F 7 v) = it_F F 7 v := by
    have a1 : j - i + 7 = (7 - i) + j := by omega
    have a2 : (7 : Nat) = (7 - i) + i := by omega
    rw [← it_add F 7, a1, it_add F j]
    have : it_F F 7 v = it_F F (7 - i) (it_F F i v) := by
      have := it_add F i (7 - i) v
      rw [← a2] at this
      exact this
    rw [this, e]
  obtain ⟨d, hd, hmin⟩ := pk_least (fun d => 1 ≤ d ∧ it_F F d (it_F F 7 v) = it_F F 7 v) ⟨j - i, by omega, hper⟩
  subst hF
  refine ⟨fun m => ?_, d, hd.1, ?_, hd.2, fun e' h1 h2 h3 => hmin e' h2 ⟨h1, h3⟩⟩
  · rw [← it_add]
    obtain ⟨i', hi', ei'⟩ := hall (m + 7)
    rw [ei']; exact hli i' hi'
  · have : ¬ j - i < d := fun z => hmin _ z ⟨by omega, hper⟩
    omega
/-- the weight of the first i arcs back from p -/
def rw_F (c : Nat → Int) (cb : Nat → Int32) (F : Nat → Nat) (p : Nat) : Nat → Int
  | 0 => 0
  | i + 1 => rw_F c cb F p i + c (cb (it_F F i p)).toNatClampNeg
theorem ri_walk {c : Nat → Int} {t b : Int} {p : Nat} (h : ∀ m, li_I A fr to (fun k => c k * b - t) D cb ta (it_F (fun v => fr (cb v).toNatClampNeg) m p)) : ∀ i, wk_W (ga_G A fr to c) i (it_F (fun v => fr (cb v).toNatClampNeg) i p) p (rw_F c cb (fun v => fr (cb v).toNatClampNeg) p i) ∧ (1 ≤ i → D (it_F (fun v => fr (cb v).toNatClampNeg) i p) + (rw_F c cb (fun v => fr (cb v).toNatClampNeg) p i * b - t * i) ≤ D p ∧ (D (it_F (fun v => fr (cb v).toNatClampNeg) i p) + (rw_F c cb (fun v => fr (cb v).toNatClampNeg) p i * b - t * i) < D p ∨ ta (it_F (fun v => fr (cb v).toNatClampNeg) i p) < ta p)) := by
  intro i
  induction i with
  | zero => exact ⟨wk_0 p, fun z => by omega⟩
  | succ i ih =>
    obtain ⟨hW, hD⟩ := ih
    have hl := h i
    show wk_W (ga_G A fr to c) (i + 1) (fr (cb (it_F (fun v => fr (cb v).toNatClampNeg) i p)).toNatClampNeg) p (rw_F c cb (fun v => fr (cb v).toNatClampNeg) p i + c (cb (it_F (fun v => fr (cb v).toNatClampNeg) i p)).toNatClampNeg) ∧ (1 ≤ i + 1 → D (fr (cb (it_F (fun v => fr (cb v).toNatClampNeg) i p)).toNatClampNeg) + ((rw_F c cb (fun v => fr (cb v).toNatClampNeg) p i + c (cb (it_F (fun v => fr (cb v).toNatClampNeg) i p)).toNatClampNeg) * b - t * ((i + 1 : Nat) : Int)) ≤ D p ∧ (D (fr (cb (it_F (fun v => fr (cb v).toNatClampNeg) i p)).toNatClampNeg) + ((rw_F c cb (fun v => fr (cb v).toNatClampNeg) p i + c (cb (it_F (fun v => fr (cb v).toNatClampNeg) i p)).toNatClampNeg) * b - t * ((i + 1 : Nat) : Int)) < D p ∨ ta (fr (cb (it_F (fun v => fr (cb v).toNatClampNeg) i p)).toNatClampNeg) < ta p))
    have hy0 : i = 0 → it_F (fun v => fr (cb v).toNatClampNeg) i p = p := fun z => by rw [z]; rfl
    have hr0 : i = 0 → rw_F c cb (fun v => fr (cb v).toNatClampNeg) p i = 0 := fun z => by rw [z]; rfl
    generalize it_F (fun v => fr (cb v).toNatClampNeg) i p = y at *
    generalize rw_F c cb (fun v => fr (cb v).toNatClampNeg) p i = R at *
    obtain ⟨hy, k', q1, q2, q3, q4, q5, q6⟩ := hl
    rw [q2, nI_clamp (by omega)]
    have g : ga_G A fr to c (fr k') y (c k') := by rw [← q4]; exact ga_i q1 q3
    have q5 : D (fr k') + (c k' * b - t) ≤ D y := q5
    have q6 : D (fr k') + (c k' * b - t) < D y ∨ ta (fr k') < ta y := q6
    have eS : (R + c k') * b - t * ((i + 1 : Nat) : Int) = (R * b - t * i) + (c k' * b - t) := by
      rw [Int.add_mul, Int.natCast_add, Int.mul_add]
      simp
      omega
    refine ⟨wk_e (wk_cons g hW) (by omega), fun _ => ?_⟩
    rw [eS]
    by_cases hi : 1 ≤ i
    · obtain ⟨d1, d2⟩ := hD hi
      refine ⟨by omega, ?_⟩
      rcases q6 with z | z
      · exact Or.inl (by omega)
      · rcases d2 with y2 | y2
        · exact Or.inl (by omega)
        · exact Or.inr (by omega)
    · have hi0 : i = 0 := by omega
      have e1 := hy0 hi0
      have e2 := hr0 hi0
      subst e1
      have e3 : R * b - t * i = 0 := by rw [e2, hi0]; simp
      rw [e3]
      refine ⟨by omega, ?_⟩
      rcases q6 with z | z
      · exact Or.inl (by omega)
      · exact Or.inr z
theorem ri_neg {c : Nat → Int} {t b : Int} {p d : Nat} (h : ∀ m, li_I A fr to (fun k => c k * b - t) D cb ta (it_F (fun v => fr (cb v).toNatClampNeg) m p)) (hd : 1 ≤ d) (e : it_F (fun v => fr (cb v).toNatClampNeg) d p = p) : wk_W (ga_G A fr to c) d p p (rw_F c cb (fun v => fr (cb v).toNatClampNeg) p d) ∧ rw_F c cb (fun v => fr (cb v).toNatClampNeg) p d * b < t * d := by
  obtain ⟨h1, h2⟩ := ri_walk h d
  obtain ⟨h3, h4⟩ := h2 hd
  rw [e] at h1 h3 h4
  refine ⟨h1, ?_⟩
  rcases h4 with z | z <;> omega
end RI
/-- how many means are below: falls with every better ring -/
def rk_F (t b : Int) : Int := (4 * t).fdiv b + (5 * t).fdiv b + (6 * t).fdiv b + (7 * t).fdiv b
theorem rk_q {q w d t b : Int} (hq : 0 < q) (hd : 0 < d) (hb : 0 < b) (h : w * b < t * d) : (q * w).fdiv d ≤ (q * t).fdiv b ∧ ((q * t) % b = 0 → (q * w).fdiv d < (q * t).fdiv b) := by
  have hlt : q * w * b < q * t * d := by
    rw [Int.mul_assoc, Int.mul_assoc]
    exact Int.mul_lt_mul_of_pos_left h hq
  rw [Int.fdiv_eq_ediv_of_nonneg _ (by omega), Int.fdiv_eq_ediv_of_nonneg _ (by omega)]
  generalize q * w = X at *
  generalize q * t = Y at *
  have a1 := Int.mul_ediv_add_emod X d
  have a2 := Int.emod_nonneg X (show d ≠ 0 by omega)
  have b1 := Int.mul_ediv_add_emod Y b
  have b2 := Int.emod_nonneg Y (show b ≠ 0 by omega)
  have b3 := Int.emod_lt_of_pos Y hb
  generalize X / d = m at *
  generalize Y / b = n at *
  -- d m <= X, X b < Y d, Y < b n + b
  have r1 : d * m * b ≤ X * b := Int.mul_le_mul_of_nonneg_right (by omega) (by omega)
  constructor
  · have r2 : Y * d ≤ (b * n + b) * d := Int.mul_le_mul_of_nonneg_right (by omega) (by omega)
    have e1 : d * m * b = m * (d * b) := by rw [Int.mul_comm d m, Int.mul_assoc]
    have e2 : (b * n + b) * d = (n + 1) * (d * b) := by
      rw [Int.add_mul, Int.add_mul, Int.one_mul, Int.mul_comm b n, Int.mul_assoc, Int.mul_comm b d]
    have r3 : m * (d * b) < (n + 1) * (d * b) := by omega
    have := Int.lt_of_mul_lt_mul_right r3 (Int.mul_nonneg (by omega) (by omega))
    omega
  · intro hz
    have e0 : Y = b * n := by omega
    have e1 : d * m * b = m * (d * b) := by rw [Int.mul_comm d m, Int.mul_assoc]
    have e2 : Y * d = n * (d * b) := by rw [e0, Int.mul_comm b n, Int.mul_assoc, Int.mul_comm b d]
    have r3 : m * (d * b) < n * (d * b) := by omega
    exact Int.lt_of_mul_lt_mul_right r3 (Int.mul_nonneg (by omega) (by omega))
theorem rk_lt {w d t b : Int} (hd : 0 < d) (hb : 1 ≤ b) (hb7 : b ≤ 7) (h : w * b < t * d) : rk_F w d + 1 ≤ rk_F t b := by
  have q4 := rk_q (q := 4) (by omega) hd (by omega) h
  have q5 := rk_q (q := 5) (by omega) hd (by omega) h
  have q6 := rk_q (q := 6) (by omega) hd (by omega) h
  have q7 := rk_q (q := 7) (by omega) hd (by omega) h
  unfold rk_F
  have hc : b = 1 ∨ b = 2 ∨ b = 3 ∨ b = 4 ∨ b = 5 ∨ b = 6 ∨ b = 7 := by omega
  have s : 4 * t % b = 0 ∨ 5 * t % b = 0 ∨ 6 * t % b = 0 ∨ 7 * t % b = 0 := by
    rcases hc with rfl | rfl | rfl | rfl | rfl | rfl | rfl <;> omega
  rcases s with z | z | z | z
  · have := q4.2 z; omega
  · have := q5.2 z; omega
  · have := q6.2 z; omega
  · have := q7.2 z; omega
theorem rk_ge {w d : Int} (hd : 0 < d) (h : -20 * d ≤ w) : -440 ≤ rk_F w d := by
  have key : ∀ q : Int, 0 < q → -20 * q ≤ (q * w).fdiv d := by
    intro q hq
    rw [Int.fdiv_eq_ediv_of_nonneg _ (by omega)]
    refine (Int.le_ediv_iff_mul_le hd).mpr ?_
    have : q * (-20 * d) ≤ q * w := Int.mul_le_mul_of_nonneg_left h (by omega)
    have e : -20 * q * d = q * (-20 * d) := by
      rw [Int.mul_comm (-20) q, Int.mul_assoc]
    omega
  have k4 := key 4 (by omega)
  have k5 := key 5 (by omega)
  have k6 := key 6 (by omega)
  have k7 := key 7 (by omega)
  unfold rk_F
  omega
end
section
/-! the component looks for rings that are ever better -/
section BR
variable {f_present f_heapSize f_top f_bottom : Int32} {a_fromOf a_toOf a_weightOf a_found a_kept a_dist a_isLow a_times a_queue a_queued a_price a_heap a_heapPlace a_group a_badGroup a_cameBy a_table a_table2 a_byCount : Nat → Int32} {A : Nat → Prop} {fr to : Nat → Nat} {c : Nat → Int}
theorem xs_betterRing (hg : xg_I f_present a_fromOf a_toOf a_weightOf A fr to c) {post : Int32 → SX → Prop} (hb : 1 ≤ f_bottom.toInt ∧ f_bottom.toInt ≤ 7) (ht : -140 ≤ f_top.toInt ∧ f_top.toInt ≤ 140)
    (h0 : ∀ d cb : Nat → Int32, (∀ k, k < 20 → A k → (d (to k)).toInt ≤ (d (fr k)).toInt + (c k * f_bottom.toInt - f_top.toInt)) → (∀ v, v < 7 → -100000 ≤ (d v).toInt ∧ (d v).toInt ≤ 0) → post (-1) (f_present, f_heapSize, f_top, f_bottom, a_fromOf, a_toOf, a_weightOf, a_found, a_kept, d, a_isLow, a_times, a_queue, a_queued, a_price, a_heap, a_heapPlace, a_group, a_badGroup, cb, a_table, a_table2, a_byCount))
    (h1 : ∀ (p : Nat) (d cb : Nat → Int32) (ta : Nat → Nat), p < 7 → ri_I A fr to (fun k => c k * f_bottom.toInt - f_top.toInt) (fun v => (d v).toInt) cb ta p → post (nI p) (f_present, f_heapSize, f_top, f_bottom, a_fromOf, a_toOf, a_weightOf, a_found, a_kept, d, a_isLow, a_times, a_queue, a_queued, a_price, a_heap, a_heapPlace, a_group, a_badGroup, cb, a_table, a_table2, a_byCount)) : wpX_findBetterRing post (f_present, f_heapSize, f_top, f_bottom, a_fromOf, a_toOf, a_weightOf, a_found, a_kept, a_dist, a_isLow, a_times, a_queue, a_queued, a_price, a_heap, a_heapPlace, a_group, a_badGroup, a_cameBy, a_table, a_table2, a_byCount) := by
  have hf : ∀ j, j < 20 → fr j < 7 ∧ to j < 7 := fun j hj => ⟨xg_f7 hg hj, xg_t7 hg hj⟩
  have hxb : ∀ k, k < 20 → -280 ≤ c k * f_bottom.toInt - f_top.toInt ∧ c k * f_bottom.toInt - f_top.toInt ≤ 280 ∧ -140 ≤ c k * f_bottom.toInt ∧ c k * f_bottom.toInt ≤ 140 := by
    intro k hk
    have hc := xg_c hg hk
    have := pr_bd (x := c k) (y := f_bottom.toInt) (X := 20) (Y := 7) (by omega) (by omega) (by omega) (by omega) (by omega)
    omega
  unfold wpX_findBetterRing
  refine loop_0 (σ := (Nat → Int32) × (Nat → Int32)) (fun n i z => wX_findBetterRing_2 post f_present f_heapSize f_top f_bottom n (nI i) a_fromOf a_toOf a_weightOf a_found a_kept z.1 a_isLow a_times a_queue a_queued a_price a_heap a_heapPlace a_group a_badGroup z.2 a_table a_table2 a_byCount) (fun i z => (∀ v, v < i → z.1 v = 0) ∧ (∀ v, v < i → z.2 v = -1)) 7 (a_dist, a_cameBy) ⟨fun v hv => absurd hv (Nat.not_lt_zero v), fun v hv => absurd hv (Nat.not_lt_zero v)⟩ ?_ ?_
  · intro n z hz
    obtain ⟨d0, cb0⟩ := z
    have hd0 : ∀ v, v < 7 → d0 v = 0 := hz.1
    have hc0 : ∀ v, v < 7 → cb0 v = -1 := hz.2
    refine br_t (nI_le (Nat.le_refl 7) (by decide)) ?_
    refine loop_0 (σ := Int32 × (Nat → Int32) × (Nat → Int32)) (fun n i z => wX_findBetterRing_32 post f_present f_heapSize f_top f_bottom n z.1 (nI i) a_fromOf a_toOf a_weightOf a_found a_kept z.2.1 a_isLow a_times a_queue a_queued a_price a_heap a_heapPlace a_group a_badGroup z.2.2 a_table a_table2 a_byCount) (fun i z => ∃ ta, rb_I A fr to (fun k => c k * f_bottom.toInt - f_top.toInt) i 0 (fun v => (z.2.1 v).toInt) z.2.2 ta (-1) ∧ (i = 8 → (z.1 = -1 ∧ ∀ j, j < 20 → A j → (z.2.1 (to j)).toInt ≤ (z.2.1 (fr j)).toInt + (c j * f_bottom.toInt - f_top.toInt)) ∨ ∃ v, v < 7 ∧ z.1 = nI v ∧ 160 ≤ ta v)) 8 (-1, d0, cb0) ⟨fun _ => 19, rb_0 hf (fun v hv => by show (d0 v).toInt = 0; rw [hd0 v hv]; decide) hc0, fun z => by omega⟩ ?_ ?_
    · intro n z hz
      obtain ⟨la, d, cb⟩ := z
      obtain ⟨ta, hI, hla⟩ := hz
      have hJ : rb_I A fr to (fun k => c k * f_bottom.toInt - f_top.toInt) 8 0 (fun v => (d v).toInt) cb ta (-1) := hI
      have hla : (la = -1 ∧ ∀ j, j < 20 → A j → (d (to j)).toInt ≤ (d (fr j)).toInt + (c j * f_bottom.toInt - f_top.toInt)) ∨ ∃ v, v < 7 ∧ la = nI v ∧ 160 ≤ ta v := hla rfl
      refine br_t (nI_lt (a := 7) (b := 8) (by omega) (by decide)) ?_
      show ∃ n161 : Nat, wX_findBetterRing_161 post f_present f_heapSize f_top f_bottom a_fromOf a_toOf a_weightOf a_found a_kept d a_isLow a_times a_queue a_queued a_price a_heap a_heapPlace a_group a_badGroup cb a_table a_table2 a_byCount n161 la 0
      rcases hla with ⟨e, hpot⟩ | ⟨v, hv, e, ht160⟩
      · subst e
        refine ⟨1, br_f (by decide) (br_t (by decide) (h0 d cb hpot fun v hv => ?_))⟩
        have := hJ.2.2.2.1 v hv
        have : -(280 * (20 * 8 + 0 : Nat) : Int) ≤ (d v).toInt ∧ (d v).toInt ≤ 0 := this
        omega
      · subst e
        have hch := rb_ch hf hJ hv ht160
        refine loop_0 (σ := Unit) (fun n i _ => wX_findBetterRing_161 post f_present f_heapSize f_top f_bottom a_fromOf a_toOf a_weightOf a_found a_kept d a_isLow a_times a_queue a_queued a_price a_heap a_heapPlace a_group a_badGroup cb a_table a_table2 a_byCount n (nI (it_F (fun v => fr (cb v).toNatClampNeg) i v)) (nI i)) (fun _ _ => True) 7 () trivial ?_ ?_
        · intro n' _ _
          exact br_t (nI_le (Nat.le_refl 7) (by decide)) (h1 _ d cb ta (hch 7 (by omega)).1 (rb_ri hf hJ hv ht160))
        · intro n' i _ hi _ ih
          have hy := hch i (by omega)
          obtain ⟨_, k', q1, q2, _⟩ := rb_li hJ hy.1 (by omega)
          have ih' := ih () trivial
          have ih' : wX_findBetterRing_161 post f_present f_heapSize f_top f_bottom a_fromOf a_toOf a_weightOf a_found a_kept d a_isLow a_times a_queue a_queued a_price a_heap a_heapPlace a_group a_badGroup cb a_table a_table2 a_byCount n' (nI (fr (cb (it_F (fun v => fr (cb v).toNatClampNeg) i v)).toNatClampNeg)) (nI (i + 1)) := ih'
          generalize it_F (fun v => fr (cb v).toNatClampNeg) i v = y at *
          have cy : (nI y).toNatClampNeg = y := nI_clamp (by omega)
          have ck : (nI k').toNatClampNeg = k' := nI_clamp (by omega)
          refine br_f (nI_ge hi (by decide)) (br_f (nI_pos (by omega)) ?_)
          rw [cy, q2]
          rw [q2, ck] at ih'
          refine And.intro (vp_in_nI hy.1 (by decide)) (And.intro (vp_in_nI q1 (by decide)) (nm_r (xg_f hg q1) (nm_r (nI_1 i) ih')))
    · intro n i z hi hz ih
      obtain ⟨la, d, cb⟩ := z
      obtain ⟨ta, hI, _⟩ := hz
      have hI : rb_I A fr to (fun k => c k * f_bottom.toInt - f_top.toInt) i 0 (fun v => (d v).toInt) cb ta (-1) := hI
      refine br_f (nI_nlt (a := 7) (b := i) (by omega) (by decide)) ?_
      refine loop_0 (σ := Int32 × (Nat → Int32) × (Nat → Int32)) (fun n' k z => wX_findBetterRing_42 post (wX_findBetterRing_32 post f_present f_heapSize f_top f_bottom n) (nI i) f_present f_heapSize f_top f_bottom n' z.1 (nI k) a_fromOf a_toOf a_weightOf a_found a_kept z.2.1 a_isLow a_times a_queue a_queued a_price a_heap a_heapPlace a_group a_badGroup z.2.2 a_table a_table2 a_byCount) (fun k z => ∃ ta, rb_I A fr to (fun k => c k * f_bottom.toInt - f_top.toInt) i k (fun v => (z.2.1 v).toInt) z.2.2 ta z.1) 20 (-1, d, cb) ⟨ta, hI⟩ ?_ ?_
      · intro n' z hz'
        obtain ⟨la', d', cb'⟩ := z
        obtain ⟨ta', hI'⟩ := hz'
        have hI' : rb_I A fr to (fun k => c k * f_bottom.toInt - f_top.toInt) i 20 (fun v => (d' v).toInt) cb' ta' la' := hI'
        refine br_t (nI_le (Nat.le_refl 20) (by decide)) (nm_r (nI_1 i) (ih (la', d', cb') ⟨ta', rb_rd hI', fun e8 => ?_⟩))
        obtain rfl : i = 7 := by omega
        exact hI'.2.2.2.2
      · intro n' k z hk hz' ih'
        obtain ⟨la', d', cb'⟩ := z
        obtain ⟨ta', hI'⟩ := hz'
        have hI' : rb_I A fr to (fun k => c k * f_bottom.toInt - f_top.toInt) i k (fun v => (d' v).toInt) cb' ta' la' := hI'
        have ik := vp_in_nI hk (show 20 < 2 ^ 31 by decide)
        have hfk := hf k hk
        have hx := hxb k hk
        have cf : (nI (fr k)).toNatClampNeg = fr k := nI_clamp (by omega)
        have ct : (nI (to k)).toNatClampNeg = to k := nI_clamp (by omega)
        have hDf : -(280 * (20 * i + k : Nat) : Int) ≤ (d' (fr k)).toInt ∧ (d' (fr k)).toInt ≤ 0 := hI'.2.2.2.1 (fr k) hfk.1
        have m1 : (a_weightOf (nI k).toNatClampNeg * f_bottom).toInt = c k * f_bottom.toInt := ia_mul (xg_w hg hk) rfl (by omega) (by omega)
        have m2 : (a_weightOf (nI k).toNatClampNeg * f_bottom - f_top).toInt = c k * f_bottom.toInt - f_top.toInt := ia_sub m1 rfl (by omega) (by omega)
        have m3 : (d' (fr k) + (a_weightOf (nI k).toNatClampNeg * f_bottom - f_top)).toInt = (d' (fr k)).toInt + (c k * f_bottom.toInt - f_top.toInt) := ia_add rfl m2 (by omega) (by omega)
        show wX_findBetterRing_42 post (wX_findBetterRing_32 post f_present f_heapSize f_top f_bottom n) (nI i) f_present f_heapSize f_top f_bottom (n' + 1) la' (nI k) a_fromOf a_toOf a_weightOf a_found a_kept d' a_isLow a_times a_queue a_queued a_price a_heap a_heapPlace a_group a_badGroup cb' a_table a_table2 a_byCount
        refine br_f (nI_ge hk (by decide)) (And.intro ik (nm_e ?_))
        refine xs_has hg hk (fun hA => br_f (by decide) ?_) (fun hA => br_t rfl (nm_r (nI_1 k) (ih' (la', d', cb') ⟨ta', rb_no hk hI' fun z => absurd z hA⟩)))
        rw [xg_f hg hk, xg_t hg hk, cf, ct]
        refine And.intro ik (And.intro (vp_in_nI hfk.1 (by decide)) (And.intro ik (And.intro (vp_in_nI hfk.2 (by decide)) ?_)))
        refine ib_le (d' (to k)).toInt ((d' (fr k)).toInt + (c k * f_bottom.toInt - f_top.toInt)) (fun hle => nm_r (nI_1 k) (ih' (la', d', cb') ⟨ta', rb_no hk hI' fun _ => hle⟩)) (fun hlt => ?_) rfl m3
        refine And.intro ik (And.intro ik (And.intro (vp_in_nI hfk.1 (by decide)) (And.intro (vp_in_nI hfk.2 (by decide)) (nm_e (And.intro ik (And.intro (vp_in_nI hfk.2 (by decide)) (nm_r (e' := upd cb' (to k) (nI k)) (by rw [nb_by k (by omega)]) (And.intro ik (nm_e (nm_r (nI_1 k) (ih' (nI (to k), _, upd cb' (to k) (nI k)) ⟨_, rb_yes hf ⟨hx.1, hx.2.1⟩ hk hI' hA hlt ?_ ?_ pk_us (fun j hj => pk_un hj)⟩)))))))))))
        · exact tb_us.trans m3
        · intro j hj; exact tb_un hj
  · intro n i z hi hz ih
    obtain ⟨d0, cb0⟩ := z
    have hd0 : ∀ v, v < i → d0 v = 0 := hz.1
    have hc0 : ∀ v, v < i → cb0 v = -1 := hz.2
    have ii := vp_in_nI hi (show 7 < 2 ^ 31 by decide)
    refine br_f (nI_ge hi (by decide)) (And.intro ii (nm_r (up_i rfl (by omega) rfl) (And.intro ii (nm_r (up_i rfl (by omega) nb_m1') (nm_r (nI_1 i) (ih (upd d0 i 0, upd cb0 i (-1)) ⟨fun v hv => ?_, fun v hv => ?_⟩))))))
    · show upd d0 i 0 v = 0
      by_cases e : v = i
      · rw [e, pk_us]
      · rw [pk_un e]; exact hd0 v (by omega)
    · show upd cb0 i (-1) v = -1
      by_cases e : v = i
      · rw [e, pk_us]
      · rw [pk_un e]; exact hc0 v (by omega)
/-- prices on all arcs: no closed walk is below the mean -/
theorem rg_pot {t b : Int} {D : Nat → Int} (h : ∀ k, k < 20 → A k → D (to k) ≤ D (fr k) + (c k * b - t)) : ∀ n d w, wk_W (ga_G A fr to c) n d d w → t * n ≤ w * b := by
  intro n d w hW
  have hs := sg_to (t := t) (b := b) _ _ _ _ hW
  have := pt_w (G := sg_G (ga_G A fr to c) t b) (s := d) (t := d) (D := D) (fun a e x ⟨w, ⟨k, hk, hA, e1, e2, e3⟩, ex⟩ _ _ => by
    subst e1 e2 e3 ex
    exact h k hk hA) n d d _ hs (rc_0 d) (rc_0 d)
  omega
theorem xs_ringSum (hg : xg_I f_present a_fromOf a_toOf a_weightOf A fr to c) {post : Int32 → SX → Prop} {J28 : Int32 → Int32 → Int32 → Int32 → Int32 → Int32 → (Nat → Int32) → (Nat → Int32) → (Nat → Int32) → (Nat → Int32) → (Nat → Int32) → (Nat → Int32) → (Nat → Int32) → (Nat → Int32) → (Nat → Int32) → (Nat → Int32) → (Nat → Int32) → (Nat → Int32) → (Nat → Int32) → (Nat → Int32) → (Nat → Int32) → (Nat → Int32) → (Nat → Int32) → (Nat → Int32) → (Nat → Int32) → Prop} {x2 x3 : Int32} {p : Nat} {ta : Nat → Nat} (hp : p < 7) (hr : ri_I A fr to (fun k => c k * f_bottom.toInt - f_top.toInt) (fun v => (a_dist v).toInt) a_cameBy ta p)
    (h : ∀ (w : Int32) (d : Nat), 1 ≤ d → d ≤ 7 → wk_W (ga_G A fr to c) d p p w.toInt → w.toInt * f_bottom.toInt < f_top.toInt * d → wpX_findBetterRing (fun r_31 u => match u with | (f_present_8, f_heapSize_8, f_top_8, f_bottom_8, a_fromOf_8, a_toOf_8, a_weightOf_8, a_found_8, a_kept_8, a_dist_8, a_isLow_8, a_times_8, a_queue_8, a_queued_8, a_price_8, a_heap_8, a_heapPlace_8, a_group_8, a_badGroup_8, a_cameBy_8, a_table_8, a_table2_8, a_byCount_8) => ∀ x3_55 : Int32, x3_55 = x3 + 1 → J28 r_31 x3_55 f_present_8 f_heapSize_8 f_top_8 f_bottom_8 a_fromOf_8 a_toOf_8 a_weightOf_8 a_found_8 a_kept_8 a_dist_8 a_isLow_8 a_times_8 a_queue_8 a_queued_8 a_price_8 a_heap_8 a_heapPlace_8 a_group_8 a_badGroup_8 a_cameBy_8 a_table_8 a_table2_8 a_byCount_8) (f_present, f_heapSize, w, nI d, a_fromOf, a_toOf, a_weightOf, a_found, a_kept, a_dist, a_isLow, a_times, a_queue, a_queued, a_price, a_heap, a_heapPlace, a_group, a_badGroup, a_cameBy, a_table, a_table2, a_byCount)) : ∃ n51 : Nat, wX_findMeanByRings_51 post J28 (nI p) x2 x3 f_present f_heapSize f_top f_bottom a_fromOf a_toOf a_weightOf a_found a_kept a_dist a_isLow a_times a_queue a_queued a_price a_heap a_heapPlace a_group a_badGroup a_cameBy a_table a_table2 a_byCount n51 0 0 (nI p) 1 := by
  obtain ⟨hli, d, hd1, hd7, hper, hmin⟩ := hr
  have hw := xg_20 hg
  have hneg := ri_neg hli hd1 hper
  have hwk := fun i => (ri_walk hli i).1
  have hrb : ∀ i, i ≤ 7 → -140 ≤ rw_F c a_cameBy (fun v => fr (a_cameBy v).toNatClampNeg) p i ∧ rw_F c a_cameBy (fun v => fr (a_cameBy v).toNatClampNeg) p i ≤ 140 := by
    intro i hi
    have e1 := wk_le (C := 20) (fun a b w g => (hw a b w g).2) _ _ _ _ (hwk i)
    have e2 := wk_ge (C := 20) (fun a b w g => (hw a b w g).1) _ _ _ _ (hwk i)
    omega
  have key := loop_0 (fun n i z => wX_findMeanByRings_51 post J28 (nI p) x2 x3 f_present f_heapSize f_top f_bottom a_fromOf a_toOf a_weightOf a_found a_kept a_dist a_isLow a_times a_queue a_queued a_price a_heap a_heapPlace a_group a_badGroup a_cameBy a_table a_table2 a_byCount n z (nI i) (nI (it_F (fun v => fr (a_cameBy v).toNatClampNeg) i p)) (if i = d then 0 else 1)) (fun i z => z.toInt = rw_F c a_cameBy (fun v => fr (a_cameBy v).toNatClampNeg) p i) d 0 (show (0 : Int32).toInt = 0 by decide) ?_ ?_
  · obtain ⟨n, hn⟩ := key
    refine ⟨n, ?_⟩
    have hn : wX_findMeanByRings_51 post J28 (nI p) x2 x3 f_present f_heapSize f_top f_bottom a_fromOf a_toOf a_weightOf a_found a_kept a_dist a_isLow a_times a_queue a_queued a_price a_heap a_heapPlace a_group a_badGroup a_cameBy a_table a_table2 a_byCount n 0 (nI 0) (nI p) (if 0 = d then 0 else 1) := hn
    rw [if_neg (by omega)] at hn
    exact hn
  · intro n z hz
    have hz : z.toInt = rw_F c a_cameBy (fun v => fr (a_cameBy v).toNatClampNeg) p d := hz
    show wX_findMeanByRings_51 post J28 (nI p) x2 x3 f_present f_heapSize f_top f_bottom a_fromOf a_toOf a_weightOf a_found a_kept a_dist a_isLow a_times a_queue a_queued a_price a_heap a_heapPlace a_group a_badGroup a_cameBy a_table a_table2 a_byCount (n + 1) z (nI d) (nI (it_F (fun v => fr (a_cameBy v).toNatClampNeg) d p)) (if d = d then 0 else 1)
    rw [if_pos rfl]
    refine br_t rfl (h z d hd1 hd7 ?_ ?_)
    · rw [hz]; exact hneg.1
    · rw [hz]; exact hneg.2
  · intro n i z hi hz ih
    have hz : z.toInt = rw_F c a_cameBy (fun v => fr (a_cameBy v).toNatClampNeg) p i := hz
    show wX_findMeanByRings_51 post J28 (nI p) x2 x3 f_present f_heapSize f_top f_bottom a_fromOf a_toOf a_weightOf a_found a_kept a_dist a_isLow a_times a_queue a_queued a_price a_heap a_heapPlace a_group a_badGroup a_cameBy a_table a_table2 a_byCount (n + 1) z (nI i) (nI (it_F (fun v => fr (a_cameBy v).toNatClampNeg) i p)) (if i = d then 0 else 1)
    rw [if_neg (by omega)]
    have hb1 := hrb (i + 1) (by omega)
    have hb1 : -140 ≤ rw_F c a_cameBy (fun v => fr (a_cameBy v).toNatClampNeg) p i + c (a_cameBy (it_F (fun v => fr (a_cameBy v).toNatClampNeg) i p)).toNatClampNeg ∧ rw_F c a_cameBy (fun v => fr (a_cameBy v).toNatClampNeg) p i + c (a_cameBy (it_F (fun v => fr (a_cameBy v).toNatClampNeg) i p)).toNatClampNeg ≤ 140 := hb1
    have hi1 : ∀ z' : Int32, z'.toInt = rw_F c a_cameBy (fun v => fr (a_cameBy v).toNatClampNeg) p i + c (a_cameBy (it_F (fun v => fr (a_cameBy v).toNatClampNeg) i p)).toNatClampNeg → wX_findMeanByRings_51 post J28 (nI p) x2 x3 f_present f_heapSize f_top f_bottom a_fromOf a_toOf a_weightOf a_found a_kept a_dist a_isLow a_times a_queue a_queued a_price a_heap a_heapPlace a_group a_badGroup a_cameBy a_table a_table2 a_byCount n z' (nI (i + 1)) (nI (fr (a_cameBy (it_F (fun v => fr (a_cameBy v).toNatClampNeg) i p)).toNatClampNeg)) (if i + 1 = d then 0 else 1) := fun z' hz' => ih z' hz'
    have hyes : fr (a_cameBy (it_F (fun v => fr (a_cameBy v).toNatClampNeg) i p)).toNatClampNeg = p → i + 1 = d := by
      intro e
      refine Classical.byContradiction fun hne => ?_
      exact hmin (i + 1) (by omega) (by omega) e
    have hno : i + 1 = d → fr (a_cameBy (it_F (fun v => fr (a_cameBy v).toNatClampNeg) i p)).toNatClampNeg = p := by
      intro e
      have := hper
      rw [← e] at this
      exact this
    obtain ⟨hy, k', q1, q2, _⟩ := hli i
    generalize it_F (fun v => fr (a_cameBy v).toNatClampNeg) i p = y at *
    have cy : (nI y).toNatClampNeg = y := nI_clamp (by omega)
    have ck : (nI k').toNatClampNeg = k' := nI_clamp (by omega)
    rw [q2, ck] at hb1 hi1 hyes hno
    have hfk := xg_f7 hg q1
    have hsum : (z + a_weightOf (nI k').toNatClampNeg).toInt = z.toInt + c k' := ia_add rfl (xg_w hg q1) (by omega) (by omega)
    have iy := vp_in_nI hy (show 7 < 2 ^ 31 by decide)
    have ik := vp_in_nI q1 (show 20 < 2 ^ 31 by decide)
    refine br_f (by decide) ?_
    rw [cy, q2]
    refine And.intro iy (And.intro ik (nm_e (nm_r (nI_1 i) (And.intro iy (And.intro ik (nm_r (xg_f hg q1) ?_))))))
    refine pk_eq (fr k') p (fun e => ?_) (fun e => ?_)
    · have := hi1 _ (hsum.trans (by rw [hz]))
      rw [if_pos (hyes e)] at this
      exact this
    · have := hi1 _ (hsum.trans (by rw [hz]))
      rw [if_neg fun z => e (hno z)] at this
      exact this
theorem xs_meanByRings (hg : xg_I f_present a_fromOf a_toOf a_weightOf A fr to c) {post : Int32 → SX → Prop} (h0 : (∀ n d w, 1 ≤ n → ¬ wk_W (ga_G A fr to c) n d d w) → ∀ (t b : Int32) (d cb : Nat → Int32), post 0 (f_present, f_heapSize, t, b, a_fromOf, a_toOf, a_weightOf, a_found, a_kept, d, a_isLow, a_times, a_queue, a_queued, a_price, a_heap, a_heapPlace, a_group, a_badGroup, cb, a_table, a_table2, a_byCount))
    (h1 : ∀ (t b : Int32) (d cb : Nat → Int32), op_I (ga_G A fr to c) t.toInt b.toInt → b.toInt ≤ 7 → -140 ≤ t.toInt → t.toInt ≤ 140 → (∀ k, k < 20 → A k → (d (to k)).toInt ≤ (d (fr k)).toInt + (c k * b.toInt - t.toInt)) → (∀ v, v < 7 → -100000 ≤ (d v).toInt ∧ (d v).toInt ≤ 0) → post 1 (f_present, f_heapSize, t, b, a_fromOf, a_toOf, a_weightOf, a_found, a_kept, d, a_isLow, a_times, a_queue, a_queued, a_price, a_heap, a_heapPlace, a_group, a_badGroup, cb, a_table, a_table2, a_byCount)) : wpX_findMeanByRings post (f_present, f_heapSize, f_top, f_bottom, a_fromOf, a_toOf, a_weightOf, a_found, a_kept, a_dist, a_isLow, a_times, a_queue, a_queued, a_price, a_heap, a_heapPlace, a_group, a_badGroup, a_cameBy, a_table, a_table2, a_byCount) := by
  have hw := xg_20 hg
  unfold wpX_findMeanByRings
  have e21 : (21 : Int32).toInt = 21 := by decide
  have e1 : (1 : Int32).toInt = 1 := by decide
  refine xs_betterRing hg (by rw [e1]; decide) (by rw [e21]; decide) (fun d cb hpot hrng => ?_) (fun p d cb ta hp hri => ?_)
  · refine br_t (by decide) ⟨1, br_f (by decide) (br_t (by decide) (And.intro nb_n0 (h0 (fun n e w hn hW => ?_) _ _ _ _)))⟩
    have h2 := rg_pot (D := fun v => (d v).toInt) hpot n e w hW
    rw [e21, e1] at h2
    have h3 := wk_le (C := 20) (fun a b w g => (hw a b w g).2) _ _ _ _ hW
    omega
  · refine br_f (nI_pos (by omega)) ?_
    have key := loop_m (σ := Int32 × Nat × Int32 × Int32 × (Nat → Int32) × (Nat → Int32)) (fun n z => wX_findMeanByRings_28 post 1 n z.1 (nI z.2.1) f_present f_heapSize z.2.2.1 z.2.2.2.1 a_fromOf a_toOf a_weightOf a_found a_kept z.2.2.2.2.1 a_isLow a_times a_queue a_queued a_price a_heap a_heapPlace a_group a_badGroup z.2.2.2.2.2 a_table a_table2 a_byCount) (fun z => (1 ≤ z.2.2.2.1.toInt ∧ z.2.2.2.1.toInt ≤ 7) ∧ (-140 ≤ z.2.2.1.toInt ∧ z.2.2.1.toInt ≤ 140) ∧ ((z.2.1 : Int) + rk_F z.2.2.1.toInt z.2.2.2.1.toInt ≤ 462 ∧ -440 ≤ rk_F z.2.2.1.toInt z.2.2.2.1.toInt) ∧ ((z.1 = -1 ∧ (∃ (n e : Nat) (w : Int), 1 ≤ n ∧ wk_W (ga_G A fr to c) n e e w ∧ w * z.2.2.2.1.toInt = z.2.2.1.toInt * n) ∧ (∀ k, k < 20 → A k → (z.2.2.2.2.1 (to k)).toInt ≤ (z.2.2.2.2.1 (fr k)).toInt + (c k * z.2.2.2.1.toInt - z.2.2.1.toInt)) ∧ (∀ v, v < 7 → -100000 ≤ (z.2.2.2.2.1 v).toInt ∧ (z.2.2.2.2.1 v).toInt ≤ 0)) ∨ ∃ p ta, p < 7 ∧ z.1 = nI p ∧ ri_I A fr to (fun k => c k * z.2.2.2.1.toInt - z.2.2.1.toInt) (fun v => (z.2.2.2.2.1 v).toInt) z.2.2.2.2.2 ta p)) (fun z => 1000 - z.2.1) ?_ (nI p, 0, 21, 1, d, cb) ⟨?_, ?_, ?_, Or.inr ⟨p, ta, hp, rfl, hri⟩⟩
    · exact key
    · intro n z hz ih
      obtain ⟨x1, q, t, b, d, cb⟩ := z
      obtain ⟨hb, ht, hrk, hc⟩ := hz
      have hb : 1 ≤ b.toInt ∧ b.toInt ≤ 7 := hb
      have ht : -140 ≤ t.toInt ∧ t.toInt ≤ 140 := ht
      have hrk : (q : Int) + rk_F t.toInt b.toInt ≤ 462 ∧ -440 ≤ rk_F t.toInt b.toInt := hrk
      have hc : (x1 = -1 ∧ (∃ (n e : Nat) (w : Int), 1 ≤ n ∧ wk_W (ga_G A fr to c) n e e w ∧ w * b.toInt = t.toInt * n) ∧ (∀ k, k < 20 → A k → (d (to k)).toInt ≤ (d (fr k)).toInt + (c k * b.toInt - t.toInt)) ∧ (∀ v, v < 7 → -100000 ≤ (d v).toInt ∧ (d v).toInt ≤ 0)) ∨ ∃ p ta, p < 7 ∧ x1 = nI p ∧ ri_I A fr to (fun k => c k * b.toInt - t.toInt) (fun v => (d v).toInt) cb ta p := hc
      show wX_findMeanByRings_28 post 1 (n + 1) x1 (nI q) f_present f_heapSize t b a_fromOf a_toOf a_weightOf a_found a_kept d a_isLow a_times a_queue a_queued a_price a_heap a_heapPlace a_group a_badGroup cb a_table a_table2 a_byCount
      refine br_f (nI_ge (show q < 1000 by omega) (by decide)) ?_
      rcases hc with ⟨ex, hatt, hpot, hrng⟩ | ⟨p, ta, hp, ex, hri⟩
      · subst ex
        refine br_t (by decide) (And.intro nb_n1 (h1 t b d cb ⟨hb.1, hatt, fun n e w _ hW => ?_⟩ hb.2 ht.1 ht.2 hpot hrng))
        exact rg_pot (D := fun v => (d v).toInt) hpot n e w hW
      · subst ex
        refine br_f (nI_pos (by omega)) ?_
        refine xs_ringSum hg hp hri fun w m hm1 hm7 hW hlt => ?_
        have hwb1 := wk_le (C := 20) (fun a b w g => (hw a b w g).2) _ _ _ _ hW
        have hwb2 := wk_ge (C := 20) (fun a b w g => (hw a b w g).1) _ _ _ _ hW
        have hmI : (nI m).toInt = m := nI_toInt (by omega)
        have hr1 := rk_lt (w := w.toInt) (d := (m : Int)) (t := t.toInt) (b := b.toInt) (by omega) hb.1 hb.2 hlt
        have hr2 := rk_ge (w := w.toInt) (d := (m : Int)) (by omega) (by omega)
        have hb' : 1 ≤ (nI m).toInt ∧ (nI m).toInt ≤ 7 := by rw [hmI]; omega
        have ht' : -140 ≤ w.toInt ∧ w.toInt ≤ 140 := by omega
        refine xs_betterRing hg hb' ht' (fun d' cb' hpot hrng => ?_) (fun p' d' cb' ta' hp' hri' => ?_)
        · refine nm_r (nI_1 q) (ih (-1, q + 1, w, nI m, d', cb') ⟨hb', ht', ?_, Or.inl ⟨rfl, ⟨m, p, w.toInt, hm1, hW, ?_⟩, hpot, hrng⟩⟩ ?_)
          · show ((q + 1 : Nat) : Int) + rk_F w.toInt (nI m).toInt ≤ 462 ∧ -440 ≤ rk_F w.toInt (nI m).toInt
            rw [hmI]; omega
          · show w.toInt * (nI m).toInt = w.toInt * (m : Int)
            rw [hmI]
          · show 1000 - (q + 1) < 1000 - q
            omega
        · refine nm_r (nI_1 q) (ih (nI p', q + 1, w, nI m, d', cb') ⟨hb', ht', ?_, Or.inr ⟨p', ta', hp', rfl, hri'⟩⟩ ?_)
          · show ((q + 1 : Nat) : Int) + rk_F w.toInt (nI m).toInt ≤ 462 ∧ -440 ≤ rk_F w.toInt (nI m).toInt
            rw [hmI]; omega
          · show 1000 - (q + 1) < 1000 - q
            omega
    · show 1 ≤ (1 : Int32).toInt ∧ (1 : Int32).toInt ≤ 7
      rw [e1]; decide
    · show -140 ≤ (21 : Int32).toInt ∧ (21 : Int32).toInt ≤ 140
      rw [e21]; decide
    · show ((0 : Nat) : Int) + rk_F (21 : Int32).toInt (1 : Int32).toInt ≤ 462 ∧ -440 ≤ rk_F (21 : Int32).toInt (1 : Int32).toInt
      rw [e21, e1]; decide
end BR
end
section
/-! fractions in least terms; the means -/
def fr_N (t b r q : Int) : Prop := ∃ g : Int, 1 ≤ g ∧ t = r * g ∧ b = q * g ∧ Nat.Coprime r.natAbs q.natAbs
theorem fr_u {t b r q t' b' r' q' : Int} (h : fr_N t b r q) (h' : fr_N t' b' r' q') (hb : 1 ≤ b) (hb' : 1 ≤ b') (e : t * b' = t' * b) : r = r' ∧ q = q' := by
  obtain ⟨g, hg, et, eb, hc⟩ := h
  obtain ⟨g', hg', et', eb', hc'⟩ := h'
  have hq : 0 < q := by
    refine Classical.byContradiction fun z => ?_
    have : q * g ≤ 0 * g := Int.mul_le_mul_of_nonneg_right (by omega) (by omega)
    omega
  have hq' : 0 < q' := by
    refine Classical.byContradiction fun z => ?_
    have : q' * g' ≤ 0 * g' := Int.mul_le_mul_of_nonneg_right (by omega) (by omega)
    omega
  have e1 : r * q' = r' * q := by
    rw [et, eb', et', eb] at e
    have e2 : r * q' * (g * g') = r' * q * (g * g') := by
      have a1 : r * g * (q' * g') = r * q' * (g * g') := by
        rw [Int.mul_assoc, ← Int.mul_assoc g, Int.mul_comm g q', Int.mul_assoc q', ← Int.mul_assoc r]
      have a2 : r' * g' * (q * g) = r' * q * (g * g') := by
        rw [Int.mul_assoc, ← Int.mul_assoc g', Int.mul_comm g' q, Int.mul_assoc q, ← Int.mul_assoc r', Int.mul_comm g' g]
      rw [← a1, ← a2]; exact e
    have hgg : g * g' ≠ 0 := Int.mul_ne_zero (by omega) (by omega)
    exact Int.eq_of_mul_eq_mul_right hgg e2
  have e3 : r.natAbs * q'.natAbs = r'.natAbs * q.natAbs := by
    rw [← Int.natAbs_mul, ← Int.natAbs_mul, e1]
  have d1 : q.natAbs ∣ q'.natAbs := by
    refine Nat.Coprime.dvd_of_dvd_mul_left (m := r.natAbs) hc.symm ?_
    rw [e3]; exact Nat.dvd_mul_left _ _
  have d2 : q'.natAbs ∣ q.natAbs := by
    refine Nat.Coprime.dvd_of_dvd_mul_left (m := r'.natAbs) hc'.symm ?_
    rw [← e3]; exact Nat.dvd_mul_left _ _
  have e4 := Nat.dvd_antisymm d1 d2
  have e5 : q = q' := by omega
  subst e5
  exact ⟨Int.eq_of_mul_eq_mul_right (by omega) e1, rfl⟩
theorem fr_gcd {t b : Int} (hb : 1 ≤ b) : ∃ r q, fr_N t b r q ∧ t = r * (Nat.gcd t.natAbs b.natAbs : Int) ∧ b = q * (Nat.gcd t.natAbs b.natAbs : Int) ∧ 1 ≤ Nat.gcd t.natAbs b.natAbs ∧ Nat.gcd t.natAbs b.natAbs ≤ b.natAbs := by
  have hpos : 0 < Nat.gcd t.natAbs b.natAbs := Nat.gcd_pos_of_pos_right _ (by omega)
  have hdt : (Nat.gcd t.natAbs b.natAbs : Int) ∣ t := Int.ofNat_dvd_left.mpr (Nat.gcd_dvd_left _ _)
  have hdb : (Nat.gcd t.natAbs b.natAbs : Int) ∣ b := Int.ofNat_dvd_left.mpr (Nat.gcd_dvd_right _ _)
  obtain ⟨r, er⟩ := hdt
  obtain ⟨q, eq⟩ := hdb
  have hle : Nat.gcd t.natAbs b.natAbs ≤ b.natAbs := Nat.le_of_dvd (by omega) (Nat.gcd_dvd_right _ _)
  have hcop : Nat.Coprime r.natAbs q.natAbs := by
    have h1 : t.natAbs = Nat.gcd t.natAbs b.natAbs * r.natAbs := by
      have := congrArg Int.natAbs er
      rw [Int.natAbs_mul] at this
      exact this
    have h2 : b.natAbs = Nat.gcd t.natAbs b.natAbs * q.natAbs := by
      have := congrArg Int.natAbs eq
      rw [Int.natAbs_mul] at this
      exact this
    have h3 : Nat.gcd t.natAbs b.natAbs * 1 = Nat.gcd t.natAbs b.natAbs * Nat.gcd r.natAbs q.natAbs := by
      have := Nat.gcd_mul_left (Nat.gcd t.natAbs b.natAbs) r.natAbs q.natAbs
      rw [← h1, ← h2] at this
      omega
    exact (Nat.eq_of_mul_eq_mul_left hpos h3).symm
  refine ⟨r, q, ⟨(Nat.gcd t.natAbs b.natAbs : Int), by omega, by rw [Int.mul_comm]; exact er, by rw [Int.mul_comm]; exact eq, hcop⟩, by rw [Int.mul_comm]; exact er, by rw [Int.mul_comm]; exact eq, hpos, hle⟩
theorem dv_ex {x : Int32} {r : Int} {g : Nat} (hg : 1 ≤ g) (hg2 : g < 2 ^ 31) (hx : x.toInt = r * (g : Int)) : (x / nI g).toInt = r := by
  rw [Int32.toInt_div_of_ne_right x (nI g) (ni_m1 hg2), hx, nI_toInt hg2]
  exact Int.mul_tdiv_cancel r (by omega)
theorem dv_13 {post : Int32 → Prop} : ∀ (B a b : Nat), b ≤ B → a < 2 ^ 31 → b < 2 ^ 31 → 0 < Nat.gcd a b → post (nI (Nat.gcd a b)) → ∃ n, wX_divisor_13 post n (nI a) (nI b) := by
  intro B
  induction B with
  | zero =>
    intro a b hB ha hb hpos hp
    obtain rfl : b = 0 := by omega
    rw [Nat.gcd_zero_right] at hpos hp
    exact ⟨1, br_t rfl (pk_le 1 a (fun _ => hp) (fun z => by omega))⟩
  | succ B ih =>
    intro a b hB ha hb hpos hp
    by_cases h0 : b = 0
    · subst h0
      rw [Nat.gcd_zero_right] at hpos hp
      exact ⟨1, br_t rfl (pk_le 1 a (fun _ => hp) (fun z => by omega))⟩
    · have hlt := Nat.mod_lt a (show 0 < b by omega)
      have e : Nat.gcd b (a % b) = Nat.gcd a b := by
        rw [Nat.gcd_comm a b, Nat.gcd_rec b a, Nat.gcd_comm]
      obtain ⟨n, hn⟩ := ih b (a % b) (by omega) hb (by omega) (by rw [e]; exact hpos) (by rw [e]; exact hp)
      exact ⟨n + 1, br_f (nI_ne0 (by omega) hb) (And.intro (nI_ne0 (by omega) hb) (nm_r (pk_rem ha (by omega) hb) hn))⟩
theorem xs_divisor {post : Int32 → Prop} {t b : Int32} (ht : -1000 ≤ t.toInt ∧ t.toInt ≤ 1000) (hb : 1 ≤ b.toInt ∧ b.toInt ≤ 7) (h : post (nI (Nat.gcd t.toInt.natAbs b.toInt.natAbs))) : wpX_divisor post t b := by
  have eb : b = nI b.toInt.natAbs := ia_ext (by rw [nI_toInt (by omega)]; omega)
  have hpos : 0 < Nat.gcd t.toInt.natAbs b.toInt.natAbs := Nat.gcd_pos_of_pos_right _ (by omega)
  have key := dv_13 (post := post) b.toInt.natAbs t.toInt.natAbs b.toInt.natAbs (Nat.le_refl _) (by omega) (by omega) hpos h
  rw [← eb] at key
  unfold wpX_divisor
  refine ib_le 0 t.toInt (fun hle => ?_) (fun hlt => ?_)
  · have et : t = nI t.toInt.natAbs := ia_ext (by rw [nI_toInt (by omega)]; omega)
    rw [← et] at key
    exact key
  · have et : -t = nI t.toInt.natAbs := by
      apply ia_ext
      rw [nI_toInt (by omega), Int32.toInt_neg, Int.bmod_eq_of_le (by omega) (by omega)]
      omega
    exact nm_r et key
theorem dv_rem {x : Int32} {i : Nat} (hi : i < 2 ^ 31) : (x - x / nI i * nI i) = 0 ↔ i ∣ x.toInt.natAbs := by
  have e1 := rem_toInt x (nI i)
  rw [nI_toInt hi] at e1
  rw [← Int32.toInt_inj, e1]
  have e0 : (0 : Int32).toInt = 0 := by decide
  rw [e0, ← Int.ofNat_dvd_left]
  exact ⟨Int.dvd_of_tmod_eq_zero, Int.tmod_eq_zero_of_dvd⟩
theorem ys_divisor {f_top f_bottom f_ringPoints : Int32} {a_there a_froms a_tos a_weights a_walks a_ways : Nat → Int32} {post : Int32 → Prop} (hb : 1 ≤ f_bottom.toInt ∧ f_bottom.toInt ≤ 7) (h : post (nI (Nat.gcd f_top.toInt.natAbs f_bottom.toInt.natAbs))) : wpY_divisor post (f_top, f_bottom, f_ringPoints, a_there, a_froms, a_tos, a_weights, a_walks, a_ways) := by
  unfold wpY_divisor
  have key := pk_loop (fun n i x => wY_divisor_4 post f_top f_bottom f_ringPoints a_there a_froms a_tos a_weights a_walks a_ways n x (nI i)) (fun i x => 2 ≤ i ∧ ∃ g, x = nI g ∧ 1 ≤ g ∧ g ≤ 7 ∧ g ∣ f_bottom.toInt.natAbs ∧ g ∣ f_top.toInt.natAbs ∧ ∀ d, 2 ≤ d → d < i → d ∣ f_bottom.toInt.natAbs → d ∣ f_top.toInt.natAbs → d ≤ g) 8 2 1 (by omega) ⟨by omega, 1, rfl, by omega, by omega, Nat.one_dvd _, Nat.one_dvd _, fun d h1 h2 => by omega⟩ ?_ ?_
  · exact key
  · intro n x ⟨_, g, ex, h1, h7, d1, d2, hmax⟩
    subst ex
    refine br_t (nI_le (Nat.le_refl 8) (by decide)) ?_
    have hdg : g ∣ Nat.gcd f_top.toInt.natAbs f_bottom.toInt.natAbs := Nat.dvd_gcd d2 d1
    have hpos : 0 < Nat.gcd f_top.toInt.natAbs f_bottom.toInt.natAbs := Nat.gcd_pos_of_pos_right _ (by omega)
    have hle : Nat.gcd f_top.toInt.natAbs f_bottom.toInt.natAbs ≤ f_bottom.toInt.natAbs := Nat.le_of_dvd (by omega) (Nat.gcd_dvd_right _ _)
    have hgle := Nat.le_of_dvd hpos hdg
    have e : g = Nat.gcd f_top.toInt.natAbs f_bottom.toInt.natAbs := by
      by_cases h2 : 2 ≤ Nat.gcd f_top.toInt.natAbs f_bottom.toInt.natAbs
      · have := hmax _ h2 (by omega) (Nat.gcd_dvd_right _ _) (Nat.gcd_dvd_left _ _)
        omega
      · omega
    rw [e]; exact h
  · intro n i x hi ⟨hi2, g, ex, h1, h7, d1, d2, hmax⟩ ih
    subst ex
    have ine := nI_ne0 (n := i) (by omega) (by omega)
    have skip : ¬ (i ∣ f_bottom.toInt.natAbs ∧ i ∣ f_top.toInt.natAbs ∧ g < i) → wY_divisor_4 post f_top f_bottom f_ringPoints a_there a_froms a_tos a_weights a_walks a_ways n (nI g) (nI (i + 1)) := by
      intro hn
      refine ih (nI g) ⟨by omega, g, rfl, h1, h7, d1, d2, fun d q1 q2 q3 q4 => ?_⟩
      by_cases e : d = i
      · subst e
        refine Classical.byContradiction fun z => hn ⟨q3, q4, by omega⟩
      · exact hmax d q1 (by omega) q3 q4
    refine br_f (nI_ge hi (by decide)) (And.intro ine (br_c (fun hz => And.intro ine (br_c (fun hz2 => ?_) (fun hz2 => nm_r (nI_1 i) (skip fun z => hz2 ((dv_rem (by omega)).mpr z.2.1))))) (fun hz => nm_r (nI_1 i) (skip fun z => hz ((dv_rem (by omega)).mpr z.1)))))
    have q1 := (dv_rem (show i < 2 ^ 31 by omega)).mp hz
    have q2 := (dv_rem (show i < 2 ^ 31 by omega)).mp hz2
    refine pk_le i g (fun hle => nm_r (nI_1 i) (skip fun z => by omega)) (fun hlt => nm_r (nI_1 i) (ih (nI i) ⟨by omega, i, rfl, by omega, by omega, q1, q2, fun d r1 r2 _ _ => by omega⟩))
/-- the two answers of the least mean: whether there is none, or the fraction in least terms -/
def mm_I (G : Nat → Nat → Int → Prop) (r q : Int32) : Prop :=
  ((∀ n d w, 1 ≤ n → ¬ wk_W G n d d w) ∧ r = -3000 ∧ q = -3000) ∨ ∃ t b, op_I G t b ∧ fr_N t b r.toInt q.toInt
theorem mm_u {G : Nat → Nat → Int → Prop} {r q r' q' : Int32} (h : mm_I G r q) (h' : mm_I G r' q') : r = r' ∧ q = q' := by
  rcases h with ⟨h1, h2, h3⟩ | ⟨t, b, ho, hf⟩
  · rcases h' with ⟨_, k2, k3⟩ | ⟨t', b', ho', _⟩
    · exact ⟨h2.trans k2.symm, h3.trans k3.symm⟩
    · obtain ⟨_, ⟨n, d, w, hn, hW, _⟩, _⟩ := ho'
      exact absurd hW (h1 n d w hn)
  · rcases h' with ⟨k1, _⟩ | ⟨t', b', ho', hf'⟩
    · obtain ⟨_, ⟨n, d, w, hn, hW, _⟩, _⟩ := ho
      exact absurd hW (k1 n d w hn)
    · obtain ⟨e1, e2⟩ := fr_u hf hf' ho.1 ho'.1 (op_u ho ho')
      exact ⟨ia_ext e1, ia_ext e2⟩
section MX
variable {f_present f_heapSize f_top f_bottom : Int32} {a_fromOf a_toOf a_weightOf a_found a_kept a_dist a_isLow a_times a_queue a_queued a_price a_heap a_heapPlace a_group a_badGroup a_cameBy a_table a_table2 a_byCount : Nat → Int32} {A : Nat → Prop} {fr to : Nat → Nat} {c : Nat → Int}
theorem xs_findMean (hg : xg_I f_present a_fromOf a_toOf a_weightOf A fr to c) {post : Int32 → SX → Prop} {e : Nat} (he : e < 2) (h0 : (∀ n d w, 1 ≤ n → ¬ wk_W (ga_G A fr to c) n d d w) → ∀ (t b : Int32) (d cb T : Nat → Int32), post 0 (f_present, f_heapSize, t, b, a_fromOf, a_toOf, a_weightOf, a_found, a_kept, d, a_isLow, a_times, a_queue, a_queued, a_price, a_heap, a_heapPlace, a_group, a_badGroup, cb, a_table, a_table2, T)) (h1 : ∀ (t b : Int32) (d cb T : Nat → Int32), op_I (ga_G A fr to c) t.toInt b.toInt → b.toInt ≤ 7 → -280 ≤ t.toInt → t.toInt ≤ 280 → post 1 (f_present, f_heapSize, t, b, a_fromOf, a_toOf, a_weightOf, a_found, a_kept, d, a_isLow, a_times, a_queue, a_queued, a_price, a_heap, a_heapPlace, a_group, a_badGroup, cb, a_table, a_table2, T)) : wpX_findMean post (f_present, f_heapSize, f_top, f_bottom, a_fromOf, a_toOf, a_weightOf, a_found, a_kept, a_dist, a_isLow, a_times, a_queue, a_queued, a_price, a_heap, a_heapPlace, a_group, a_badGroup, a_cameBy, a_table, a_table2, a_byCount) (nI e) := by
  unfold wpX_findMean
  refine pk_eq e 0 (fun _ => ?_) (fun _ => ?_)
  · exact xs_meanByCounts hg (fun hn t b T => And.intro nb_n0 (h0 hn t b _ _ T)) (fun t b T q1 q2 q3 q4 => And.intro nb_n1 (h1 t b _ _ T q1 q2 q3 q4))
  · exact xs_meanByRings hg (fun hn t b d cb => And.intro nb_n0 (h0 hn t b d cb _)) (fun t b d cb q1 q2 q3 q4 _ _ => And.intro nb_n1 (h1 t b d cb _ q1 q2 (by omega) (by omega)))
theorem xs_meanTop (hg : xg_I f_present a_fromOf a_toOf a_weightOf A fr to c) {post : Int32 → SX → Prop} {e : Nat} (he : e < 2) (h : ∀ (r q t b : Int32) (d cb T : Nat → Int32), mm_I (ga_G A fr to c) r q → post r (f_present, f_heapSize, t, b, a_fromOf, a_toOf, a_weightOf, a_found, a_kept, d, a_isLow, a_times, a_queue, a_queued, a_price, a_heap, a_heapPlace, a_group, a_badGroup, cb, a_table, a_table2, T)) : wpX_meanTop post (f_present, f_heapSize, f_top, f_bottom, a_fromOf, a_toOf, a_weightOf, a_found, a_kept, a_dist, a_isLow, a_times, a_queue, a_queued, a_price, a_heap, a_heapPlace, a_group, a_badGroup, a_cameBy, a_table, a_table2, a_byCount) (nI e) := by
  unfold wpX_meanTop
  refine br_f (nI_pos (by omega)) (br_t (nI_le (show e ≤ 1 by omega) (by decide)) ?_)
  refine xs_findMean hg he (fun hn t b d cb T => br_t rfl (h _ (-3000) t b d cb T (Or.inl ⟨hn, rfl, rfl⟩))) (fun t b d cb T q1 q2 q3 q4 => br_f (by decide) ?_)
  refine xs_divisor ⟨by omega, by omega⟩ ⟨q1.1, q2⟩ ?_
  have h7b : b.toInt.natAbs ≤ 7 := by have := q1.1; omega
  obtain ⟨r, q, hf, et, eb, hg1, hg2⟩ := fr_gcd (t := t.toInt) q1.1
  have hgb : Nat.gcd t.toInt.natAbs b.toInt.natAbs < 2 ^ 31 := by omega
  refine br_f (nI_nle hg1 hgb) (And.intro (nI_ne0 hg1 hgb) (h _ (b / nI (Nat.gcd t.toInt.natAbs b.toInt.natAbs)) t b d cb T (Or.inr ⟨_, _, q1, ?_⟩)))
  rw [dv_ex hg1 hgb et, dv_ex hg1 hgb eb]
  exact hf
theorem xs_meanBottom (hg : xg_I f_present a_fromOf a_toOf a_weightOf A fr to c) {post : Int32 → SX → Prop} {e : Nat} (he : e < 2) (h : ∀ (r q t b : Int32) (d cb T : Nat → Int32), mm_I (ga_G A fr to c) r q → post q (f_present, f_heapSize, t, b, a_fromOf, a_toOf, a_weightOf, a_found, a_kept, d, a_isLow, a_times, a_queue, a_queued, a_price, a_heap, a_heapPlace, a_group, a_badGroup, cb, a_table, a_table2, T)) : wpX_meanBottom post (f_present, f_heapSize, f_top, f_bottom, a_fromOf, a_toOf, a_weightOf, a_found, a_kept, a_dist, a_isLow, a_times, a_queue, a_queued, a_price, a_heap, a_heapPlace, a_group, a_badGroup, a_cameBy, a_table, a_table2, a_byCount) (nI e) := by
  unfold wpX_meanBottom
  refine br_f (nI_pos (by omega)) (br_t (nI_le (show e ≤ 1 by omega) (by decide)) ?_)
  refine xs_findMean hg he (fun hn t b d cb T => br_t rfl (h (-3000) _ t b d cb T (Or.inl ⟨hn, rfl, rfl⟩))) (fun t b d cb T q1 q2 q3 q4 => br_f (by decide) ?_)
  refine xs_divisor ⟨by omega, by omega⟩ ⟨q1.1, q2⟩ ?_
  have h7b : b.toInt.natAbs ≤ 7 := by have := q1.1; omega
  obtain ⟨r, q, hf, et, eb, hg1, hg2⟩ := fr_gcd (t := t.toInt) q1.1
  have hgb : Nat.gcd t.toInt.natAbs b.toInt.natAbs < 2 ^ 31 := by omega
  refine br_f (nI_nle hg1 hgb) (And.intro (nI_ne0 hg1 hgb) (h (t / nI (Nat.gcd t.toInt.natAbs b.toInt.natAbs)) _ t b d cb T (Or.inr ⟨_, _, q1, ?_⟩)))
  rw [dv_ex hg1 hgb et, dv_ex hg1 hgb eb]
  exact hf
end MX
section MY
variable {f_top f_bottom f_ringPoints : Int32} {a_there a_froms a_tos a_weights a_walks a_ways : Nat → Int32} {A : Nat → Prop} {fr to : Nat → Nat} {c : Nat → Int}
theorem ys_meanTop (hg : yg_I a_there a_froms a_tos a_weights A fr to c) {post : Int32 → SY → Prop} {e : Nat} (he : e < 2) (h : ∀ (r q t b rp : Int32) (W : Nat → Int32), mm_I (ga_G A fr to c) r q → post r (t, b, rp, a_there, a_froms, a_tos, a_weights, a_walks, W)) : wpY_meanTop post (f_top, f_bottom, f_ringPoints, a_there, a_froms, a_tos, a_weights, a_walks, a_ways) (nI e) := by
  unfold wpY_meanTop
  refine br_f (nI_pos (by omega)) (br_t (nI_le (show e ≤ 1 by omega) (by decide)) ?_)
  refine ys_rings hg fun t b rp W hr => ?_
  refine ib_eq t.toInt (-3000) (fun et => h _ (-3000) t b rp W ?_) (fun et => ?_)
  · rcases hr with ⟨_, _, hn⟩ | ⟨_, _, z, _⟩
    · exact Or.inl ⟨hn, rfl, rfl⟩
    · omega
  · rcases hr with ⟨z, _⟩ | ⟨q1, q2, q3, q4, _⟩
    · exact absurd z et
    · refine ys_divisor ⟨q1.1, q2⟩ ?_
      have h7b : b.toInt.natAbs ≤ 7 := by have := q1.1; omega
      obtain ⟨r, q, hf, et', eb, hg1, hg2⟩ := fr_gcd (t := t.toInt) q1.1
      have hgb : Nat.gcd t.toInt.natAbs b.toInt.natAbs < 2 ^ 31 := by omega
      refine And.intro (nI_ne0 hg1 hgb) (h _ (b / nI (Nat.gcd t.toInt.natAbs b.toInt.natAbs)) t b rp W (Or.inr ⟨_, _, q1, ?_⟩))
      rw [dv_ex hg1 hgb et', dv_ex hg1 hgb eb]
      exact hf
theorem ys_meanBottom (hg : yg_I a_there a_froms a_tos a_weights A fr to c) {post : Int32 → SY → Prop} {e : Nat} (he : e < 2) (h : ∀ (r q t b rp : Int32) (W : Nat → Int32), mm_I (ga_G A fr to c) r q → post q (t, b, rp, a_there, a_froms, a_tos, a_weights, a_walks, W)) : wpY_meanBottom post (f_top, f_bottom, f_ringPoints, a_there, a_froms, a_tos, a_weights, a_walks, a_ways) (nI e) := by
  unfold wpY_meanBottom
  refine br_f (nI_pos (by omega)) (br_t (nI_le (show e ≤ 1 by omega) (by decide)) ?_)
  refine ys_rings hg fun t b rp W hr => ?_
  refine ib_eq t.toInt (-3000) (fun et => h (-3000) _ t b rp W ?_) (fun et => ?_)
  · rcases hr with ⟨_, _, hn⟩ | ⟨_, _, z, _⟩
    · exact Or.inl ⟨hn, rfl, rfl⟩
    · omega
  · rcases hr with ⟨z, _⟩ | ⟨q1, q2, q3, q4, _⟩
    · exact absurd z et
    · refine ys_divisor ⟨q1.1, q2⟩ ?_
      have h7b : b.toInt.natAbs ≤ 7 := by have := q1.1; omega
      obtain ⟨r, q, hf, et', eb, hg1, hg2⟩ := fr_gcd (t := t.toInt) q1.1
      have hgb : Nat.gcd t.toInt.natAbs b.toInt.natAbs < 2 ^ 31 := by omega
      refine And.intro (nI_ne0 hg1 hgb) (h (t / nI (Nat.gcd t.toInt.natAbs b.toInt.natAbs)) _ t b rp W (Or.inr ⟨_, _, q1, ?_⟩))
      rw [dv_ex hg1 hgb et', dv_ex hg1 hgb eb]
      exact hf
end MY
theorem me_c (v : Int32) : (∃ p, p < 2 ∧ v = nI p) ∨ (v < 0 ∨ (¬ v < 0 ∧ ¬ v ≤ 1)) := by
  rcases pk_ix v (n := 2) (by decide) with h | h | h
  · exact Or.inr (Or.inl h)
  · refine Or.inr (Or.inr ?_)
    rw [Int32.le_iff_toInt_le, nI_toInt (by decide)] at h
    rw [Int32.lt_iff_toInt_lt, Int32.le_iff_toInt_le]
    have e0 : (0 : Int32).toInt = 0 := by decide
    have e1 : (1 : Int32).toInt = 1 := by decide
    omega
  · exact Or.inl h
theorem i_vc_meanTop {k : Nat} {u : SX} {v : SY} (I : i_Rel k u v) (hk : k + 4 ≤ 2048) (v1 : Int32) : wpX_meanTop (fun r u' => wpY_meanTop (fun r' v' => r' = r ∧ i_Rel (k + 4) u' v') v v1) u v1 := by
  obtain ⟨f_present, f_heapSize, f_top, f_bottom, a_fromOf, a_toOf, a_weightOf, a_found, a_kept, a_dist, a_isLow, a_times, a_queue, a_queued, a_price, a_heap, a_heapPlace, a_group, a_badGroup, a_cameBy, a_table, a_table2, a_byCount⟩ := u
  obtain ⟨f_top_1, f_bottom_1, f_ringPoints_1, a_there_1, a_froms_1, a_tos_1, a_weights_1, a_walks_1, a_ways_1⟩ := v
  have R : re_I f_present a_fromOf a_toOf a_weightOf a_there_1 a_froms_1 a_tos_1 a_weights_1 := I
  have hx := re_x R
  have hy := re_y R
  rcases me_c v1 with ⟨e, he, rfl⟩ | h1 | ⟨h1, h2⟩
  · exact xs_meanTop hx he fun r q t b d cb T hm => ys_meanTop hy he fun r' q' t' b' rp W hm' => ⟨(mm_u hm' hm).1, R⟩
  · exact br_t h1 (br_t h1 ⟨rfl, R⟩)
  · exact br_f h1 (br_f h2 (br_f h1 (br_f h2 ⟨rfl, R⟩)))
theorem i_vc_meanBottom {k : Nat} {u : SX} {v : SY} (I : i_Rel k u v) (hk : k + 4 ≤ 2048) (v1 : Int32) : wpX_meanBottom (fun r u' => wpY_meanBottom (fun r' v' => r' = r ∧ i_Rel (k + 4) u' v') v v1) u v1 := by
  obtain ⟨f_present, f_heapSize, f_top, f_bottom, a_fromOf, a_toOf, a_weightOf, a_found, a_kept, a_dist, a_isLow, a_times, a_queue, a_queued, a_price, a_heap, a_heapPlace, a_group, a_badGroup, a_cameBy, a_table, a_table2, a_byCount⟩ := u
  obtain ⟨f_top_1, f_bottom_1, f_ringPoints_1, a_there_1, a_froms_1, a_tos_1, a_weights_1, a_walks_1, a_ways_1⟩ := v
  have R : re_I f_present a_fromOf a_toOf a_weightOf a_there_1 a_froms_1 a_tos_1 a_weights_1 := I
  have hx := re_x R
  have hy := re_y R
  rcases me_c v1 with ⟨e, he, rfl⟩ | h1 | ⟨h1, h2⟩
  · exact xs_meanBottom hx he fun r q t b d cb T hm => ys_meanBottom hy he fun r' q' t' b' rp W hm' => ⟨(mm_u hm' hm).2, R⟩
  · exact br_t h1 (br_t h1 ⟨rfl, R⟩)
  · exact br_f h1 (br_f h2 (br_f h1 (br_f h2 ⟨rfl, R⟩)))
end
section
/-! calm; the points on least rings -/
section CM
variable {f_present f_heapSize f_top f_bottom : Int32} {a_fromOf a_toOf a_weightOf a_found a_kept a_dist a_isLow a_times a_queue a_queued a_price a_heap a_heapPlace a_group a_badGroup a_cameBy a_table a_table2 a_byCount : Nat → Int32} {A : Nat → Prop} {fr to : Nat → Nat} {c : Nat → Int}
theorem xs_calm (hg : xg_I f_present a_fromOf a_toOf a_weightOf A fr to c) {post : Int32 → SX → Prop} (h : ∀ (r : Int32) (hz : Int32) (f d l tm qu qd pr H P gr bd T T2 : Nat → Int32), (r = 1 ∧ ∀ p, p < 7 → ¬ wk_L (ga_G A fr to c) p p) ∨ (r = 0 ∧ ∃ p, p < 7 ∧ wk_L (ga_G A fr to c) p p) → post r (f_present, hz, f_top, f_bottom, a_fromOf, a_toOf, a_weightOf, f, a_kept, d, l, tm, qu, qd, pr, H, P, gr, bd, a_cameBy, T, T2, a_byCount)) : wpX_calm post (f_present, f_heapSize, f_top, f_bottom, a_fromOf, a_toOf, a_weightOf, a_found, a_kept, a_dist, a_isLow, a_times, a_queue, a_queued, a_price, a_heap, a_heapPlace, a_group, a_badGroup, a_cameBy, a_table, a_table2, a_byCount) := by
  unfold wpX_calm
  refine xs_solve (e := 4) hg (by omega) fun hz f d l tm qu qd pr H P gr bd T T2 hf => ?_
  refine loop_0 (fun n i x => wX_calm_9 post f_present hz f_top f_bottom a_fromOf a_toOf a_weightOf f a_kept d l tm qu qd pr H P gr bd a_cameBy T T2 a_byCount n x (nI i)) (fun i x => (x = 1 ∧ ∀ p, p < i → ¬ wk_L (ga_G A fr to c) p p) ∨ (x = 0 ∧ ∃ p, p < i ∧ wk_L (ga_G A fr to c) p p)) 7 1 (Or.inl ⟨rfl, fun p hp => absurd hp (Nat.not_lt_zero p)⟩) ?_ ?_
  · intro n x hx
    refine br_t (nI_le (Nat.le_refl 7) (by decide)) (And.intro ?_ (h x _ _ _ _ _ _ _ _ _ _ _ _ _ _ hx))
    rcases hx with ⟨e, _⟩ | ⟨e, _⟩
    · rw [e]; exact nb_n1
    · rw [e]; exact nb_n0
  · intro n p x hp hx ih
    have hv := fd_fi (fo_b hg hp) (hf p p hp hp)
    have c1 : (nI (p * 7 + p)).toNatClampNeg = p * 7 + p := nI_clamp (by omega)
    refine br_f (nI_ge hp (by decide)) ?_
    rcases hx with ⟨e, hall⟩ | ⟨e, q, hq, hl⟩
    · subst e
      refine br_f (by decide) ?_
      rw [ix_7, c1]
      refine And.intro (vp_in_nI (by omega) (by decide)) (ib_eq (f (p * 7 + p)).toInt 0 (fun e0 => nm_r (nI_1 p) (ih 1 (Or.inl ⟨rfl, fun q hq => ?_⟩))) (fun e0 => nm_r (nI_1 p) (ih 0 (Or.inr ⟨rfl, p, by omega, ?_⟩))))
      · by_cases eq : q = p
        · subst eq
          rcases hv with ⟨z, _⟩ | ⟨z, _⟩ | ⟨z, _⟩
          · omega
          · omega
          · exact z.1
        · exact hall q (by omega)
      · refine Classical.byContradiction fun hl => ?_
        have h0 : fi_D (ga_G A fr to c) p p 0 := by
          refine ⟨hl, ⟨⟨0, wk_0 p⟩, fun n w hW => ?_⟩⟩
          by_cases hneg : w < 0
          · exact absurd ⟨p, n, w, rc_0 p, hW, hneg, rc_0 p⟩ hl
          · omega
        rcases hv with ⟨_, z, _⟩ | ⟨_, _, z⟩ | ⟨z, _⟩
        · exact hl z
        · exact z 0 h0
        · exact e0 (fi_u z h0)
    · subst e
      exact br_t rfl (nm_r (nI_1 p) (ih 0 (Or.inr ⟨rfl, q, by omega, hl⟩)))
end CM
theorem i_vc_calm {k : Nat} {u : SX} {v : SY} (I : i_Rel k u v) (hk : k + 4 ≤ 2048) : wpX_calm (fun r u' => wpY_calm (fun r' v' => r' = r ∧ i_Rel (k + 4) u' v') v) u := by
  obtain ⟨f_present, f_heapSize, f_top, f_bottom, a_fromOf, a_toOf, a_weightOf, a_found, a_kept, a_dist, a_isLow, a_times, a_queue, a_queued, a_price, a_heap, a_heapPlace, a_group, a_badGroup, a_cameBy, a_table, a_table2, a_byCount⟩ := u
  obtain ⟨f_top_1, f_bottom_1, f_ringPoints_1, a_there_1, a_froms_1, a_tos_1, a_weights_1, a_walks_1, a_ways_1⟩ := v
  have R : re_I f_present a_fromOf a_toOf a_weightOf a_there_1 a_froms_1 a_tos_1 a_weights_1 := I
  have hx := re_x R
  have hy := re_y R
  refine xs_calm hx fun r hz f d l tm qu qd pr H P gr bd T T2 hr => ?_
  unfold wpY_calm
  refine ys_rings hy fun t b rp W hyr => ?_
  have low_cl : ∀ p, wk_L (ga_G (fun k => bt f_present k = true) (fun k => (a_fromOf k).toNatClampNeg) (fun k => (a_toOf k).toNatClampNeg) (fun k => (a_weightOf k).toInt)) p p → ∃ (n d : Nat) (w : Int), 1 ≤ n ∧ wk_W (ga_G (fun k => bt f_present k = true) (fun k => (a_fromOf k).toNatClampNeg) (fun k => (a_toOf k).toNatClampNeg) (fun k => (a_weightOf k).toInt)) n d d w ∧ w < 0 := by
    intro p ⟨d, n, w, _, hW, hneg, _⟩
    refine ⟨n, d, w, ?_, hW, hneg⟩
    refine Classical.byContradiction fun z => ?_
    obtain rfl : n = 0 := by omega
    have := hW.2
    omega
  refine ib_eq t.toInt (-3000) (fun et => ⟨?_, R⟩) (fun et => ib_lt t.toInt 0 (fun hlt => ⟨?_, R⟩) (fun hge => ⟨?_, R⟩))
  · rcases hyr with ⟨_, _, hn⟩ | ⟨_, _, z, _⟩
    · rcases hr with ⟨e, _⟩ | ⟨_, p, _, hl⟩
      · exact e.symm
      · obtain ⟨n, d, w, q1, q2, _⟩ := low_cl p hl
        exact absurd q2 (hn n d w q1)
    · omega
  · rcases hyr with ⟨z, _⟩ | ⟨⟨hb, ⟨n, d, w, hn, hW, e⟩, hall⟩, _⟩
    · exact absurd z et
    · rcases hr with ⟨_, hno⟩ | ⟨e', _⟩
      · have hw0 : w < 0 := by
          refine Classical.byContradiction fun z => ?_
          have r1 : 0 ≤ w * b.toInt := Int.mul_nonneg (by omega) (by omega)
          have r2 : t.toInt * n < 0 * n := Int.mul_lt_mul_of_pos_right hlt (by omega)
          omega
        have hd : d < 7 := by
          obtain ⟨m, rfl⟩ : ∃ m, n = m + 1 := ⟨n - 1, by omega⟩
          obtain ⟨_, _, _, _, g, _⟩ := hW
          exact (xg_7 hx _ _ _ g).2
        exact absurd ⟨d, n, w, rc_0 d, hW, hw0, rc_0 d⟩ (hno d hd)
      · exact e'.symm
  · rcases hyr with ⟨z, _⟩ | ⟨⟨hb, _, hall⟩, _⟩
    · exact absurd z et
    · rcases hr with ⟨e, _⟩ | ⟨_, p, _, hl⟩
      · exact e.symm
      · obtain ⟨n, d, w, q1, q2, q3⟩ := low_cl p hl
        have r1 := hall n d w q1 q2
        have r2 : 0 ≤ t.toInt * n := Int.mul_nonneg hge (by omega)
        have r3 : w * b.toInt < 0 * b.toInt := Int.mul_lt_mul_of_pos_right q3 (by omega)
        omega
/-! tight arcs -/
section TG
variable {A : Nat → Prop} {fr to : Nat → Nat} {c : Nat → Int} {t b : Int} {D : Nat → Int}
def ti_A (A : Nat → Prop) (fr to : Nat → Nat) (c : Nat → Int) (t b : Int) (D : Nat → Int) (k : Nat) : Prop := A k ∧ D (fr k) + (c k * b - t) = D (to k)
theorem ti_eq : ∀ (n a e : Nat) (w : Int), wk_W (ga_G (ti_A A fr to c t b D) fr to c) n a e w → D e = D a + (w * b - t * n) := by
  intro n
  induction n with
  | zero => intro a e w h; obtain ⟨rfl, rfl⟩ := h; simp
  | succ n ih =>
    intro a e w h
    obtain ⟨d, w1, w2, h1, ⟨k, hk, ⟨hA, ht⟩, rfl, rfl, rfl⟩, rfl⟩ := h
    have := ih _ _ _ h1
    have eS : (w1 + c k) * b - t * ((n + 1 : Nat) : Int) = (w1 * b - t * n) + (c k * b - t) := by
      rw [Int.add_mul, Int.natCast_add, Int.mul_add]
      simp
      omega
    omega
theorem ti_of (hp : ∀ k, k < 20 → A k → D (to k) ≤ D (fr k) + (c k * b - t)) : ∀ (n a e : Nat) (w : Int), wk_W (ga_G A fr to c) n a e w → D e ≤ D a + (w * b - t * n) ∧ (D e = D a + (w * b - t * n) → wk_W (ga_G (ti_A A fr to c t b D) fr to c) n a e w) := by
  intro n
  induction n with
  | zero => intro a e w h; obtain ⟨rfl, rfl⟩ := h; exact ⟨by simp, fun _ => wk_0 a⟩
  | succ n ih =>
    intro a e w h
    obtain ⟨d, w1, w2, h1, ⟨k, hk, hA, rfl, rfl, rfl⟩, rfl⟩ := h
    obtain ⟨q1, q2⟩ := ih _ _ _ h1
    have q3 := hp k hk hA
    have eS : (w1 + c k) * b - t * ((n + 1 : Nat) : Int) = (w1 * b - t * n) + (c k * b - t) := by
      rw [Int.add_mul, Int.natCast_add, Int.mul_add]
      simp
      omega
    refine ⟨by omega, fun e => ?_⟩
    exact wk_s (q2 (by omega)) ⟨k, hk, ⟨hA, by omega⟩, rfl, rfl, rfl⟩
/-- a point is on a ring of tight arcs if and only if it is on a closed walk of the least mean -/
theorem ti_ring (hG : ∀ a b w, ga_G A fr to c a b w → a < 7 ∧ b < 7) (hp : ∀ k, k < 20 → A k → D (to k) ≤ D (fr k) + (c k * b - t)) {p : Nat} : (∃ m w, 1 ≤ m ∧ m ≤ 8 ∧ wk_W (ga_G (ti_A A fr to c t b D) fr to c) m p p w) ↔ ∃ n w, 1 ≤ n ∧ wk_W (ga_G A fr to c) n p p w ∧ w * b = t * n := by
  have hm : ∀ a b' w, ga_G (ti_A A fr to c t b D) fr to c a b' w → ga_G A fr to c a b' w := ga_mono (fun k _ hb => hb.1)
  constructor
  · intro ⟨m, w, h1, _, hW⟩
    have := ti_eq _ _ _ _ hW
    exact ⟨m, w, h1, wk_mono hm _ _ _ _ hW, by omega⟩
  · intro ⟨n, w, h1, hW, e⟩
    have hT := (ti_of hp _ _ _ _ hW).2 (by omega)
    obtain ⟨n, rfl⟩ : ∃ m, n = m + 1 := ⟨n - 1, by omega⟩
    obtain ⟨y, w1, w2, g, hr, ew⟩ := wk_hd hT
    have hG' := fun a b' w g => hG a b' w (hm a b' w g)
    obtain ⟨n', w', h6, hW'⟩ := rc_6 hG' (hG' _ _ _ g).2 (rc_w hr)
    exact ⟨n' + 1, _, by omega, by omega, wk_cons g hW'⟩
end TG
section LX
variable {f_present f_heapSize f_top f_bottom : Int32} {a_fromOf a_toOf a_weightOf a_found a_kept a_dist a_isLow a_times a_queue a_queued a_price a_heap a_heapPlace a_group a_badGroup a_cameBy a_table a_table2 a_byCount : Nat → Int32} {A : Nat → Prop} {fr to : Nat → Nat} {c : Nat → Int}
theorem xs_leadsAlong (hg : xg_I f_present a_fromOf a_toOf a_weightOf A fr to c) {B : Nat → Prop} {post : Int32 → Prop} {r : Int32} {p : Nat} (hp : p < 7) (hr : ∀ k, bt r k = true ↔ k < 20 ∧ B k) (h : ∀ x : Int32, (∀ q, bt x q = true ↔ q < 7 ∧ ∃ m w, 1 ≤ m ∧ m ≤ 8 ∧ wk_W (ga_G B fr to c) m p q w) → post x) : wpX_leadsAlong post (f_present, f_heapSize, f_top, f_bottom, a_fromOf, a_toOf, a_weightOf, a_found, a_kept, a_dist, a_isLow, a_times, a_queue, a_queued, a_price, a_heap, a_heapPlace, a_group, a_badGroup, a_cameBy, a_table, a_table2, a_byCount) r (nI p) := by
  unfold wpX_leadsAlong
  refine loop_0 (fun n i x => wX_leadsAlong_5 post r (nI p) f_present f_heapSize f_top f_bottom a_fromOf a_toOf a_weightOf a_found a_kept a_dist a_isLow a_times a_queue a_queued a_price a_heap a_heapPlace a_group a_badGroup a_cameBy a_table a_table2 a_byCount n x (nI i)) (fun i x => ∀ q, bt x q = true ↔ q < 7 ∧ ∃ m w, 1 ≤ m ∧ m ≤ i ∧ wk_W (ga_G B fr to c) m p q w) 8 0 (fun q => ⟨fun z => by rw [b_0] at z; exact absurd z (by decide), fun ⟨_, m, _, h1, h2, _⟩ => by omega⟩) ?_ ?_
  · intro n x hx
    exact br_t (nI_lt (a := 7) (b := 8) (by omega) (by decide)) (h x hx)
  · intro n i x hi hx ih
    have round : ∀ F : Int32, (∀ q, q < 7 → (bt F q = true ↔ ∃ m w, (if i = 0 then m = 0 else 1 ≤ m ∧ m ≤ i) ∧ wk_W (ga_G B fr to c) m p q w)) → ∃ n29 : Nat, wX_leadsAlong_29 post (wX_leadsAlong_5 post r (nI p) f_present f_heapSize f_top f_bottom a_fromOf a_toOf a_weightOf a_found a_kept a_dist a_isLow a_times a_queue a_queued a_price a_heap a_heapPlace a_group a_badGroup a_cameBy a_table a_table2 a_byCount n) r (nI p) (nI i) F f_present f_heapSize f_top f_bottom a_fromOf a_toOf a_weightOf a_found a_kept a_dist a_isLow a_times a_queue a_queued a_price a_heap a_heapPlace a_group a_badGroup a_cameBy a_table a_table2 a_byCount n29 x 0 := by
      intro F hF
      refine loop_0 (fun n' k y => wX_leadsAlong_29 post (wX_leadsAlong_5 post r (nI p) f_present f_heapSize f_top f_bottom a_fromOf a_toOf a_weightOf a_found a_kept a_dist a_isLow a_times a_queue a_queued a_price a_heap a_heapPlace a_group a_badGroup a_cameBy a_table a_table2 a_byCount n) r (nI p) (nI i) F f_present f_heapSize f_top f_bottom a_fromOf a_toOf a_weightOf a_found a_kept a_dist a_isLow a_times a_queue a_queued a_price a_heap a_heapPlace a_group a_badGroup a_cameBy a_table a_table2 a_byCount n' y (nI k)) (fun k y => ∀ q, bt y q = true ↔ bt x q = true ∨ ∃ j, j < k ∧ B j ∧ bt F (fr j) = true ∧ to j = q) 20 x (fun q => ⟨Or.inl, fun z => z.elim id fun ⟨j, hj, _⟩ => absurd hj (Nat.not_lt_zero j)⟩) ?_ ?_
      · intro n' y hy
        refine br_t (nI_le (Nat.le_refl 20) (by decide)) (nm_r (nI_1 i) (ih y fun q => ?_))
        rw [hy q]
        constructor
        · intro z
          rcases z with z | ⟨j, hj, hB, hb, rfl⟩
          · obtain ⟨q7, m, w, h1, h2, hW⟩ := (hx q).mp z
            exact ⟨q7, m, w, h1, by omega, hW⟩
          · obtain ⟨m, w, hm, hW⟩ := (hF _ (xg_f7 hg hj)).mp hb
            refine ⟨xg_t7 hg hj, m + 1, _, by omega, ?_, wk_s hW (ga_i hj hB)⟩
            by_cases e : i = 0
            · rw [if_pos e] at hm; omega
            · rw [if_neg e] at hm; omega
        · intro ⟨q7, m, w, h1, h2, hW⟩
          by_cases e : m ≤ i
          · exact Or.inl ((hx q).mpr ⟨q7, m, w, h1, e, hW⟩)
          · obtain rfl : m = i + 1 := by omega
            obtain ⟨b, w1, w2, hW1, ⟨j, hj, hB, rfl, rfl, rfl⟩, rfl⟩ := hW
            refine Or.inr ⟨j, hj, hB, (hF _ (xg_f7 hg hj)).mpr ⟨i, w1, ?_, hW1⟩, rfl⟩
            by_cases e : i = 0
            · rw [if_pos e]; exact e
            · rw [if_neg e]; omega
      · intro n' k y hk hy ih'
        have no : ¬ (B k ∧ bt F (fr k) = true) → wX_leadsAlong_64 post (wX_leadsAlong_5 post r (nI p) f_present f_heapSize f_top f_bottom a_fromOf a_toOf a_weightOf a_found a_kept a_dist a_isLow a_times a_queue a_queued a_price a_heap a_heapPlace a_group a_badGroup a_cameBy a_table a_table2 a_byCount n) (wX_leadsAlong_29 post (wX_leadsAlong_5 post r (nI p) f_present f_heapSize f_top f_bottom a_fromOf a_toOf a_weightOf a_found a_kept a_dist a_isLow a_times a_queue a_queued a_price a_heap a_heapPlace a_group a_badGroup a_cameBy a_table a_table2 a_byCount n) r (nI p) (nI i) F f_present f_heapSize f_top f_bottom a_fromOf a_toOf a_weightOf a_found a_kept a_dist a_isLow a_times a_queue a_queued a_price a_heap a_heapPlace a_group a_badGroup a_cameBy a_table a_table2 a_byCount n') r (nI p) y (nI i) F (nI k) f_present f_heapSize f_top f_bottom a_fromOf a_toOf a_weightOf a_found a_kept a_dist a_isLow a_times a_queue a_queued a_price a_heap a_heapPlace a_group a_badGroup a_cameBy a_table a_table2 a_byCount := by
          intro hn
          refine br_t rfl (nm_r (bs_or0 y) (nm_r (nI_1 k) (ih' y fun q => ?_)))
          rw [hy q]
          refine ⟨fun z => z.imp id fun ⟨j, hj, w⟩ => ⟨j, by omega, w⟩, fun z => z.imp id fun ⟨j, hj, q1, q2, q3⟩ => ⟨j, ?_, q1, q2, q3⟩⟩
          have : j ≠ k := fun e => hn (e ▸ ⟨q1, q2⟩)
          omega
        refine br_f (nI_ge hk (by decide)) (bs_br k (fun hb => no fun z => hb ((hr k).mpr ⟨hk, z.1⟩)) (fun hb => And.intro (vp_in_nI hk (by decide)) ?_))
        refine bs_br (fr k) (fun hb2 => no fun z => hb2 z.2) (fun hb2 => br_f (by decide) (And.intro (vp_in_nI hk (by decide)) (nm_e (nm_r (nI_1 k) (ih' _ fun q => ?_))))) (xg_f hg hk) (by have := xg_f7 hg hk; omega)
        have ht7 := xg_t7 hg hk
        have hor : bt (y ||| ((1 : Int32) <<< ((a_toOf (nI k).toNatClampNeg) &&& 31))) q = true ↔ bt y q = true ∨ q = to k := by
          by_cases hq : q < 32
          · exact bs_or (by omega) (xg_t hg hk) hq
          · rw [b_big (by omega), b_big (by omega)]
            exact ⟨fun z => absurd z (by decide), fun z => z.elim (fun z => absurd z (by decide)) (fun z => by omega)⟩
        rw [hor, hy q]
        constructor
        · intro z
          rcases z with (z | ⟨j, hj, w⟩) | z
          · exact Or.inl z
          · exact Or.inr ⟨j, by omega, w⟩
          · exact Or.inr ⟨k, by omega, ((hr k).mp hb).2, hb2, z.symm⟩
        · intro z
          rcases z with z | ⟨j, hj, q1, q2, q3⟩
          · exact Or.inl (Or.inl z)
          · by_cases e : j = k
            · subst e; exact Or.inr q3.symm
            · exact Or.inl (Or.inr ⟨j, by omega, q1, q2, q3⟩)
    refine br_f (nI_nlt (a := 7) (b := i) (by omega) (by decide)) (pk_eq i 0 (fun e => nm_e (round _ fun q hq => ?_)) (fun e => round x fun q hq => ?_))
    · rw [bs_i (by omega)]
      constructor
      · intro eq
        exact ⟨0, 0, by rw [if_pos e], eq ▸ wk_0 q⟩
      · intro ⟨m, w, hm, hW⟩
        rw [if_pos e] at hm
        subst hm
        exact hW.1.symm
    · rw [hx q]
      constructor
      · intro ⟨_, m, w, h1, h2, hW⟩
        exact ⟨m, w, by rw [if_neg e]; exact ⟨h1, h2⟩, hW⟩
      · intro ⟨m, w, hm, hW⟩
        rw [if_neg e] at hm
        exact ⟨hq, m, w, hm.1, hm.2, hW⟩
theorem xs_onLeastRing (hg : xg_I f_present a_fromOf a_toOf a_weightOf A fr to c) {post : Int32 → SX → Prop} (h : ∀ (x t b : Int32) (d cb : Nat → Int32), ((∀ n e w, 1 ≤ n → ¬ wk_W (ga_G A fr to c) n e e w) ∧ x = 0) ∨ (op_I (ga_G A fr to c) t.toInt b.toInt ∧ ∀ p, bt x p = true ↔ p < 7 ∧ ∃ n w, 1 ≤ n ∧ wk_W (ga_G A fr to c) n p p w ∧ w * b.toInt = t.toInt * n) → post x (f_present, f_heapSize, t, b, a_fromOf, a_toOf, a_weightOf, a_found, a_kept, d, a_isLow, a_times, a_queue, a_queued, a_price, a_heap, a_heapPlace, a_group, a_badGroup, cb, a_table, a_table2, a_byCount)) : wpX_onLeastRing post (f_present, f_heapSize, f_top, f_bottom, a_fromOf, a_toOf, a_weightOf, a_found, a_kept, a_dist, a_isLow, a_times, a_queue, a_queued, a_price, a_heap, a_heapPlace, a_group, a_badGroup, a_cameBy, a_table, a_table2, a_byCount) := by
  have hG := xg_7 hg
  unfold wpX_onLeastRing
  refine xs_meanByRings hg (fun hn t b d cb => br_t rfl (h 0 t b d cb (Or.inl ⟨hn, rfl⟩))) (fun t b d cb hop hb7 ht1 ht2 hpot hrng => br_f (by decide) ?_)
  refine loop_0 (fun n k x => wX_onLeastRing_13 post f_present f_heapSize t b a_fromOf a_toOf a_weightOf a_found a_kept d a_isLow a_times a_queue a_queued a_price a_heap a_heapPlace a_group a_badGroup cb a_table a_table2 a_byCount n x (nI k)) (fun i x => ∀ k, bt x k = true ↔ k < i ∧ ti_A A fr to c t.toInt b.toInt (fun v => (d v).toInt) k) 20 0 tg_0 ?_ ?_
  · intro n r hr
    refine br_t (nI_le (Nat.le_refl 20) (by decide)) ?_
    refine loop_0 (fun n p x => wX_onLeastRing_91 post r f_present f_heapSize t b a_fromOf a_toOf a_weightOf a_found a_kept d a_isLow a_times a_queue a_queued a_price a_heap a_heapPlace a_group a_badGroup cb a_table a_table2 a_byCount n x (nI p)) (fun i x => ∀ p, bt x p = true ↔ p < i ∧ ∃ m w, 1 ≤ m ∧ m ≤ 8 ∧ wk_W (ga_G (ti_A A fr to c t.toInt b.toInt (fun v => (d v).toInt)) fr to c) m p p w) 7 0 tg_0 ?_ ?_
    · intro n x hx
      refine br_t (nI_le (Nat.le_refl 7) (by decide)) (h x t b d cb (Or.inr ⟨hop, fun p => ?_⟩))
      rw [hx p, ti_ring hG hpot]
    · intro n p x hp hx ih
      refine br_f (nI_ge hp (by decide)) ?_
      refine xs_leadsAlong hg hp hr fun y hy => ?_
      refine bs_br p (fun hb => nm_r (bs_or0 x) (nm_r (nI_1 p) (ih x (tg_no hx fun z => hb ((hy p).mpr ⟨hp, z⟩))))) (fun hb => nm_e (nm_r (nI_1 p) (ih _ (tg_or (by omega) hx ((hy p).mp hb).2))))
  · intro n k x hk hx ih
    have ik := vp_in_nI hk (show 20 < 2 ^ 31 by decide)
    have hf7 := xg_f7 hg hk
    have ht7 := xg_t7 hg hk
    have hc := xg_c hg hk
    have hb1 := hop.1
    have hpb := pr_bd (x := c k) (y := b.toInt) (X := 20) (Y := 7) (by omega) (by omega) (by omega) (by omega) (by omega)
    have cf : (nI (fr k)).toNatClampNeg = fr k := nI_clamp (by omega)
    have ct : (nI (to k)).toNatClampNeg = to k := nI_clamp (by omega)
    have hdf := hrng (fr k) hf7
    have m1 : (a_weightOf (nI k).toNatClampNeg * b).toInt = c k * b.toInt := ia_mul (xg_w hg hk) rfl (by omega) (by omega)
    have m2 : (a_weightOf (nI k).toNatClampNeg * b - t).toInt = c k * b.toInt - t.toInt := ia_sub m1 rfl (by omega) (by omega)
    have m3 : (d (fr k) + (a_weightOf (nI k).toNatClampNeg * b - t)).toInt = (d (fr k)).toInt + (c k * b.toInt - t.toInt) := ia_add rfl m2 (by omega) (by omega)
    refine br_f (nI_ge hk (by decide)) (And.intro ik (nm_e ?_))
    refine xs_has hg hk (fun hA => br_f (by decide) ?_) (fun hA => br_t rfl (nm_r (bs_or0 x) (nm_r (nI_1 k) (ih x (tg_no hx fun z => hA z.1)))))
    rw [xg_f hg hk, xg_t hg hk, cf, ct]
    refine And.intro ik (And.intro (vp_in_nI hf7 (by decide)) (And.intro ik (And.intro (vp_in_nI ht7 (by decide)) ?_)))
    exact ib_eq ((d (fr k)).toInt + (c k * b.toInt - t.toInt)) (d (to k)).toInt (fun e => nm_e (nm_r (nI_1 k) (ih _ (tg_or hk hx ⟨hA, e⟩)))) (fun e => nm_r (bs_or0 x) (nm_r (nI_1 k) (ih x (tg_no hx fun z => e z.2)))) m3 rfl
end LX
theorem op_tw {w t b t' b' n : Int} (hb : 1 ≤ b) (hb' : 1 ≤ b') (e : t * b' = t' * b) (h : w * b = t * n) : w * b' = t' * n := by
  have e1 : w * b' * b = t' * n * b := by
    have r1 : w * b' * b = w * b * b' := by rw [Int.mul_assoc, Int.mul_comm b' b, ← Int.mul_assoc]
    have r2 : t' * n * b = t' * b * n := by rw [Int.mul_assoc, Int.mul_comm n b, ← Int.mul_assoc]
    rw [r1, r2, h, ← e, Int.mul_assoc, Int.mul_comm n b', ← Int.mul_assoc]
  exact Int.eq_of_mul_eq_mul_right (by omega) e1
theorem i_vc_onLeastRing {k : Nat} {u : SX} {v : SY} (I : i_Rel k u v) (hk : k + 4 ≤ 2048) : wpX_onLeastRing (fun r u' => wpY_onLeastRing (fun r' v' => r' = r ∧ i_Rel (k + 4) u' v') v) u := by
  obtain ⟨f_present, f_heapSize, f_top, f_bottom, a_fromOf, a_toOf, a_weightOf, a_found, a_kept, a_dist, a_isLow, a_times, a_queue, a_queued, a_price, a_heap, a_heapPlace, a_group, a_badGroup, a_cameBy, a_table, a_table2, a_byCount⟩ := u
  obtain ⟨f_top_1, f_bottom_1, f_ringPoints_1, a_there_1, a_froms_1, a_tos_1, a_weights_1, a_walks_1, a_ways_1⟩ := v
  have R : re_I f_present a_fromOf a_toOf a_weightOf a_there_1 a_froms_1 a_tos_1 a_weights_1 := I
  have hx := re_x R
  have hy := re_y R
  refine xs_onLeastRing hx fun x t b d cb hr => ?_
  unfold wpY_onLeastRing
  refine ys_rings hy fun t' b' rp W hyr => ⟨?_, R⟩
  rcases hyr with ⟨_, hno, hn⟩ | ⟨hop', _, _, _, hrp⟩
  · rcases hr with ⟨_, e⟩ | ⟨⟨_, ⟨n, d, w, q1, q2, _⟩, _⟩, _⟩
    · rw [e]
      exact bs_ext fun i _ => ⟨fun z => absurd z (hno i), fun z => by rw [b_0] at z; exact absurd z (by decide)⟩
    · exact absurd q2 (hn n d w q1)
  · rcases hr with ⟨hn, _⟩ | ⟨hop, hxp⟩
    · obtain ⟨_, ⟨n, d, w, q1, q2, _⟩, _⟩ := hop'
      exact absurd q2 (hn n d w q1)
    · have e := op_u hop hop'
      refine bs_ext fun p _ => ?_
      rw [hrp p, hxp p]
      constructor
      · intro ⟨n, w, q1, q2, q3⟩
        have hp7 : p < 7 := by
          obtain ⟨m, rfl⟩ : ∃ m, n = m + 1 := ⟨n - 1, by omega⟩
          obtain ⟨_, _, _, _, g, _⟩ := q2
          exact (xg_7 hx _ _ _ g).2
        exact ⟨hp7, n, w, q1, q2, op_tw hop'.1 hop.1 e.symm q3⟩
      · intro ⟨_, n, w, q1, q2, q3⟩
        exact ⟨n, w, q1, q2, op_tw hop.1 hop'.1 e q3⟩
end
